section
-- rows pasted from the kit's PURE-ROWS
theorem pk_us {f : Nat → Int32} {k : Nat} {x : Int32} : upd f k x k = x := if_pos rfl
theorem pk_un {f : Nat → Int32} {k j : Nat} {x : Int32} (h : j ≠ k) : upd f k x j = f j := if_neg h
theorem pk_sub {a b : Nat} (h : b ≤ a) : nI a - nI b = nI (a - b) := by
  obtain ⟨c, rfl⟩ : ∃ c, a = c + b := ⟨a - b, by omega⟩
  rw [← nI_add, Int32.add_sub_cancel, Nat.add_sub_cancel]
theorem pk_m1 (n : Nat) : nI (n + 1) + (-1) = nI n := by
  rw [← nI_1, Int32.add_assoc, show (1 : Int32) + (-1) = 0 from rfl, Int32.add_zero]
theorem pk_mul (a b : Nat) : nI a * nI b = nI (a * b) := (Int32.ofNat_mul a b).symm
theorem pk_div {a d : Nat} (ha : a < 2 ^ 31) (h0 : 0 < d) (hd : d < 2 ^ 31) : nI a / nI d = nI (a / d) := by
  apply Int32.toInt_inj.mp
  rw [lg_idiv_nonneg (by rw [nI_toInt ha]; omega) (by rw [nI_toInt hd]; omega), nI_toInt ha, nI_toInt hd, nI_toInt (Nat.lt_of_le_of_lt (Nat.div_le_self a d) ha)]
  first | rfl | exact (Int.natCast_ediv _ _).symm
theorem pk_rem {a d : Nat} (ha : a < 2 ^ 31) (h0 : 0 < d) (hd : d < 2 ^ 31) : nI a - nI a / nI d * nI d = nI (a % d) := by
  rw [pk_div ha h0 hd, pk_mul, pk_sub (Nat.div_mul_le_self a d)]
  exact congrArg nI (by have := Nat.div_add_mod' a d; omega)
theorem pk_sub_toInt {a b : Nat} (ha : a < 2 ^ 30) (hb : b < 2 ^ 30) : (nI a - nI b).toInt = (a : Int) - b := by
  rw [Int32.toInt_sub, nI_toInt (by omega), nI_toInt (by omega)]
  exact Int.bmod_eq_of_le (by omega) (by omega)
theorem pk_sneg {a b : Nat} (hb : b < 2 ^ 30) (h : a < b) : nI a - nI b < 0 := by
  rw [Int32.lt_iff_toInt_lt, pk_sub_toInt (by omega) hb, show (0 : Int32).toInt = 0 from by decide]
  omega
theorem pk_ix (x : Int32) {n : Nat} (hn : n < 2 ^ 31) : x < 0 ∨ nI n ≤ x ∨ ∃ j : Nat, j < n ∧ x = nI j := by
  by_cases h : x < 0
  · exact Or.inl h
  · obtain ⟨j, hj, rfl⟩ := nI_of h
    by_cases h2 : j < n
    · exact Or.inr (Or.inr ⟨j, h2, rfl⟩)
    · exact Or.inr (Or.inl (nI_le (by omega) hj))
theorem pk_le {x y : Int32} {A B : Prop} (a b : Nat) (f : a ≤ b → A) (g : b < a → B) (hx : x = nI a := by rfl) (hy : y = nI b := by rfl) (ha : a < 2 ^ 31 := by omega) (hb : b < 2 ^ 31 := by omega) : (x ≤ y → A) ∧ (¬ x ≤ y → B) := by
  subst hx hy
  rw [nI_leI ha hb]
  exact ⟨f, fun z => g (by omega)⟩
theorem pk_lt {x y : Int32} {A B : Prop} (a b : Nat) (f : a < b → A) (g : b ≤ a → B) (hx : x = nI a := by rfl) (hy : y = nI b := by rfl) (ha : a < 2 ^ 31 := by omega) (hb : b < 2 ^ 31 := by omega) : (x < y → A) ∧ (¬ x < y → B) := by
  subst hx hy
  rw [nI_ltI ha hb]
  exact ⟨f, fun z => g (by omega)⟩
theorem pk_eq {x y : Int32} {A B : Prop} (a b : Nat) (f : a = b → A) (g : a ≠ b → B) (hx : x = nI a := by rfl) (hy : y = nI b := by rfl) (ha : a < 2 ^ 31 := by omega) (hb : b < 2 ^ 31 := by omega) : (x = y → A) ∧ (¬ x = y → B) := by
  subst hx hy
  rw [nI_eq ha hb]
  exact ⟨f, g⟩
theorem pk_in {x : Int32} (n N : Nat) (h : n < N) (hx : x = nI n := by rfl) (hN : N < 2 ^ 31 := by omega) : vp_in x N := by
  subst hx
  exact vp_in_nI h hN
theorem pk_cl {x : Int32} (n : Nat) (hx : x = nI n := by rfl) (h : n < 2 ^ 31 := by omega) : x.toNatClampNeg = n := by
  subst hx
  exact nI_clamp h
theorem pk_least (P : Nat → Prop) (h : ∃ k, P k) : ∃ k, P k ∧ ∀ j, j < k → ¬ P j := by
  obtain ⟨k, hk⟩ := h
  induction k using Nat.strongRecOn with
  | ind k ih =>
    by_cases e : ∃ j, j < k ∧ P j
    · obtain ⟨j, hj, pj⟩ := e
      exact ih j hj pj
    · exact ⟨k, hk, fun j hj pj => e ⟨j, hj, pj⟩⟩
end
section
/-! capped lengths: cap, sum, least, and what a value stands for -/
def wc_cap (n : Nat) : Nat := if n ≤ 256 then n else 256
def wc_pl (B a b : Nat) : Nat := if B ≤ a then B else if b < B then (if a + b ≤ 256 then a + b else 256) else B
def wc_Rp (B v : Nat) (P : Nat → Prop) : Prop := (v ≤ 256 ∨ v = B) ∧ (∀ n, P n → v ≤ wc_cap n) ∧ (v ≤ 256 → ∃ n, P n ∧ wc_cap n ≤ v)
def wc_mn (B : Nat) (f : Nat → Nat) : Nat → Nat
  | 0 => B
  | n + 1 => if wc_mn B f n ≤ f n then wc_mn B f n else f n
theorem wc_cap_le (n : Nat) : wc_cap n ≤ 256 := by unfold wc_cap; split <;> omega
theorem wc_cap_sm {n : Nat} (h : n ≤ 256) : wc_cap n = n := by unfold wc_cap; split <;> omega
theorem wc_cap_df (n : Nat) : (n ≤ 256 ∧ wc_cap n = n) ∨ (256 < n ∧ wc_cap n = 256) := by
  by_cases h : n ≤ 256
  · exact Or.inl ⟨h, if_pos h⟩
  · exact Or.inr ⟨by omega, if_neg h⟩
theorem wc_pl_cap {B : Nat} (hB : 256 < B) (i j : Nat) : wc_pl B (wc_cap i) (wc_cap j) = wc_cap (i + j) := by
  have hi := wc_cap_df i
  have hj := wc_cap_df j
  have hij := wc_cap_df (i + j)
  unfold wc_pl
  rw [if_neg (by omega), if_pos (by omega)]
  split <;> omega
theorem wc_pl_mono {B a b a' b' : Nat} (hB : 256 < B) (ha : a ≤ a') (hb : b ≤ b') : wc_pl B a b ≤ wc_pl B a' b' := by
  unfold wc_pl
  by_cases h1 : B ≤ a'
  · rw [if_pos h1]; split
    · omega
    · split
      · split <;> omega
      · omega
  · rw [if_neg h1, if_neg (show ¬ B ≤ a by omega)]
    by_cases h2 : b' < B
    · rw [if_pos h2, if_pos (show b < B by omega)]; split <;> split <;> omega
    · rw [if_neg h2]; split
      · split <;> omega
      · omega
theorem wc_pl_rg {B a b : Nat} (hB : 256 < B) : wc_pl B a b ≤ 256 ∨ wc_pl B a b = B := by
  unfold wc_pl
  split
  · exact Or.inr rfl
  · split
    · split
      · left; omega
      · left; omega
    · exact Or.inr rfl
theorem wc_pl_ge {B a b : Nat} (hB : 256 < B) (ha : a ≤ 256 ∨ a = B) : a ≤ wc_pl B a b := by
  unfold wc_pl
  split
  · omega
  · split
    · split <;> omega
    · omega
theorem wc_pl_ge2 {B a b : Nat} (hB : 256 < B) (hb : b ≤ 256 ∨ b = B) : b ≤ wc_pl B a b := by
  unfold wc_pl
  split
  · omega
  · split
    · split <;> omega
    · omega
theorem wc_pl_lt {B a b : Nat} (hB : 256 < B) (h : wc_pl B a b < 256) : a + b = wc_pl B a b := by
  unfold wc_pl at *
  split at h
  · omega
  · split at h
    · split at h
      · rw [if_neg (by omega), if_pos (by omega), if_pos (by omega)]
      · omega
    · omega
theorem wc_pl_fin {B a b : Nat} (hB : 256 < B) (h : wc_pl B a b ≤ 256) : a < B ∧ b < B := by
  unfold wc_pl at h
  split at h
  · omega
  · split at h
    · omega
    · omega
theorem wc_pl_B {B b : Nat} : wc_pl B B b = B := by unfold wc_pl; rw [if_pos (Nat.le_refl B)]
theorem wc_Rp_iff {B v : Nat} {P Q : Nat → Prop} (h : ∀ n, P n ↔ Q n) (r : wc_Rp B v P) : wc_Rp B v Q :=
  ⟨r.1, fun n q => r.2.1 n ((h n).mpr q), fun hv => by
    obtain ⟨n, p, c⟩ := r.2.2 hv
    exact ⟨n, (h n).mp p, c⟩⟩
theorem wc_Rp_no {B : Nat} {P : Nat → Prop} (hB : 256 < B) (h : ∀ n, ¬ P n) : wc_Rp B B P :=
  ⟨Or.inr rfl, fun n p => absurd p (h n), fun z => by omega⟩
theorem wc_Rp_0 {B : Nat} {P : Nat → Prop} (h : P 0) : wc_Rp B 0 P :=
  ⟨Or.inl (by omega), fun n _ => Nat.zero_le _, fun _ => ⟨0, h, Nat.le_of_eq (wc_cap_sm (by omega))⟩⟩
theorem wc_Rp_pl {B a b : Nat} {P Q : Nat → Prop} (hB : 256 < B) (p : wc_Rp B a P) (q : wc_Rp B b Q) : wc_Rp B (wc_pl B a b) (fun n => ∃ i j, P i ∧ Q j ∧ n = i + j) := by
  refine ⟨wc_pl_rg hB, ?_, ?_⟩
  · rintro n ⟨i, j, hi, hj, rfl⟩
    rw [← wc_pl_cap hB]
    exact wc_pl_mono hB (p.2.1 i hi) (q.2.1 j hj)
  · intro hv
    have hf := wc_pl_fin hB hv
    have ha : a ≤ 256 := by have := p.1; omega
    have hb : b ≤ 256 := by have := q.1; omega
    obtain ⟨i, hi, ci⟩ := p.2.2 ha
    obtain ⟨j, hj, cj⟩ := q.2.2 hb
    refine ⟨i + j, ⟨i, j, hi, hj, rfl⟩, ?_⟩
    rw [← wc_pl_cap hB]
    exact wc_pl_mono hB ci cj
theorem wc_mn_B (B : Nat) (f : Nat → Nat) : ∀ n, wc_mn B f n ≤ B
  | 0 => Nat.le_refl B
  | n + 1 => by
    have ih := wc_mn_B B f n
    unfold wc_mn
    split <;> omega
theorem wc_mn_le (B : Nat) (f : Nat → Nat) : ∀ n i, i < n → wc_mn B f n ≤ f i
  | 0, i, h => absurd h (Nat.not_lt_zero i)
  | n + 1, i, h => by
    unfold wc_mn
    by_cases hi : i = n
    · subst hi; split <;> omega
    · have ih := wc_mn_le B f n i (by omega)
      split <;> omega
theorem wc_mn_or (B : Nat) (f : Nat → Nat) : ∀ n, wc_mn B f n = B ∨ ∃ i, i < n ∧ wc_mn B f n = f i
  | 0 => Or.inl rfl
  | n + 1 => by
    unfold wc_mn
    split
    · rcases wc_mn_or B f n with h | ⟨i, hi, h⟩
      · exact Or.inl h
      · exact Or.inr ⟨i, by omega, h⟩
    · exact Or.inr ⟨n, by omega, rfl⟩
theorem wc_mn_cg (B : Nat) {f g : Nat → Nat} : ∀ n, (∀ i, i < n → f i = g i) → wc_mn B f n = wc_mn B g n
  | 0, _ => rfl
  | n + 1, h => by
    unfold wc_mn
    rw [wc_mn_cg B n (fun i hi => h i (by omega)), h n (by omega)]
theorem wc_Rp_mn {B : Nat} {f : Nat → Nat} {P : Nat → Nat → Prop} {n : Nat} (hB : 256 < B) (h : ∀ i, i < n → wc_Rp B (f i) (P i)) : wc_Rp B (wc_mn B f n) (fun k => ∃ i, i < n ∧ P i k) := by
  refine ⟨?_, ?_, ?_⟩
  · rcases wc_mn_or B f n with e | ⟨i, hi, e⟩
    · exact Or.inr e
    · rw [e]; exact (h i hi).1
  · rintro k ⟨i, hi, p⟩
    exact Nat.le_trans (wc_mn_le B f n i hi) ((h i hi).2.1 k p)
  · intro hv
    rcases wc_mn_or B f n with e | ⟨i, hi, e⟩
    · omega
    · rw [e] at hv ⊢
      obtain ⟨k, p, c⟩ := (h i hi).2.2 hv
      exact ⟨k, ⟨i, hi, p⟩, c⟩
theorem wc_uq {B B' v w : Nat} {P : Nat → Prop} (hB : 256 < B) (hB' : 256 < B') (p : wc_Rp B v P) (q : wc_Rp B' w P) : (v ≤ 256 ∧ w = v) ∨ (v = B ∧ w = B') := by
  by_cases hv : v ≤ 256
  · obtain ⟨n, hn, cn⟩ := p.2.2 hv
    have h1 := q.2.1 n hn
    have h2 := wc_cap_le n
    obtain ⟨m, hm, cm⟩ := q.2.2 (by omega)
    have h3 := p.2.1 m hm
    exact Or.inl ⟨hv, by omega⟩
  · have e : v = B := by have := p.1; omega
    refine Or.inr ⟨e, ?_⟩
    rcases q.1 with hw | hw
    · obtain ⟨m, hm, cm⟩ := q.2.2 hw
      have h3 := p.2.1 m hm
      have h2 := wc_cap_le m
      omega
    · exact hw
/-- k is the least number of P -/
def wc_Ls (P : Nat → Prop) (k : Nat) : Prop := P k ∧ ∀ n, P n → k ≤ n
theorem wc_Ls_iff {B v k : Nat} {P : Nat → Prop} (hB : 256 < B) (hk : k < 256) (p : wc_Rp B v P) : v = k ↔ wc_Ls P k := by
  constructor
  · rintro rfl
    obtain ⟨n, hn, cn⟩ := p.2.2 (by omega)
    have h1 := p.2.1 n hn
    have e : n = v := by have := wc_cap_df n; omega
    subst e
    refine ⟨hn, fun m hm => ?_⟩
    have := p.2.1 m hm
    have := wc_cap_df m
    omega
  · rintro ⟨hp, hl⟩
    have h1 := p.2.1 k hp
    rw [wc_cap_sm (by omega)] at h1
    obtain ⟨n, hn, cn⟩ := p.2.2 (by omega)
    have h2 := hl n hn
    have := wc_cap_df n
    omega
theorem wc_fin_iff {B v : Nat} {P : Nat → Prop} (hB : 256 < B) (p : wc_Rp B v P) : v < B ↔ ∃ n, P n := by
  constructor
  · intro h
    obtain ⟨n, hn, _⟩ := p.2.2 (by have := p.1; omega)
    exact ⟨n, hn⟩
  · rintro ⟨n, hn⟩
    have h1 := p.2.1 n hn
    have h2 := wc_cap_le n
    omega
end
section
/-! saturation by rounds: derivations, the state of a round, its end, the count of rounds -/
abbrev sa_C : Type := Nat × Nat × Nat
def sa_iv (B : Nat) (W : sa_C → Nat) : List sa_C → Nat → Nat
  | [], k => k
  | [y], k => wc_pl B (W y) k
  | [y, z], k => wc_pl B (wc_pl B (W y) (W z)) k
  | _ :: _ :: _ :: _, _ => B
def sa_Drv (Ins : sa_C → List sa_C → Nat → Prop) (c : sa_C) (n : Nat) : Prop :=
  ∀ S : sa_C → Nat → Prop, (∀ x k, Ins x [] k → S x k) → (∀ x y k n, Ins x [y] k → S y n → S x (n + k)) → (∀ x y z k n m, Ins x [y, z] k → S y n → S z m → S x (n + m + k)) → S c n
theorem sa_d0 {Ins : sa_C → List sa_C → Nat → Prop} {x : sa_C} {k : Nat} (h : Ins x [] k) : sa_Drv Ins x k := fun _ h0 _ _ => h0 x k h
theorem sa_d1 {Ins : sa_C → List sa_C → Nat → Prop} {x y : sa_C} {k n : Nat} (h : Ins x [y] k) (d : sa_Drv Ins y n) : sa_Drv Ins x (n + k) := fun S h0 h1 h2 => h1 x y k n h (d S h0 h1 h2)
theorem sa_d2 {Ins : sa_C → List sa_C → Nat → Prop} {x y z : sa_C} {k n m : Nat} (h : Ins x [y, z] k) (d : sa_Drv Ins y n) (e : sa_Drv Ins z m) : sa_Drv Ins x (n + m + k) := fun S h0 h1 h2 => h2 x y z k n m h (d S h0 h1 h2) (e S h0 h1 h2)
def sa_OK (Ins : sa_C → List sa_C → Nat → Prop) (Wr : sa_C → Prop) : Prop := ∀ x ys k, Ins x ys k → k ≤ 1 ∧ (ys = [] ∨ (k = 1 ∧ ys.length ≤ 2)) ∧ (Wr x ∨ (ys = [] ∧ k = 0))
def sa_Rg (B : Nat) (W : sa_C → Nat) : Prop := ∀ c, W c ≤ 256 ∨ W c = B
def sa_Sd (Ins : sa_C → List sa_C → Nat → Prop) (W : sa_C → Nat) : Prop := ∀ c, W c ≤ 256 → ∃ n, sa_Drv Ins c n ∧ wc_cap n ≤ W c
theorem sa_ivR {B : Nat} {W : sa_C → Nat} (hB : 256 < B) : ∀ {ys : List sa_C} {k : Nat}, k ≤ 1 → sa_iv B W ys k ≤ 256 ∨ sa_iv B W ys k = B
  | [], k, h => Or.inl (show k ≤ 256 by omega)
  | [_], _, _ => wc_pl_rg hB
  | [_, _], _, _ => wc_pl_rg hB
  | _ :: _ :: _ :: _, _, _ => Or.inr rfl
theorem sa_str {B : Nat} {W : sa_C → Nat} (hB : 256 < B) : ∀ {ys : List sa_C} {y : sa_C}, y ∈ ys → sa_iv B W ys 1 < 256 → W y < sa_iv B W ys 1
  | [], y, h, _ => absurd h (List.not_mem_nil)
  | [a], y, h, hv => by
    have e : y = a := List.mem_singleton.mp h
    subst e
    have := wc_pl_lt hB (show wc_pl B (W y) 1 < 256 from hv)
    show W y < wc_pl B (W y) 1
    omega
  | [a, b], y, h, hv => by
    have h1 := wc_pl_lt hB (show wc_pl B (wc_pl B (W a) (W b)) 1 < 256 from hv)
    have hv' : wc_pl B (wc_pl B (W a) (W b)) 1 < 256 := hv
    have h2 := wc_pl_lt hB (show wc_pl B (W a) (W b) < 256 by omega)
    show W y < wc_pl B (wc_pl B (W a) (W b)) 1
    rcases List.mem_cons.mp h with e | e
    · subst e; omega
    · have e' : y = b := List.mem_singleton.mp e
      subst e'; omega
  | _ :: _ :: _ :: _, y, _, hv => by
    have : B < 256 := hv
    omega
theorem sa_cng {B : Nat} {W W' : sa_C → Nat} : ∀ {ys : List sa_C} {k : Nat}, (∀ y, y ∈ ys → W y = W' y) → sa_iv B W ys k = sa_iv B W' ys k
  | [], _, _ => rfl
  | [a], k, h => by
    show wc_pl B (W a) k = wc_pl B (W' a) k
    rw [h a (by simp)]
  | [a, b], k, h => by
    show wc_pl B (wc_pl B (W a) (W b)) k = wc_pl B (wc_pl B (W' a) (W' b)) k
    rw [h a (by simp), h b (by simp)]
  | _ :: _ :: _ :: _, _, _ => rfl
theorem sa_snd {B : Nat} {W : sa_C → Nat} {Ins : sa_C → List sa_C → Nat → Prop} (hB : 256 < B) (hR : sa_Rg B W) (hS : sa_Sd Ins W) : ∀ {ys : List sa_C} {x : sa_C} {k : Nat}, k ≤ 1 → Ins x ys k → sa_iv B W ys k ≤ 256 → ∃ n, sa_Drv Ins x n ∧ wc_cap n ≤ sa_iv B W ys k
  | [], x, k, hk, h, _ => ⟨k, sa_d0 h, Nat.le_of_eq (wc_cap_sm (by omega))⟩
  | [a], x, k, hk, h, hv => by
    have hf := wc_pl_fin hB (show wc_pl B (W a) k ≤ 256 from hv)
    obtain ⟨n, d, c⟩ := hS a (by have := hR a; omega)
    refine ⟨n + k, sa_d1 h d, ?_⟩
    rw [← wc_pl_cap hB]
    exact wc_pl_mono hB c (Nat.le_of_eq (wc_cap_sm (by omega)))
  | [a, b], x, k, hk, h, hv => by
    have hf := wc_pl_fin hB (show wc_pl B (wc_pl B (W a) (W b)) k ≤ 256 from hv)
    have hg : wc_pl B (W a) (W b) ≤ 256 := by have := @wc_pl_rg B (W a) (W b) hB; omega
    have hf2 := wc_pl_fin hB hg
    obtain ⟨n, d, c⟩ := hS a (by have := hR a; omega)
    obtain ⟨m, e, c2⟩ := hS b (by have := hR b; omega)
    refine ⟨n + m + k, sa_d2 h d e, ?_⟩
    rw [← wc_pl_cap hB, ← wc_pl_cap hB]
    exact wc_pl_mono hB (wc_pl_mono hB c c2) (Nat.le_of_eq (wc_cap_sm (by omega)))
  | _ :: _ :: _ :: _, x, k, hk, h, hv => by
    have : B ≤ 256 := hv
    omega
def sa_cu (W : sa_C → Nat) (c : sa_C) (v : Nat) : sa_C → Nat := fun c' => if c' = c then v else W c'
theorem sa_cu_s {W : sa_C → Nat} {c : sa_C} {v : Nat} : sa_cu W c v c = v := if_pos rfl
theorem sa_cu_n {W : sa_C → Nat} {c c' : sa_C} {v : Nat} (h : c' ≠ c) : sa_cu W c v c' = W c' := if_neg h
/-- settled below k -/
def sa_St (B : Nat) (Ins : sa_C → List sa_C → Nat → Prop) (k : Nat) (W : sa_C → Nat) : Prop := ∀ x ys j, Ins x ys j → sa_iv B W ys j < k → W x ≤ sa_iv B W ys j
/-- within a round: begun at W0, settled below k; D is done -/
def sa_RI (B : Nat) (Wr : sa_C → Prop) (Ins : sa_C → List sa_C → Nat → Prop) (W0 : sa_C → Nat) (k : Nat) (D : sa_C → List sa_C → Nat → Prop) (W : sa_C → Nat) (ch : Bool) : Prop :=
  sa_Rg B W ∧ sa_Sd Ins W ∧ (∀ c, W c ≤ W0 c) ∧ (∀ c, W c = W0 c ∨ (k ≤ W c ∧ Wr c)) ∧
  (∀ x ys j, D x ys j → Ins x ys j ∧ (sa_iv B W ys j ≤ k → sa_iv B W ys j < 256 → W x ≤ sa_iv B W ys j)) ∧
  (ch = false → W = W0 ∧ ∀ x ys j, D x ys j → W x ≤ sa_iv B W ys j) ∧ (ch = true → ∃ c, W c < W0 c)
theorem sa_mono {B : Nat} {Wr : sa_C → Prop} {Ins : sa_C → List sa_C → Nat → Prop} {W0 : sa_C → Nat} {k : Nat} {D D' : sa_C → List sa_C → Nat → Prop} {W : sa_C → Nat} {ch : Bool} (h : ∀ x ys j, D' x ys j → D x ys j) (R : sa_RI B Wr Ins W0 k D W ch) : sa_RI B Wr Ins W0 k D' W ch := by
  obtain ⟨r1, r2, r3, r4, r5, r6, r7⟩ := R
  exact ⟨r1, r2, r3, r4, fun x ys j d => r5 x ys j (h x ys j d), fun e => ⟨(r6 e).1, fun x ys j d => (r6 e).2 x ys j (h x ys j d)⟩, r7⟩
theorem sa_opk {B : Nat} {Wr : sa_C → Prop} {Ins : sa_C → List sa_C → Nat → Prop} {W0 : sa_C → Nat} {k : Nat} {D E : sa_C → List sa_C → Nat → Prop} {W : sa_C → Nat} {ch : Bool} {x : sa_C} {v : Nat} (R : sa_RI B Wr Ins W0 k D W ch) (hv : W x ≤ v) (hE : ∀ x' ys j, E x' ys j → x' = x ∧ Ins x' ys j ∧ v ≤ sa_iv B W ys j) : sa_RI B Wr Ins W0 k (fun a b c => D a b c ∨ E a b c) W ch := by
  obtain ⟨r1, r2, r3, r4, r5, r6, r7⟩ := R
  refine ⟨r1, r2, r3, r4, ?_, ?_, r7⟩
  · rintro x' ys j (d | e)
    · exact r5 x' ys j d
    · obtain ⟨rfl, hi, hl⟩ := hE x' ys j e
      exact ⟨hi, fun _ _ => Nat.le_trans hv hl⟩
  · intro e0
    refine ⟨(r6 e0).1, ?_⟩
    rintro x' ys j (d | e)
    · exact (r6 e0).2 x' ys j d
    · obtain ⟨rfl, _, hl⟩ := hE x' ys j e
      exact Nat.le_trans hv hl
theorem sa_opw {B : Nat} {Wr : sa_C → Prop} {Ins : sa_C → List sa_C → Nat → Prop} {W0 : sa_C → Nat} {k : Nat} {D E : sa_C → List sa_C → Nat → Prop} {W : sa_C → Nat} {ch : Bool} {x : sa_C} {v : Nat} (hB : 256 < B) (hI : sa_OK Ins Wr) (hk : k ≤ 256) (hs : sa_St B Ins k W0) (R : sa_RI B Wr Ins W0 k D W ch) (hv : v < W x) (hw : Wr x) (hi : ∃ ys j, Ins x ys j ∧ v = sa_iv B W ys j) (hE : ∀ x' ys j, E x' ys j → x' = x ∧ Ins x' ys j ∧ v ≤ sa_iv B W ys j) : sa_RI B Wr Ins W0 k (fun a b c => D a b c ∨ E a b c) (sa_cu W x v) true := by
  obtain ⟨r1, r2, r3, r4, r5, r6, r7⟩ := R
  obtain ⟨zs, i, hin, hvi⟩ := hi
  have hi1 := (hI x zs i hin).1
  have hv256 : v ≤ 256 := by
    have h1 := @sa_ivR B W hB zs i hi1
    have h2 := r1 x
    omega
  have hle : ∀ c, sa_cu W x v c ≤ W c := by
    intro c
    by_cases e : c = x
    · subst e; rw [sa_cu_s]; omega
    · rw [sa_cu_n e]; exact Nat.le_refl _
  have hkv : k ≤ v := by
    by_cases hlt : k ≤ v
    · exact hlt
    · exfalso
      have hsame : ∀ y, y ∈ zs → W y = W0 y := by
        intro y hy
        rcases r4 y with h | ⟨h, _⟩
        · exact h
        · exfalso
          rcases (hI x zs i hin).2.1 with h0 | ⟨h1, _⟩
          · rw [h0] at hy; exact absurd hy List.not_mem_nil
          · subst h1
            by_cases h3 : sa_iv B W zs 1 < 256
            · have := sa_str hB hy h3; omega
            · have h4 := r1 x
              have h5 := r1 y
              omega
      have e := @sa_cng B W W0 zs i hsame
      have h1 := hs x zs i hin (by omega)
      have h2 := r3 x
      omega
  have hsm : ∀ (ys : List sa_C) (j : Nat) (x' : sa_C), Ins x' ys j → sa_iv B (sa_cu W x v) ys j ≤ k → sa_iv B (sa_cu W x v) ys j < 256 → sa_iv B (sa_cu W x v) ys j = sa_iv B W ys j := by
    intro ys j x' hin' h1 h2
    apply sa_cng
    intro y hy
    by_cases e : y = x
    · exfalso
      subst e
      rcases (hI x' ys j hin').2.1 with h0 | ⟨h3, _⟩
      · rw [h0] at hy; exact absurd hy List.not_mem_nil
      · subst h3
        have := sa_str hB hy h2
        rw [sa_cu_s] at this
        omega
    · exact sa_cu_n e
  refine ⟨?_, ?_, fun c => Nat.le_trans (hle c) (r3 c), ?_, ?_, fun z => by simp at z, fun _ => ⟨x, ?_⟩⟩
  · intro c
    by_cases e : c = x
    · subst e; rw [sa_cu_s]; exact Or.inl hv256
    · rw [sa_cu_n e]; exact r1 c
  · intro c
    by_cases e : c = x
    · subst e; rw [sa_cu_s]; intro _
      rw [hvi]
      exact sa_snd hB r1 r2 hi1 hin (by omega)
    · rw [sa_cu_n e]; exact r2 c
  · intro c
    by_cases e : c = x
    · subst e; rw [sa_cu_s]; exact Or.inr ⟨hkv, hw⟩
    · rw [sa_cu_n e]; exact r4 c
  · rintro x' ys j (d | e)
    · obtain ⟨hin', hd⟩ := r5 x' ys j d
      refine ⟨hin', fun h1 h2 => ?_⟩
      have e := hsm ys j x' hin' h1 h2
      rw [e] at h1 h2 ⊢
      exact Nat.le_trans (hle x') (hd h1 h2)
    · obtain ⟨rfl, hin', hl⟩ := hE x' ys j e
      refine ⟨hin', fun h1 h2 => ?_⟩
      rw [hsm ys j x' hin' h1 h2, sa_cu_s]
      exact hl
  · rw [sa_cu_s]; have := r3 x; omega
/-- the count of cells without a value -/
def sa_cn (B : Nat) (W : sa_C → Nat) : List sa_C → Nat
  | [] => 0
  | c :: l => (if W c = B then 1 else 0) + sa_cn B W l
theorem sa_cn_len (B : Nat) (W : sa_C → Nat) : ∀ l, sa_cn B W l ≤ l.length
  | [] => Nat.le_refl 0
  | c :: l => by
    have := sa_cn_len B W l
    simp only [sa_cn, List.length_cons]
    split <;> omega
theorem sa_cn_le {B : Nat} {W W0 : sa_C → Nat} (h : ∀ c, W c = B → W0 c = B) : ∀ l, sa_cn B W l ≤ sa_cn B W0 l
  | [] => Nat.le_refl 0
  | c :: l => by
    have ih := sa_cn_le h l
    simp only [sa_cn]
    by_cases e : W c = B
    · rw [if_pos e, if_pos (h c e)]; omega
    · rw [if_neg e]; omega
theorem sa_cn_lt {B : Nat} {W W0 : sa_C → Nat} (h : ∀ c, W c = B → W0 c = B) {c : sa_C} (h0 : W0 c = B) (h1 : W c ≠ B) : ∀ l, c ∈ l → sa_cn B W l < sa_cn B W0 l
  | [], hc => absurd hc List.not_mem_nil
  | d :: l, hc => by
    simp only [sa_cn]
    rcases List.mem_cons.mp hc with e | e
    · subst e
      have := sa_cn_le h l
      rw [if_neg h1, if_pos h0]; omega
    · have ih := sa_cn_lt h h0 h1 l e
      by_cases e2 : W d = B
      · rw [if_pos e2, if_pos (h d e2)]; omega
      · rw [if_neg e2]; omega
/-- between rounds: what is loaded stays 0; a measure that each changing round lowers -/
def sa_BI (B : Nat) (Ins : sa_C → List sa_C → Nat → Prop) (Ld : sa_C → Prop) (cells : List sa_C) (W : sa_C → Nat) (m : Nat) : Prop :=
  sa_Rg B W ∧ sa_Sd Ins W ∧ (∀ c, Ld c → W c = 0) ∧ ∃ k, k ≤ 256 ∧ sa_St B Ins k W ∧ (256 - k) + sa_cn B W cells ≤ m
/-- done -/
def sa_Fx (B : Nat) (Ins : sa_C → List sa_C → Nat → Prop) (W : sa_C → Nat) : Prop := ∀ c, wc_Rp B (W c) (sa_Drv Ins c)
def sa_LD (Ld : sa_C → Prop) (x : sa_C) (ys : List sa_C) (j : Nat) : Prop := ys = [] ∧ j = 0 ∧ Ld x
theorem sa_begin {B : Nat} {Wr : sa_C → Prop} {Ins : sa_C → List sa_C → Nat → Prop} {Ld : sa_C → Prop} {W : sa_C → Nat} {k : Nat} (hL : ∀ c, Ld c → Ins c [] 0) (h1 : sa_Rg B W) (h2 : sa_Sd Ins W) (h3 : ∀ c, Ld c → W c = 0) : sa_RI B Wr Ins W k (sa_LD Ld) W false := by
  refine ⟨h1, h2, fun c => Nat.le_refl _, fun c => Or.inl rfl, ?_, fun _ => ⟨rfl, ?_⟩, fun z => by simp at z⟩
  · rintro x ys j ⟨rfl, rfl, hl⟩
    exact ⟨hL x hl, fun _ _ => by rw [h3 x hl]; exact Nat.zero_le _⟩
  · rintro x ys j ⟨rfl, rfl, hl⟩
    rw [h3 x hl]; exact Nat.zero_le _
theorem sa_fix {B : Nat} {Wr : sa_C → Prop} {Ins : sa_C → List sa_C → Nat → Prop} {W : sa_C → Nat} (hB : 256 < B) (hI : sa_OK Ins Wr) (h1 : sa_Rg B W) (h2 : sa_Sd Ins W) (h3 : ∀ x ys j, Ins x ys j → W x ≤ sa_iv B W ys j) : sa_Fx B Ins W := by
  intro c
  refine ⟨h1 c, ?_, h2 c⟩
  intro n d
  refine d (fun c n => W c ≤ wc_cap n) ?_ ?_ ?_
  · intro x k h
    have := h3 x [] k h
    rw [wc_cap_sm (by have := (hI x [] k h).1; omega)]
    exact this
  · intro x y k n h hy
    have hk := (hI x [y] k h).1
    refine Nat.le_trans (h3 x [y] k h) ?_
    rw [← wc_pl_cap hB]
    exact wc_pl_mono hB hy (Nat.le_of_eq (wc_cap_sm (by omega)).symm)
  · intro x y z k n m h hy hz
    have hk := (hI x [y, z] k h).1
    refine Nat.le_trans (h3 x [y, z] k h) ?_
    rw [← wc_pl_cap hB, ← wc_pl_cap hB]
    exact wc_pl_mono hB (wc_pl_mono hB hy hz) (Nat.le_of_eq (wc_cap_sm (by omega)).symm)
/-- the end of a round -/
theorem sa_end {B : Nat} {Wr : sa_C → Prop} {Ins : sa_C → List sa_C → Nat → Prop} {Ld : sa_C → Prop} {cells : List sa_C} {W0 W : sa_C → Nat} {k m : Nat} {ch : Bool} (hB : 256 < B) (hI : sa_OK Ins Wr) (hC : ∀ c, Wr c → c ∈ cells) (hk : k ≤ 256) (hm : (256 - k) + sa_cn B W0 cells ≤ m) (h0 : sa_Rg B W0) (hL : ∀ c, Ld c → W0 c = 0) (R : sa_RI B Wr Ins W0 k Ins W ch) : (ch = false → sa_Fx B Ins W) ∧ (ch = true → 0 < m ∧ sa_BI B Ins Ld cells W (m - 1)) := by
  obtain ⟨r1, r2, r3, r4, r5, r6, r7⟩ := R
  constructor
  · intro e
    exact sa_fix hB hI r1 r2 (r6 e).2
  · intro e
    have hmB : ∀ c, W c = B → W0 c = B := by
      intro c hc
      have := r3 c
      have := h0 c
      omega
    have hle := sa_cn_le hmB cells
    by_cases hk2 : k < 256
    · refine ⟨by omega, r1, r2, fun c hc => by have := r3 c; have := hL c hc; omega, k + 1, by omega, ?_, by omega⟩
      intro x ys j hin hlt
      exact (r5 x ys j hin).2 (by omega) (by omega)
    · have hk3 : k = 256 := by omega
      subst hk3
      obtain ⟨c, hc⟩ := r7 e
      have hlt : sa_cn B W cells < sa_cn B W0 cells := by
        rcases r4 c with h | ⟨h, hw⟩
        · omega
        · exact sa_cn_lt hmB (c := c) (by have := h0 c; omega) (by have := h0 c; omega) cells (hC c hw)
      refine ⟨by omega, r1, r2, fun c hc => by have := r3 c; have := hL c hc; omega, 256, by omega, ?_, by omega⟩
      intro x ys j hin hlt
      exact (r5 x ys j hin).2 (by omega) (by omega)
end
section
/-! the system: rules T, edges E, finals F; runs; derivations of X and Y, both ways -/
abbrev sy_T : Type := Nat → Option (Nat × Nat × Nat × List Nat)
abbrev sy_E : Type := Nat → Nat → Nat → Bool
abbrev sy_F : Type := Nat → Bool
def sy_Acc (E : sy_E) (F : sy_F) : List Nat → Nat → Prop
  | [], s => F s = true
  | a :: w, s => ∃ m, E s a m = true ∧ sy_Acc E F w m
def sy_To (T : sy_T) (E : sy_E) (F : sy_F) : Nat → Nat → List Nat → Prop
  | 0, p, w => sy_Acc E F w p
  | n + 1, p, w => ∃ r g q u v, T r = some (p, g, q, u) ∧ w = g :: v ∧ sy_To T E F n q (u ++ v)
def sy_Fr (T : sy_T) (E : sy_E) (F : sy_F) : Nat → Nat → List Nat → Prop
  | 0, p, w => sy_Acc E F w p
  | n + 1, q, w => ∃ r p g u v, T r = some (p, g, q, u) ∧ w = u ++ v ∧ sy_Fr T E F n p (g :: v)
def sy_wd (nG : Nat) (u : List Nat) : Prop := u = [] ∨ (∃ a, u = [a] ∧ 1 ≤ a ∧ a ≤ nG) ∨ (∃ a b, u = [a, b] ∧ 1 ≤ a ∧ a ≤ nG ∧ 1 ≤ b ∧ b ≤ nG)
def sy_ok (nS nG nN nR : Nat) (T : sy_T) (E : sy_E) (F : sy_F) : Prop :=
  (∀ r p g q u, T r = some (p, g, q, u) → r < nR ∧ p < nS ∧ 1 ≤ g ∧ g ≤ nG ∧ q < nS ∧ sy_wd nG u) ∧
  (∀ f g t, E f g t = true → f < nN ∧ 1 ≤ g ∧ g ≤ nG ∧ nS ≤ t ∧ t < nN) ∧ (∀ f, F f = true → f < nN) ∧
  1 ≤ nS ∧ nS ≤ 4 ∧ 1 ≤ nG ∧ nG ≤ 4 ∧ nS < nN ∧ nN ≤ 8 ∧ 1 ≤ nR ∧ nR ≤ 12
def sy_IM (tb mb x a y : Nat) (u : List Nat) (j : Nat) (c : sa_C) (ys : List sa_C) (j' : Nat) : Prop :=
  j' = j ∧ ((u = [] ∧ c = (x, a, y) ∧ ys = []) ∨ (∃ b t, u = [b] ∧ t < tb ∧ c = (x, a, t) ∧ ys = [(y, b, t)]) ∨ (∃ b b' t m, u = [b, b'] ∧ t < tb ∧ m < mb ∧ c = (x, a, t) ∧ ys = [(y, b, m), (m, b', t)]))
def sy_mid (q a : Nat) : Nat := 8 + q * 4 + a - 1
def sy_src (q : Nat) (u : List Nat) : Nat := match u with
  | [a, _] => sy_mid q a
  | _ => q
def sy_lab (u : List Nat) : Nat := match u with
  | [] => 0
  | [a] => a
  | [_, b] => b
  | _ => 0
def sy_XTr (nN : Nat) (T : sy_T) (r : Nat) (c : sa_C) (ys : List sa_C) (j : Nat) : Prop := ∃ p g q u, T r = some (p, g, q, u) ∧ sy_IM nN 24 p g q u 1 c ys j
def sy_XFr (T : sy_T) (r : Nat) (c : sa_C) (ys : List sa_C) (j : Nat) : Prop := ∃ p g q u, T r = some (p, g, q, u) ∧ (sy_IM 24 24 (sy_src q u) (sy_lab u) p [g] 1 c ys j ∨ sy_IM 24 24 (sy_src q u) (sy_lab u) p [0, g] 1 c ys j)
def sy_YTr (T : sy_T) (r : Nat) (c : sa_C) (ys : List sa_C) (j : Nat) : Prop := ∃ p g q u, T r = some (p, g, q, u) ∧ sy_IM 21 21 p g q u 1 c ys j
def sy_YFr (nG : Nat) (T : sy_T) (r : Nat) (c : sa_C) (ys : List sa_C) (j : Nat) : Prop := ∃ p g q u, T r = some (p, g, q, u) ∧ ((u = [] ∧ ∃ e, e ≤ nG ∧ sy_IM 21 21 q e p [g, e] 1 c ys j) ∨ (∃ a, u = [a] ∧ sy_IM 21 21 q a p [g] 1 c ys j) ∨ (∃ a b, u = [a, b] ∧ (sy_IM 21 21 q a (8 + r) [] 0 c ys j ∨ sy_IM 21 21 (8 + r) b p [g] 1 c ys j)))
def sy_XTl (E : sy_E) (c : sa_C) : Prop := E c.1 c.2.1 c.2.2 = true
def sy_XFl (T : sy_T) (E : sy_E) (c : sa_C) : Prop := E c.1 c.2.1 c.2.2 = true ∨ ∃ r p g q a b, T r = some (p, g, q, [a, b]) ∧ c = (q, a, sy_mid q a)
def sy_Yl (E : sy_E) (F : sy_F) (c : sa_C) : Prop := E c.1 c.2.1 c.2.2 = true ∨ (c.2.1 = 0 ∧ c.2.2 = 20 ∧ F c.1 = true)
def sy_In (Ld : sa_C → Prop) (Ru : Nat → sa_C → List sa_C → Nat → Prop) (c : sa_C) (ys : List sa_C) (j : Nat) : Prop := sa_LD Ld c ys j ∨ ∃ r, Ru r c ys j
/-- paths -/
def sy_P (D : sa_C → Nat → Prop) : List Nat → Nat → Nat → Nat → Prop
  | [], s, t, n => s = t ∧ n = 0
  | a :: w, s, t, n => ∃ m i j, D (s, a, m) i ∧ sy_P D w m t j ∧ n = i + j
/-- X's question: a start without a symbol, or at the state itself -/
def sy_PX (D : sa_C → Nat → Prop) (F : sy_F) (p : Nat) (w : List Nat) (n : Nat) : Prop := ∃ f, F f = true ∧ ∃ s i j, ((s = p ∧ i = 0) ∨ D (p, 0, s) i) ∧ sy_P D w s f j ∧ n = i + j
section
variable {nS nG nN nR : Nat} {T : sy_T} {E : sy_E} {F : sy_F}
theorem sy_acc_P {D : sa_C → Nat → Prop} (hD : ∀ f g t, E f g t = true → D (f, g, t) 0) : ∀ w s, sy_Acc E F w s → ∃ f, F f = true ∧ sy_P D w s f 0
  | [], s, h => ⟨s, h, rfl, rfl⟩
  | a :: w, s, ⟨m, he, h⟩ => by
    obtain ⟨f, hf, hp⟩ := sy_acc_P hD w m h
    exact ⟨f, hf, m, 0, 0, hD s a m he, hp, rfl⟩
theorem sy_P_val {D : sa_C → Nat → Prop} {V : Nat → Nat → List Nat → Prop} (h : ∀ c n, D c n → ∀ m v, V m c.2.2 v → V (n + m) c.1 (c.2.1 :: v)) : ∀ w s t n, sy_P D w s t n → ∀ m v, V m t v → V (n + m) s (w ++ v)
  | [], s, t, n, ⟨e, e2⟩, m, v, hv => by subst e e2; rw [Nat.zero_add]; exact hv
  | a :: w, s, t, n, ⟨k, i, j, hd, hp, e⟩, m, v, hv => by
    subst e
    have h1 := sy_P_val h w k t j hp m v hv
    have h2 := h (s, a, k) i hd (j + m) (w ++ v) h1
    rw [Nat.add_assoc]
    exact h2
/-- a value into THE SET -/
def sy_VT (nS : Nat) (T : sy_T) (E : sy_E) (F : sy_F) (m t : Nat) (v : List Nat) : Prop := (t < nS ∧ sy_To T E F m t v) ∨ (nS ≤ t ∧ m = 0 ∧ sy_Acc E F v t)
theorem sy_VT_st {m t : Nat} {v : List Nat} (h : t < nS) (k : sy_VT nS T E F m t v) : sy_To T E F m t v := by
  rcases k with ⟨_, k⟩ | ⟨z, _⟩
  · exact k
  · omega
theorem sy_XT_s (ok : sy_ok nS nG nN nR T E F) (c : sa_C) (n : Nat) (d : sa_Drv (sy_In (sy_XTl E) (sy_XTr nN T)) c n) : ∀ m v, sy_VT nS T E F m c.2.2 v → sy_VT nS T E F (n + m) c.1 (c.2.1 :: v) := by
  refine d (fun c n => ∀ m v, sy_VT nS T E F m c.2.2 v → sy_VT nS T E F (n + m) c.1 (c.2.1 :: v)) ?_ ?_ ?_
  · rintro x k (⟨_, rfl, he⟩ | ⟨r, p, g, q, u, hT, rfl, (⟨rfl, rfl, _⟩ | ⟨b, t, _, _, _, z⟩ | ⟨b, b', t, m, _, _, _, _, z⟩)⟩) m v hv
    · have h1 := ok.2.1 _ _ _ he
      rcases hv with ⟨z, _⟩ | ⟨_, rfl, ha⟩
      · omega
      · have hA : sy_Acc E F (x.2.1 :: v) x.1 := ⟨_, he, ha⟩
        by_cases hx : x.1 < nS
        · exact Or.inl ⟨hx, hA⟩
        · exact Or.inr ⟨by omega, rfl, hA⟩
    · have h1 := ok.1 _ _ _ _ _ hT
      have h2 := sy_VT_st h1.2.2.2.2.1 hv
      rw [Nat.add_comm]
      exact Or.inl ⟨h1.2.1, r, g, q, [], v, hT, rfl, h2⟩
    · exact nomatch z
    · exact nomatch z
  · rintro x y k n (⟨z, _, _⟩ | ⟨r, p, g, q, u, hT, rfl, (⟨_, _, z⟩ | ⟨b, t, rfl, _, rfl, hy⟩ | ⟨b, b', t, m, _, _, _, _, z⟩)⟩) ih m v hv
    · exact nomatch z
    · exact nomatch z
    · have h1 := ok.1 _ _ _ _ _ hT
      injection hy with hy _
      subst hy
      have h2 := sy_VT_st h1.2.2.2.2.1 (ih m v hv)
      rw [Nat.add_right_comm]
      exact Or.inl ⟨h1.2.1, r, g, q, [b], v, hT, rfl, h2⟩
    · exact absurd (congrArg List.length z) (by simp)
  · rintro x y z k n n' (⟨z, _, _⟩ | ⟨r, p, g, q, u, hT, rfl, (⟨_, _, z⟩ | ⟨b, t, rfl, _, rfl, hy⟩ | ⟨b, b', t, m, rfl, _, _, rfl, hy⟩)⟩) ih ih2 m v hv
    · exact nomatch z
    · exact nomatch z
    · exact absurd (congrArg List.length hy) (by simp)
    · have h1 := ok.1 _ _ _ _ _ hT
      injection hy with hy hy2
      injection hy2 with hy2 _
      subst hy hy2
      have h2 := sy_VT_st h1.2.2.2.2.1 (ih _ _ (ih2 _ v hv))
      rw [Nat.add_right_comm, Nat.add_assoc n]
      exact Or.inl ⟨h1.2.1, r, g, q, [b, b'], v, hT, rfl, h2⟩
theorem sy_XT_rg (ok : sy_ok nS nG nN nR T E F) (c : sa_C) (n : Nat) (d : sa_Drv (sy_In (sy_XTl E) (sy_XTr nN T)) c n) : c.2.2 < nN ∧ 1 ≤ c.2.1 := by
  have okT := ok.1
  have okE := ok.2.1
  have hN : nS < nN := ok.2.2.2.2.2.2.2.1
  refine d (fun c _ => c.2.2 < nN ∧ 1 ≤ c.2.1) ?_ ?_ ?_
  · rintro x k (⟨_, rfl, he⟩ | ⟨r, p, g, q, u, hT, rfl, (⟨rfl, rfl, _⟩ | ⟨b, t, _, _, _, z⟩ | ⟨b, b', t, m, _, _, _, _, z⟩)⟩)
    · have h1 := okE _ _ _ he
      exact ⟨h1.2.2.2.2, h1.2.1⟩
    · have h1 := okT _ _ _ _ _ hT
      exact ⟨by show q < nN; omega, h1.2.2.1⟩
    · exact nomatch z
    · exact nomatch z
  · rintro x y k n (⟨z, _, _⟩ | ⟨r, p, g, q, u, hT, rfl, (⟨_, _, z⟩ | ⟨b, t, rfl, ht, rfl, hy⟩ | ⟨b, b', t, m, _, _, _, _, z⟩)⟩) ih
    · exact nomatch z
    · exact nomatch z
    · exact ⟨ht, (okT _ _ _ _ _ hT).2.2.1⟩
    · exact absurd (congrArg List.length z) (by simp)
  · rintro x y z k n n' (⟨z, _, _⟩ | ⟨r, p, g, q, u, hT, rfl, (⟨_, _, z⟩ | ⟨b, t, rfl, _, rfl, hy⟩ | ⟨b, b', t, m, rfl, ht, _, rfl, hy⟩)⟩) ih ih2
    · exact nomatch z
    · exact nomatch z
    · exact absurd (congrArg List.length hy) (by simp)
    · exact ⟨ht, (okT _ _ _ _ _ hT).2.2.1⟩
theorem sy_XT_c (ok : sy_ok nS nG nN nR T E F) : ∀ n p w, sy_To T E F n p w → ∃ f, F f = true ∧ sy_P (sa_Drv (sy_In (sy_XTl E) (sy_XTr nN T))) w p f n
  | 0, p, w, h => sy_acc_P (fun f g t he => sa_d0 (Or.inl ⟨rfl, rfl, he⟩)) w p h
  | n + 1, p, w, ⟨r, g, q, u, v, hT, e, h⟩ => by
    subst e
    have hN : nN ≤ 8 := ok.2.2.2.2.2.2.2.2.1
    have h1 := ok.1 _ _ _ _ _ hT
    obtain ⟨f, hf, hp⟩ := sy_XT_c ok n q (u ++ v) h
    refine ⟨f, hf, ?_⟩
    rcases h1.2.2.2.2.2 with rfl | ⟨a, rfl, _⟩ | ⟨a, b, rfl, _⟩
    · exact ⟨q, 1, n, sa_d0 (Or.inr ⟨r, p, g, q, [], hT, rfl, Or.inl ⟨rfl, rfl, rfl⟩⟩), hp, by omega⟩
    · obtain ⟨m, i, j, hd, hq, e⟩ := hp
      have hr := sy_XT_rg ok _ _ hd
      exact ⟨m, i + 1, j, sa_d1 (Or.inr ⟨r, p, g, q, [a], hT, rfl, Or.inr (Or.inl ⟨a, m, rfl, hr.1, rfl, rfl⟩)⟩) hd, hq, by omega⟩
    · obtain ⟨m, i, j, hd, ⟨m', i', j', hd', hq, e'⟩, e⟩ := hp
      have hr := sy_XT_rg ok _ _ hd
      have hr' := sy_XT_rg ok _ _ hd'
      have hm : m < 24 := Nat.lt_of_lt_of_le hr.1 (by omega)
      exact ⟨m', i + i' + 1, j', sa_d2 (Or.inr ⟨r, p, g, q, [a, b], hT, rfl, Or.inr (Or.inr ⟨a, b, m', m, rfl, hr'.1, hm, rfl, rfl⟩)⟩) hd hd', hq, by omega⟩
theorem sy_XT (ok : sy_ok nS nG nN nR T E F) {p : Nat} (hp : p < nS) (w : List Nat) (n : Nat) : sy_PX (sa_Drv (sy_In (sy_XTl E) (sy_XTr nN T))) F p w n ↔ sy_To T E F n p w := by
  constructor
  · rintro ⟨f, hf, s, i, j, hs, hw, rfl⟩
    have hs' : s = p ∧ i = 0 := by
      rcases hs with h | h
      · exact h
      · have := (sy_XT_rg ok _ _ h).2
        exact absurd this (by show ¬ 1 ≤ 0; omega)
    obtain ⟨rfl, rfl⟩ := hs'
    have hv : sy_VT nS T E F 0 f [] := by
      by_cases h : f < nS
      · exact Or.inl ⟨h, hf⟩
      · exact Or.inr ⟨by omega, rfl, hf⟩
    have := sy_P_val (V := sy_VT nS T E F) (sy_XT_s ok) w s f j hw 0 [] hv
    rw [List.append_nil] at this
    rw [Nat.zero_add]
    exact sy_VT_st hp this
  · intro h
    obtain ⟨f, hf, hq⟩ := sy_XT_c ok n p w h
    exact ⟨f, hf, p, 0, n, Or.inl ⟨rfl, rfl⟩, hq, by omega⟩
end
end
section
/-! X from THE SET -/
section
variable {nS nG nN nR : Nat} {T : sy_T} {E : sy_E} {F : sy_F}
def sy_pr (a : Nat) (v : List Nat) : List Nat := if a = 0 then v else a :: v
theorem sy_pr_n {a : Nat} {v : List Nat} (h : 1 ≤ a) : sy_pr a v = a :: v := if_neg (by omega)
def sy_VF (nS : Nat) (T : sy_T) (E : sy_E) (F : sy_F) (m t : Nat) (v : List Nat) : Prop := (t < nS ∧ sy_Fr T E F m t v) ∨ (nS ≤ t ∧ t < 8 ∧ m = 0 ∧ sy_Acc E F v t) ∨ (8 ≤ t ∧ sy_Fr T E F m ((t - 8) / 4) (((t - 8) % 4 + 1) :: v))
theorem sy_VF_st {m t : Nat} {v : List Nat} (hS : nS ≤ 4) (h : t < nS) (k : sy_VF nS T E F m t v) : sy_Fr T E F m t v := by
  rcases k with ⟨_, k⟩ | ⟨z, _⟩ | ⟨z, _⟩
  · exact k
  · omega
  · omega
theorem sy_VF_mid {m q a : Nat} {v : List Nat} (hS : nS ≤ 4) (ha : 1 ≤ a) (ha4 : a ≤ 4) : sy_VF nS T E F m (sy_mid q a) v ↔ sy_Fr T E F m q (a :: v) := by
  have e1 : (sy_mid q a - 8) / 4 = q := by unfold sy_mid; omega
  have e2 : (sy_mid q a - 8) % 4 + 1 = a := by unfold sy_mid; omega
  have h8 : 8 ≤ sy_mid q a := by unfold sy_mid; omega
  constructor
  · rintro (⟨z, _⟩ | ⟨_, z, _⟩ | ⟨_, k⟩)
    · omega
    · omega
    · rw [e1, e2] at k; exact k
  · intro k
    refine Or.inr (Or.inr ⟨h8, ?_⟩)
    rw [e1, e2]; exact k
/-- one rule after the step before it -/
theorem sy_XF_step (ok : sy_ok nS nG nN nR T E F) {r p g q : Nat} {u v : List Nat} {n : Nat} (hT : T r = some (p, g, q, u)) (h : sy_Fr T E F n p (g :: v)) : sy_VF nS T E F (n + 1) (sy_src q u) (sy_pr (sy_lab u) v) := by
  have h1 := ok.1 _ _ _ _ _ hT
  have hS : nS ≤ 4 := ok.2.2.2.2.1
  have hG : nG ≤ 4 := ok.2.2.2.2.2.2.1
  have hF : sy_Fr T E F (n + 1) q (u ++ v) := ⟨r, p, g, u, v, hT, rfl, h⟩
  rcases h1.2.2.2.2.2 with rfl | ⟨a, rfl, ha, _⟩ | ⟨a, b, rfl, ha, ha', hb, _⟩
  · exact Or.inl ⟨h1.2.2.2.2.1, hF⟩
  · show sy_VF nS T E F (n + 1) q (sy_pr a v)
    rw [sy_pr_n ha]
    exact Or.inl ⟨h1.2.2.2.2.1, hF⟩
  · show sy_VF nS T E F (n + 1) (sy_mid q a) (sy_pr b v)
    rw [sy_pr_n hb]
    exact (sy_VF_mid hS ha (by omega)).mpr hF
theorem sy_XF_s (ok : sy_ok nS nG nN nR T E F) (c : sa_C) (n : Nat) (d : sa_Drv (sy_In (sy_XFl T E) (sy_XFr T)) c n) : ∀ m v, sy_VF nS T E F m c.2.2 v → sy_VF nS T E F (n + m) c.1 (sy_pr c.2.1 v) := by
  have hS : nS ≤ 4 := ok.2.2.2.2.1
  have hG : nG ≤ 4 := ok.2.2.2.2.2.2.1
  have hN : nN ≤ 8 := ok.2.2.2.2.2.2.2.2.1
  refine d (fun c n => ∀ m v, sy_VF nS T E F m c.2.2 v → sy_VF nS T E F (n + m) c.1 (sy_pr c.2.1 v)) ?_ ?_ ?_
  · rintro x k (⟨_, rfl, (he | ⟨r, p, g, q, a, b, hT, rfl⟩)⟩ | ⟨r, p, g, q, u, hT, (⟨rfl, (⟨z, _⟩ | ⟨b, t, _, _, _, z⟩ | ⟨b, b', t, m, _, _, _, _, z⟩)⟩ | ⟨rfl, (⟨z, _⟩ | ⟨b, t, _, _, _, z⟩ | ⟨b, b', t, m, _, _, _, _, z⟩)⟩)⟩) m v hv
    · have h1 := ok.2.1 _ _ _ he
      rw [sy_pr_n h1.2.1]
      rcases hv with ⟨z, _⟩ | ⟨_, _, rfl, ha⟩ | ⟨z, _⟩
      · omega
      · have hA : sy_Acc E F (x.2.1 :: v) x.1 := ⟨_, he, ha⟩
        by_cases hx : x.1 < nS
        · exact Or.inl ⟨hx, hA⟩
        · exact Or.inr (Or.inl ⟨by omega, by omega, rfl, hA⟩)
      · omega
    · have h1 := ok.1 _ _ _ _ _ hT
      rcases h1.2.2.2.2.2 with z | ⟨a', z, _⟩ | ⟨a', b', hu, ha, ha', hb, _⟩
      · exact nomatch z
      · exact absurd (congrArg List.length z) (by simp)
      · injection hu with hu _
        subst hu
        rw [Nat.zero_add, sy_pr_n ha]
        exact Or.inl ⟨h1.2.2.2.2.1, (sy_VF_mid hS ha (by omega)).mp hv⟩
    · exact nomatch z
    · exact nomatch z
    · exact nomatch z
    · exact nomatch z
    · exact nomatch z
    · exact nomatch z
  · rintro x y k n (⟨z, _⟩ | ⟨r, p, g, q, u, hT, (⟨rfl, (⟨z, _⟩ | ⟨b, t, hb, _, rfl, hy⟩ | ⟨b, b', t, m, z, _⟩)⟩ | ⟨rfl, (⟨z, _⟩ | ⟨b, t, z, _⟩ | ⟨b, b', t, m, _, _, _, _, z⟩)⟩)⟩) ih m v hv
    · exact nomatch z
    · exact nomatch z
    · have h1 := ok.1 _ _ _ _ _ hT
      injection hy with hy _
      injection hb with hb _
      subst hy hb
      have h2 := ih m v hv
      rw [sy_pr_n h1.2.2.1] at h2
      have h3 := sy_XF_step ok hT (sy_VF_st hS h1.2.1 h2)
      rw [Nat.add_right_comm]
      exact h3
    · exact absurd (congrArg List.length z) (by simp)
    · exact nomatch z
    · exact absurd (congrArg List.length z) (by simp)
    · exact absurd (congrArg List.length z) (by simp)
  · rintro x y z k n n' (⟨z, _⟩ | ⟨r, p, g, q, u, hT, (⟨rfl, (⟨z, _⟩ | ⟨b, t, _, _, _, z⟩ | ⟨b, b', t, m, z, _⟩)⟩ | ⟨rfl, (⟨z, _⟩ | ⟨b, t, z, _⟩ | ⟨b, b', t, m, hb, _, _, rfl, hy⟩)⟩)⟩) ih ih2 m v hv
    · exact nomatch z
    · exact nomatch z
    · exact absurd (congrArg List.length z) (by simp)
    · exact absurd (congrArg List.length z) (by simp)
    · exact nomatch z
    · exact absurd (congrArg List.length z) (by simp)
    · have h1 := ok.1 _ _ _ _ _ hT
      injection hy with hy hy2
      injection hy2 with hy2 _
      injection hb with hb hb2
      injection hb2 with hb2 _
      subst hy hy2 hb hb2
      have h2 := ih _ _ (ih2 _ v hv)
      have e : sy_pr 0 (sy_pr g v) = g :: v := sy_pr_n h1.2.2.1
      have h2' : sy_VF nS T E F (n + (n' + m)) p (sy_pr 0 (sy_pr g v)) := h2
      rw [e] at h2'
      have h3 := sy_XF_step ok hT (sy_VF_st hS h1.2.1 h2')
      rw [Nat.add_right_comm, Nat.add_assoc n]
      exact h3
theorem sy_XF_rg (ok : sy_ok nS nG nN nR T E F) (c : sa_C) (n : Nat) (d : sa_Drv (sy_In (sy_XFl T E) (sy_XFr T)) c n) : c.2.2 < 24 := by
  have okT := ok.1
  have okE := ok.2.1
  have hS : nS ≤ 4 := ok.2.2.2.2.1
  have hG : nG ≤ 4 := ok.2.2.2.2.2.2.1
  have hN : nN ≤ 8 := ok.2.2.2.2.2.2.2.2.1
  refine d (fun c _ => c.2.2 < 24) ?_ ?_ ?_
  · rintro x k (⟨_, rfl, (he | ⟨r, p, g, q, a, b, hT, rfl⟩)⟩ | ⟨r, p, g, q, u, hT, (⟨rfl, (⟨z, _⟩ | ⟨b, t, _, _, _, z⟩ | ⟨b, b', t, m, _, _, _, _, z⟩)⟩ | ⟨rfl, (⟨z, _⟩ | ⟨b, t, _, _, _, z⟩ | ⟨b, b', t, m, _, _, _, _, z⟩)⟩)⟩)
    · have h1 := okE _ _ _ he
      show x.2.2 < 24
      omega
    · have h1 := okT _ _ _ _ _ hT
      rcases h1.2.2.2.2.2 with z | ⟨a', z, _⟩ | ⟨a', b', hu, ha, ha', hb, _⟩
      · exact nomatch z
      · exact absurd (congrArg List.length z) (by simp)
      · injection hu with hu _
        subst hu
        show sy_mid q a < 24
        unfold sy_mid
        omega
    · exact nomatch z
    · exact nomatch z
    · exact nomatch z
    · exact nomatch z
    · exact nomatch z
    · exact nomatch z
  · rintro x y k n (⟨z, _⟩ | ⟨r, p, g, q, u, hT, (⟨rfl, (⟨z, _⟩ | ⟨b, t, hb, ht, rfl, hy⟩ | ⟨b, b', t, m, z, _⟩)⟩ | ⟨rfl, (⟨z, _⟩ | ⟨b, t, z, _⟩ | ⟨b, b', t, m, _, _, _, _, z⟩)⟩)⟩) ih
    · exact nomatch z
    · exact nomatch z
    · exact ht
    · exact absurd (congrArg List.length z) (by simp)
    · exact nomatch z
    · exact absurd (congrArg List.length z) (by simp)
    · exact absurd (congrArg List.length z) (by simp)
  · rintro x y z k n n' (⟨z, _⟩ | ⟨r, p, g, q, u, hT, (⟨rfl, (⟨z, _⟩ | ⟨b, t, _, _, _, z⟩ | ⟨b, b', t, m, z, _⟩)⟩ | ⟨rfl, (⟨z, _⟩ | ⟨b, t, z, _⟩ | ⟨b, b', t, m, hb, ht, _, rfl, hy⟩)⟩)⟩) ih ih2
    · exact nomatch z
    · exact nomatch z
    · exact absurd (congrArg List.length z) (by simp)
    · exact absurd (congrArg List.length z) (by simp)
    · exact nomatch z
    · exact absurd (congrArg List.length z) (by simp)
    · exact ht
theorem sy_XF_c (ok : sy_ok nS nG nN nR T E F) : ∀ n q w, sy_Fr T E F n q w → sy_PX (sa_Drv (sy_In (sy_XFl T E) (sy_XFr T))) F q w n
  | 0, p, w, h => by
    obtain ⟨f, hf, hp⟩ := sy_acc_P (D := sa_Drv (sy_In (sy_XFl T E) (sy_XFr T))) (fun f g t he => sa_d0 (Or.inl ⟨rfl, rfl, Or.inl he⟩)) w p h
    exact ⟨f, hf, p, 0, 0, Or.inl ⟨rfl, rfl⟩, hp, rfl⟩
  | n + 1, q, w, ⟨r, p, g, u, v, hT, e, h⟩ => by
    subst e
    have h1 := ok.1 _ _ _ _ _ hT
    obtain ⟨f, hf, s, i, j, hs, ⟨m, i', j', hd, hp, e'⟩, e⟩ := sy_XF_c ok n p (g :: v) h
    have hr := sy_XF_rg ok _ _ hd
    have hb : sa_Drv (sy_In (sy_XFl T E) (sy_XFr T)) (sy_src q u, sy_lab u, m) (i + i' + 1) := by
      rcases hs with ⟨rfl, rfl⟩ | hs
      · rw [Nat.zero_add]
        exact sa_d1 (Or.inr ⟨r, s, g, q, u, hT, Or.inl ⟨rfl, Or.inr (Or.inl ⟨g, m, rfl, hr, rfl, rfl⟩)⟩⟩) hd
      · have hr2 := sy_XF_rg ok _ _ hs
        exact sa_d2 (Or.inr ⟨r, p, g, q, u, hT, Or.inr ⟨rfl, Or.inr (Or.inr ⟨0, g, m, s, rfl, hr, hr2, rfl, rfl⟩)⟩⟩) hs hd
    refine ⟨f, hf, ?_⟩
    rcases h1.2.2.2.2.2 with rfl | ⟨a, rfl, _⟩ | ⟨a, b, rfl, _⟩
    · exact ⟨m, i + i' + 1, j', Or.inr hb, hp, by omega⟩
    · exact ⟨q, 0, i + i' + 1 + j', Or.inl ⟨rfl, rfl⟩, ⟨m, i + i' + 1, j', hb, hp, rfl⟩, by omega⟩
    · have h0 : sa_Drv (sy_In (sy_XFl T E) (sy_XFr T)) (q, a, sy_mid q a) 0 := sa_d0 (Or.inl ⟨rfl, rfl, Or.inr ⟨r, p, g, q, a, b, hT, rfl⟩⟩)
      exact ⟨q, 0, 0 + (i + i' + 1 + j'), Or.inl ⟨rfl, rfl⟩, ⟨sy_mid q a, 0, i + i' + 1 + j', h0, ⟨m, i + i' + 1, j', hb, hp, rfl⟩, rfl⟩, by omega⟩
theorem sy_P_valX {D : sa_C → Nat → Prop} {V : Nat → Nat → List Nat → Prop} (h : ∀ c n, D c n → ∀ m v, V m c.2.2 v → V (n + m) c.1 (sy_pr c.2.1 v)) : ∀ w, (∀ a, a ∈ w → 1 ≤ a) → ∀ s t n, sy_P D w s t n → ∀ m v, V m t v → V (n + m) s (w ++ v)
  | [], _, s, t, n, ⟨e, e2⟩, m, v, hv => by subst e e2; rw [Nat.zero_add]; exact hv
  | a :: w, hw, s, t, n, ⟨k, i, j, hd, hp, e⟩, m, v, hv => by
    subst e
    have h1 := sy_P_valX h w (fun b hb => hw b (List.mem_cons_of_mem _ hb)) k t j hp m v hv
    have h2 : V (i + (j + m)) s (sy_pr a (w ++ v)) := h (s, a, k) i hd (j + m) (w ++ v) h1
    rw [sy_pr_n (hw a (List.mem_cons_self ..))] at h2
    rw [Nat.add_assoc]
    exact h2
theorem sy_XF (ok : sy_ok nS nG nN nR T E F) {p : Nat} (hp : p < nS) (w : List Nat) (hw : ∀ a, a ∈ w → 1 ≤ a) (n : Nat) : sy_PX (sa_Drv (sy_In (sy_XFl T E) (sy_XFr T))) F p w n ↔ sy_Fr T E F n p w := by
  have hS : nS ≤ 4 := ok.2.2.2.2.1
  have hN : nN ≤ 8 := ok.2.2.2.2.2.2.2.2.1
  constructor
  · rintro ⟨f, hf, s, i, j, hs, hq, rfl⟩
    have hv : sy_VF nS T E F 0 f [] := by
      have := ok.2.2.1 f hf
      by_cases h : f < nS
      · exact Or.inl ⟨h, hf⟩
      · exact Or.inr (Or.inl ⟨by omega, by omega, rfl, hf⟩)
    have h1 := sy_P_valX (V := sy_VF nS T E F) (sy_XF_s ok) w hw s f j hq 0 [] hv
    rw [List.append_nil] at h1
    rcases hs with ⟨rfl, rfl⟩ | hs
    · rw [Nat.zero_add]
      exact sy_VF_st hS hp h1
    · have h2 := sy_XF_s ok _ _ hs _ _ h1
      exact sy_VF_st hS hp h2
  · exact sy_XF_c ok n p w
end
end
section
/-! Y both ways -/
section
variable {nS nG nN nR : Nat} {T : sy_T} {E : sy_E} {F : sy_F}
theorem sy_bot {w v : List Nat} (h : w ++ [0] = v ++ [0]) : w = v := List.append_cancel_right h
/-- a word with the bottom mark behind a symbol -/
theorem sy_top {g : Nat} {v w : List Nat} (hg : 1 ≤ g) (h : g :: v = w ++ [0]) : ∃ w', w = g :: w' ∧ v = w' ++ [0] := by
  cases w with
  | nil =>
    injection h with h _
    omega
  | cons a w' =>
    injection h with h h2
    subst h
    exact ⟨w', rfl, h2⟩
def sy_VYT (nS : Nat) (T : sy_T) (E : sy_E) (F : sy_F) (m t : Nat) (w' : List Nat) : Prop := (t < nS ∧ ∃ w, w' = w ++ [0] ∧ sy_To T E F m t w) ∨ (nS ≤ t ∧ t < 8 ∧ m = 0 ∧ ∃ w, w' = w ++ [0] ∧ sy_Acc E F w t) ∨ (t = 20 ∧ m = 0 ∧ w' = [])
theorem sy_VYT_st {m t : Nat} {v : List Nat} (hS : nS ≤ 4) (h : t < nS) (k : sy_VYT nS T E F m t v) : ∃ w, v = w ++ [0] ∧ sy_To T E F m t w := by
  rcases k with ⟨_, k⟩ | ⟨z, _⟩ | ⟨z, _⟩
  · exact k
  · omega
  · omega
theorem sy_YT_st (ok : sy_ok nS nG nN nR T E F) {r p g q : Nat} {u v : List Nat} {n : Nat} (hT : T r = some (p, g, q, u)) (h : sy_VYT nS T E F n q (u ++ v)) : sy_VYT nS T E F (n + 1) p (g :: v) := by
  have h1 := ok.1 _ _ _ _ _ hT
  have hS : nS ≤ 4 := ok.2.2.2.2.1
  obtain ⟨w, e, k⟩ := sy_VYT_st hS h1.2.2.2.2.1 h
  refine Or.inl ⟨h1.2.1, ?_⟩
  have hv : ∃ w', w = u ++ w' ∧ v = w' ++ [0] := by
    rcases h1.2.2.2.2.2 with rfl | ⟨a, rfl, ha, _⟩ | ⟨a, b, rfl, ha, _, hb, _⟩
    · exact ⟨w, rfl, e⟩
    · exact sy_top ha e
    · obtain ⟨w1, rfl, e1⟩ := sy_top ha e
      obtain ⟨w2, rfl, e2⟩ := sy_top hb e1
      exact ⟨w2, rfl, e2⟩
  obtain ⟨w', rfl, rfl⟩ := hv
  exact ⟨g :: w', rfl, r, g, q, u, w', hT, rfl, k⟩
theorem sy_YT_s (ok : sy_ok nS nG nN nR T E F) (c : sa_C) (n : Nat) (d : sa_Drv (sy_In (sy_Yl E F) (sy_YTr T)) c n) : ∀ m v, sy_VYT nS T E F m c.2.2 v → sy_VYT nS T E F (n + m) c.1 (c.2.1 :: v) := by
  have hS : nS ≤ 4 := ok.2.2.2.2.1
  have hN : nN ≤ 8 := ok.2.2.2.2.2.2.2.2.1
  refine d (fun c n => ∀ m v, sy_VYT nS T E F m c.2.2 v → sy_VYT nS T E F (n + m) c.1 (c.2.1 :: v)) ?_ ?_ ?_
  · rintro x k (⟨_, rfl, (he | ⟨e0, e20, hf⟩)⟩ | ⟨r, p, g, q, u, hT, rfl, (⟨rfl, rfl, _⟩ | ⟨b, t, _, _, _, z⟩ | ⟨b, b', t, m, _, _, _, _, z⟩)⟩) m v hv
    · have h1 := ok.2.1 _ _ _ he
      rcases hv with ⟨z, _⟩ | ⟨_, _, rfl, w, rfl, ha⟩ | ⟨z, _⟩
      · omega
      · have hA : sy_Acc E F (x.2.1 :: w) x.1 := ⟨_, he, ha⟩
        by_cases hx : x.1 < nS
        · exact Or.inl ⟨hx, x.2.1 :: w, rfl, hA⟩
        · exact Or.inr (Or.inl ⟨by omega, by omega, rfl, x.2.1 :: w, rfl, hA⟩)
      · omega
    · have h1 := ok.2.2.1 _ hf
      rw [e20] at hv
      rcases hv with ⟨z, _⟩ | ⟨_, z, _⟩ | ⟨_, rfl, rfl⟩
      · omega
      · omega
      · rw [e0]
        by_cases hx : x.1 < nS
        · exact Or.inl ⟨hx, [], rfl, hf⟩
        · exact Or.inr (Or.inl ⟨by omega, by omega, rfl, [], rfl, hf⟩)
    · rw [Nat.add_comm]
      exact sy_YT_st ok hT hv
    · exact nomatch z
    · exact nomatch z
  · rintro x y k n (⟨z, _, _⟩ | ⟨r, p, g, q, u, hT, rfl, (⟨_, _, z⟩ | ⟨b, t, rfl, _, rfl, hy⟩ | ⟨b, b', t, m, _, _, _, _, z⟩)⟩) ih m v hv
    · exact nomatch z
    · exact nomatch z
    · injection hy with hy _
      subst hy
      rw [Nat.add_right_comm]
      exact sy_YT_st ok hT (ih m v hv)
    · exact absurd (congrArg List.length z) (by simp)
  · rintro x y z k n n' (⟨z, _, _⟩ | ⟨r, p, g, q, u, hT, rfl, (⟨_, _, z⟩ | ⟨b, t, rfl, _, rfl, hy⟩ | ⟨b, b', t, m, rfl, _, _, rfl, hy⟩)⟩) ih ih2 m v hv
    · exact nomatch z
    · exact nomatch z
    · exact absurd (congrArg List.length hy) (by simp)
    · injection hy with hy hy2
      injection hy2 with hy2 _
      subst hy hy2
      rw [Nat.add_right_comm, Nat.add_assoc n]
      exact sy_YT_st ok hT (ih _ _ (ih2 _ v hv))
theorem sy_YT_rg (ok : sy_ok nS nG nN nR T E F) (c : sa_C) (n : Nat) (d : sa_Drv (sy_In (sy_Yl E F) (sy_YTr T)) c n) : c.2.2 < 21 := by
  have hS : nS ≤ 4 := ok.2.2.2.2.1
  have hN : nN ≤ 8 := ok.2.2.2.2.2.2.2.2.1
  refine d (fun c _ => c.2.2 < 21) ?_ ?_ ?_
  · rintro x k (⟨_, rfl, (he | ⟨e0, e20, hf⟩)⟩ | ⟨r, p, g, q, u, hT, rfl, (⟨rfl, rfl, _⟩ | ⟨b, t, _, _, _, z⟩ | ⟨b, b', t, m, _, _, _, _, z⟩)⟩)
    · have h1 := ok.2.1 _ _ _ he
      show x.2.2 < 21
      omega
    · show x.2.2 < 21
      omega
    · have h1 := ok.1 _ _ _ _ _ hT
      show q < 21
      omega
    · exact nomatch z
    · exact nomatch z
  · rintro x y k n (⟨z, _, _⟩ | ⟨r, p, g, q, u, hT, rfl, (⟨_, _, z⟩ | ⟨b, t, rfl, ht, rfl, hy⟩ | ⟨b, b', t, m, _, _, _, _, z⟩)⟩) ih
    · exact nomatch z
    · exact nomatch z
    · exact ht
    · exact absurd (congrArg List.length z) (by simp)
  · rintro x y z k n n' (⟨z, _, _⟩ | ⟨r, p, g, q, u, hT, rfl, (⟨_, _, z⟩ | ⟨b, t, rfl, _, rfl, hy⟩ | ⟨b, b', t, m, rfl, ht, _, rfl, hy⟩)⟩) ih ih2
    · exact nomatch z
    · exact nomatch z
    · exact absurd (congrArg List.length hy) (by simp)
    · exact ht
theorem sy_accY {D : sa_C → Nat → Prop} (hD : ∀ c, sy_Yl E F c → D c 0) : ∀ w s, sy_Acc E F w s → sy_P D (w ++ [0]) s 20 0
  | [], s, h => ⟨20, 0, 0, hD (s, 0, 20) (Or.inr ⟨rfl, rfl, h⟩), ⟨rfl, rfl⟩, rfl⟩
  | a :: w, s, ⟨m, he, h⟩ => ⟨m, 0, 0, hD (s, a, m) (Or.inl he), sy_accY hD w m h, rfl⟩
theorem sy_YT_c (ok : sy_ok nS nG nN nR T E F) : ∀ n p w, sy_To T E F n p w → sy_P (sa_Drv (sy_In (sy_Yl E F) (sy_YTr T))) (w ++ [0]) p 20 n
  | 0, p, w, h => sy_accY (fun c he => sa_d0 (Or.inl ⟨rfl, rfl, he⟩)) w p h
  | n + 1, p, w, ⟨r, g, q, u, v, hT, e, h⟩ => by
    subst e
    have h1 := ok.1 _ _ _ _ _ hT
    have hp := sy_YT_c ok n q (u ++ v) h
    rcases h1.2.2.2.2.2 with rfl | ⟨a, rfl, _⟩ | ⟨a, b, rfl, _⟩
    · exact ⟨q, 1, n, sa_d0 (Or.inr ⟨r, p, g, q, [], hT, rfl, Or.inl ⟨rfl, rfl, rfl⟩⟩), hp, by omega⟩
    · obtain ⟨m, i, j, hd, hq, e⟩ := hp
      have hr := sy_YT_rg ok _ _ hd
      exact ⟨m, i + 1, j, sa_d1 (Or.inr ⟨r, p, g, q, [a], hT, rfl, Or.inr (Or.inl ⟨a, m, rfl, hr, rfl, rfl⟩)⟩) hd, hq, by omega⟩
    · obtain ⟨m, i, j, hd, ⟨m', i', j', hd', hq, e'⟩, e⟩ := hp
      have hr := sy_YT_rg ok _ _ hd
      have hr' := sy_YT_rg ok _ _ hd'
      exact ⟨m', i + i' + 1, j', sa_d2 (Or.inr ⟨r, p, g, q, [a, b], hT, rfl, Or.inr (Or.inr ⟨a, b, m', m, rfl, hr', hr, rfl, rfl⟩)⟩) hd hd', hq, by omega⟩
theorem sy_YT (ok : sy_ok nS nG nN nR T E F) {p : Nat} (hp : p < nS) (w : List Nat) (n : Nat) : sy_P (sa_Drv (sy_In (sy_Yl E F) (sy_YTr T))) (w ++ [0]) p 20 n ↔ sy_To T E F n p w := by
  have hS : nS ≤ 4 := ok.2.2.2.2.1
  constructor
  · intro h
    have h1 := sy_P_val (V := sy_VYT nS T E F) (sy_YT_s ok) (w ++ [0]) p 20 n h 0 [] (Or.inr (Or.inr ⟨rfl, rfl, rfl⟩))
    rw [List.append_nil] at h1
    obtain ⟨w', e, k⟩ := sy_VYT_st hS hp h1
    rw [sy_bot e]
    exact k
  · exact sy_YT_c ok n p w
def sy_VYF (nS : Nat) (T : sy_T) (E : sy_E) (F : sy_F) (m t : Nat) (w' : List Nat) : Prop := (t < nS ∧ ∃ w, w' = w ++ [0] ∧ sy_Fr T E F m t w) ∨ (nS ≤ t ∧ t < 8 ∧ m = 0 ∧ ∃ w, w' = w ++ [0] ∧ sy_Acc E F w t) ∨ (t = 20 ∧ m = 0 ∧ w' = []) ∨ (∃ r p g q a b v n, t = 8 + r ∧ T r = some (p, g, q, [a, b]) ∧ w' = b :: (v ++ [0]) ∧ m = n + 1 ∧ sy_Fr T E F n p (g :: v))
theorem sy_VYF_st {m t : Nat} {v : List Nat} (hS : nS ≤ 4) (h : t < nS) (k : sy_VYF nS T E F m t v) : ∃ w, v = w ++ [0] ∧ sy_Fr T E F m t w := by
  rcases k with ⟨_, k⟩ | ⟨z, _⟩ | ⟨z, _⟩ | ⟨r, _, _, _, _, _, _, _, z, _⟩
  · exact k
  · omega
  · omega
  · omega
/-- after the step before it: what lies under g -/
theorem sy_VYF_g (ok : sy_ok nS nG nN nR T E F) {r p g q : Nat} {u v : List Nat} {n : Nat} (hT : T r = some (p, g, q, u)) (h : sy_VYF nS T E F n p (g :: v)) : ∃ w, v = w ++ [0] ∧ sy_Fr T E F n p (g :: w) ∧ sy_Fr T E F (n + 1) q (u ++ w) := by
  have h1 := ok.1 _ _ _ _ _ hT
  have hS : nS ≤ 4 := ok.2.2.2.2.1
  obtain ⟨w, e, k⟩ := sy_VYF_st hS h1.2.1 h
  obtain ⟨w', rfl, rfl⟩ := sy_top h1.2.2.1 e
  exact ⟨w', rfl, k, r, p, g, u, w', hT, rfl, k⟩
theorem sy_YF_s (ok : sy_ok nS nG nN nR T E F) (c : sa_C) (n : Nat) (d : sa_Drv (sy_In (sy_Yl E F) (sy_YFr nG T)) c n) : ∀ m v, sy_VYF nS T E F m c.2.2 v → sy_VYF nS T E F (n + m) c.1 (c.2.1 :: v) := by
  have hS : nS ≤ 4 := ok.2.2.2.2.1
  have hN : nN ≤ 8 := ok.2.2.2.2.2.2.2.2.1
  have hR : nR ≤ 12 := ok.2.2.2.2.2.2.2.2.2.2
  refine d (fun c n => ∀ m v, sy_VYF nS T E F m c.2.2 v → sy_VYF nS T E F (n + m) c.1 (c.2.1 :: v)) ?_ ?_ ?_
  · rintro x k (⟨_, rfl, (he | ⟨e0, e20, hf⟩)⟩ | ⟨r, p, g, q, u, hT, (⟨rfl, e, _, rfl, (⟨z, _⟩ | ⟨b, t, z, _⟩ | ⟨b, b', t, m, _, _, _, _, z⟩)⟩ | ⟨a, rfl, rfl, (⟨z, _⟩ | ⟨b, t, _, _, _, z⟩ | ⟨b, b', t, m, z, _⟩)⟩ | ⟨a, b, rfl, (⟨rfl, (⟨_, rfl, _⟩ | ⟨b, t, z, _⟩ | ⟨b, b', t, m, z, _⟩)⟩ | ⟨rfl, (⟨z, _⟩ | ⟨b, t, _, _, _, z⟩ | ⟨b, b', t, m, z, _⟩)⟩)⟩)⟩) m v hv
    · have h1 := ok.2.1 _ _ _ he
      rcases hv with ⟨z, _⟩ | ⟨_, _, rfl, w, rfl, ha⟩ | ⟨z, _⟩ | ⟨r, _, _, _, _, _, _, _, z, _⟩
      · omega
      · have hA : sy_Acc E F (x.2.1 :: w) x.1 := ⟨_, he, ha⟩
        by_cases hx : x.1 < nS
        · exact Or.inl ⟨hx, x.2.1 :: w, rfl, hA⟩
        · exact Or.inr (Or.inl ⟨by omega, by omega, rfl, x.2.1 :: w, rfl, hA⟩)
      · omega
      · omega
    · have h1 := ok.2.2.1 _ hf
      rw [e20] at hv
      rcases hv with ⟨z, _⟩ | ⟨_, z, _⟩ | ⟨_, rfl, rfl⟩ | ⟨r, p, g, q, a, b, v', n', z, hT, _⟩
      · omega
      · omega
      · rw [e0]
        by_cases hx : x.1 < nS
        · exact Or.inl ⟨hx, [], rfl, hf⟩
        · exact Or.inr (Or.inl ⟨by omega, by omega, rfl, [], rfl, hf⟩)
      · have := ok.1 _ _ _ _ _ hT
        omega
    · exact nomatch z
    · exact absurd (congrArg List.length z) (by simp)
    · exact nomatch z
    · exact nomatch z
    · exact nomatch z
    · exact absurd (congrArg List.length z) (by simp)
    · have h1 := ok.1 _ _ _ _ _ hT
      rw [Nat.zero_add]
      have hv' : sy_VYF nS T E F m (8 + r) v := hv
      rcases hv' with ⟨z, _⟩ | ⟨_, z, _⟩ | ⟨z, _⟩ | ⟨r', p', g', q', a', b', w, n, hr, hT', rfl, rfl, hF⟩
      · omega
      · omega
      · omega
      · have er : r' = r := by omega
        subst er
        rw [hT] at hT'
        injection hT' with hT'
        injection hT' with e1 hT'
        injection hT' with e2 hT'
        injection hT' with e3 hT'
        injection hT' with e4 hT'
        injection hT' with e5 _
        subst e1 e2 e3 e4 e5
        exact Or.inl ⟨h1.2.2.2.2.1, a :: b :: w, rfl, r', p, g, [a, b], w, hT, rfl, hF⟩
    · exact nomatch z
    · exact nomatch z
    · exact nomatch z
    · exact nomatch z
    · exact absurd (congrArg List.length z) (by simp)
  · rintro x y k n (⟨z, _⟩ | ⟨r, p, g, q, u, hT, (⟨rfl, e, _, rfl, (⟨z, _⟩ | ⟨b, t, z, _⟩ | ⟨b, b', t, m, _, _, _, _, z⟩)⟩ | ⟨a, rfl, rfl, (⟨z, _⟩ | ⟨b, t, hb, _, rfl, hy⟩ | ⟨b, b', t, m, z, _⟩)⟩ | ⟨a, b, rfl, (⟨rfl, (⟨_, _, z⟩ | ⟨b, t, z, _⟩ | ⟨b, b', t, m, z, _⟩)⟩ | ⟨rfl, (⟨z, _⟩ | ⟨b1, t, hb, _, rfl, hy⟩ | ⟨b, b', t, m, z, _⟩)⟩)⟩)⟩) ih m v hv
    · exact nomatch z
    · exact nomatch z
    · exact absurd (congrArg List.length z) (by simp)
    · exact absurd (congrArg List.length z) (by simp)
    · exact nomatch z
    · have h1 := ok.1 _ _ _ _ _ hT
      injection hy with hy _
      injection hb with hb _
      subst hy hb
      obtain ⟨w, rfl, _, k⟩ := sy_VYF_g ok hT (ih m v hv)
      rw [Nat.add_right_comm]
      exact Or.inl ⟨h1.2.2.2.2.1, a :: w, rfl, k⟩
    · exact absurd (congrArg List.length z) (by simp)
    · exact nomatch z
    · exact nomatch z
    · exact nomatch z
    · exact nomatch z
    · injection hy with hy _
      injection hb with hb _
      subst hy hb
      obtain ⟨w, rfl, k, _⟩ := sy_VYF_g ok hT (ih m v hv)
      rw [Nat.add_right_comm]
      exact Or.inr (Or.inr (Or.inr ⟨r, p, g, q, a, b, w, n + m, rfl, hT, rfl, rfl, k⟩))
    · exact absurd (congrArg List.length z) (by simp)
  · rintro x y z k n n' (⟨z, _⟩ | ⟨r, p, g, q, u, hT, (⟨rfl, e, _, rfl, (⟨z, _⟩ | ⟨b, t, z, _⟩ | ⟨b, b', t, m, hb, _, _, rfl, hy⟩)⟩ | ⟨a, rfl, rfl, (⟨z, _⟩ | ⟨b, t, _, _, _, z⟩ | ⟨b, b', t, m, z, _⟩)⟩ | ⟨a, b, rfl, (⟨rfl, (⟨_, _, z⟩ | ⟨b, t, z, _⟩ | ⟨b, b', t, m, z, _⟩)⟩ | ⟨rfl, (⟨z, _⟩ | ⟨b1, t, _, _, _, z⟩ | ⟨b, b', t, m, z, _⟩)⟩)⟩)⟩) ih ih2 m v hv
    · exact nomatch z
    · exact nomatch z
    · exact absurd (congrArg List.length z) (by simp)
    · have h1 := ok.1 _ _ _ _ _ hT
      injection hy with hy hy2
      injection hy2 with hy2 _
      injection hb with hb hb2
      injection hb2 with hb2 _
      subst hy hy2 hb hb2
      obtain ⟨w, ew, _, k⟩ := sy_VYF_g ok hT (ih _ _ (ih2 _ v hv))
      rw [Nat.add_right_comm, Nat.add_assoc n]
      exact Or.inl ⟨h1.2.2.2.2.1, w, ew, k⟩
    · exact nomatch z
    · exact absurd (congrArg List.length z) (by simp)
    · exact absurd (congrArg List.length z) (by simp)
    · exact nomatch z
    · exact nomatch z
    · exact nomatch z
    · exact nomatch z
    · exact absurd (congrArg List.length z) (by simp)
    · exact absurd (congrArg List.length z) (by simp)
theorem sy_YF_rg (ok : sy_ok nS nG nN nR T E F) (c : sa_C) (n : Nat) (d : sa_Drv (sy_In (sy_Yl E F) (sy_YFr nG T)) c n) : c.2.2 < 21 := by
  have hS : nS ≤ 4 := ok.2.2.2.2.1
  have hN : nN ≤ 8 := ok.2.2.2.2.2.2.2.2.1
  have hR : nR ≤ 12 := ok.2.2.2.2.2.2.2.2.2.2
  have hIM : ∀ x a y u j c ys j', y < 21 → sy_IM 21 21 x a y u j c ys j' → c.2.2 < 21 := by
    rintro x a y u j c ys j' hy ⟨_, (⟨_, rfl, _⟩ | ⟨b, t, _, ht, rfl, _⟩ | ⟨b, b', t, m, _, ht, _, rfl, _⟩)⟩
    · exact hy
    · exact ht
    · exact ht
  have hA : ∀ c ys j, sy_In (sy_Yl E F) (sy_YFr nG T) c ys j → c.2.2 < 21 := by
    rintro x ys j (⟨_, rfl, (he | ⟨e0, e20, hf⟩)⟩ | ⟨r, p, g, q, u, hT, h⟩)
    · have h1 := ok.2.1 _ _ _ he
      omega
    · omega
    · have h1 := ok.1 _ _ _ _ _ hT
      rcases h with ⟨_, e, _, h⟩ | ⟨a, _, h⟩ | ⟨a, b, _, (h | h)⟩
      · exact hIM _ _ _ _ _ _ _ _ (by omega) h
      · exact hIM _ _ _ _ _ _ _ _ (by omega) h
      · exact hIM _ _ _ _ _ _ _ _ (by omega) h
      · exact hIM _ _ _ _ _ _ _ _ (by omega) h
  exact d (fun c _ => c.2.2 < 21) (fun x k h => hA _ _ _ h) (fun x y k n h _ => hA _ _ _ h) (fun x y z k n m h _ _ => hA _ _ _ h)
theorem sy_YF_c (ok : sy_ok nS nG nN nR T E F) : ∀ n q w, (∀ a, a ∈ w → a ≤ nG) → sy_Fr T E F n q w → sy_P (sa_Drv (sy_In (sy_Yl E F) (sy_YFr nG T))) (w ++ [0]) q 20 n
  | 0, p, w, _, h => sy_accY (fun c he => sa_d0 (Or.inl ⟨rfl, rfl, he⟩)) w p h
  | n + 1, q, w, hw, ⟨r, p, g, u, v, hT, e, h⟩ => by
    subst e
    have h1 := ok.1 _ _ _ _ _ hT
    have hv : ∀ a, a ∈ g :: v → a ≤ nG := by
      intro a ha
      rcases List.mem_cons.mp ha with rfl | ha
      · exact h1.2.2.2.1
      · exact hw a (List.mem_append_right _ ha)
    obtain ⟨m, i, j, hd, hp, e⟩ := sy_YF_c ok n p (g :: v) hv h
    have hr := sy_YF_rg ok _ _ hd
    rcases h1.2.2.2.2.2 with rfl | ⟨a, rfl, _⟩ | ⟨a, b, rfl, _⟩
    · cases v with
      | nil =>
        obtain ⟨m2, i2, j2, hd2, hp2, e2⟩ := hp
        have hr2 := sy_YF_rg ok _ _ hd2
        exact ⟨m2, i + i2 + 1, j2, sa_d2 (Or.inr ⟨r, p, g, q, [], hT, Or.inl ⟨rfl, 0, Nat.zero_le _, rfl, Or.inr (Or.inr ⟨g, 0, m2, m, rfl, hr2, hr, rfl, rfl⟩)⟩⟩) hd hd2, hp2, by omega⟩
      | cons x v' =>
        obtain ⟨m2, i2, j2, hd2, hp2, e2⟩ := hp
        have hr2 := sy_YF_rg ok _ _ hd2
        exact ⟨m2, i + i2 + 1, j2, sa_d2 (Or.inr ⟨r, p, g, q, [], hT, Or.inl ⟨rfl, x, hw x (List.mem_cons_self ..), rfl, Or.inr (Or.inr ⟨g, x, m2, m, rfl, hr2, hr, rfl, rfl⟩)⟩⟩) hd hd2, hp2, by omega⟩
    · exact ⟨m, i + 1, j, sa_d1 (Or.inr ⟨r, p, g, q, [a], hT, Or.inr (Or.inl ⟨a, rfl, rfl, Or.inr (Or.inl ⟨g, m, rfl, hr, rfl, rfl⟩)⟩)⟩) hd, hp, by omega⟩
    · exact ⟨8 + r, 0, i + 1 + j, sa_d0 (Or.inr ⟨r, p, g, q, [a, b], hT, Or.inr (Or.inr ⟨a, b, rfl, Or.inl ⟨rfl, Or.inl ⟨rfl, rfl, rfl⟩⟩⟩)⟩), ⟨m, i + 1, j, sa_d1 (Or.inr ⟨r, p, g, q, [a, b], hT, Or.inr (Or.inr ⟨a, b, rfl, Or.inr ⟨rfl, Or.inr (Or.inl ⟨g, m, rfl, hr, rfl, rfl⟩)⟩⟩)⟩) hd, hp, rfl⟩, by omega⟩
theorem sy_YF (ok : sy_ok nS nG nN nR T E F) {p : Nat} (hp : p < nS) (w : List Nat) (hw : ∀ a, a ∈ w → a ≤ nG) (n : Nat) : sy_P (sa_Drv (sy_In (sy_Yl E F) (sy_YFr nG T))) (w ++ [0]) p 20 n ↔ sy_Fr T E F n p w := by
  have hS : nS ≤ 4 := ok.2.2.2.2.1
  constructor
  · intro h
    have h1 := sy_P_val (V := sy_VYF nS T E F) (sy_YF_s ok) (w ++ [0]) p 20 n h 0 [] (Or.inr (Or.inr (Or.inl ⟨rfl, rfl, rfl⟩)))
    rw [List.append_nil] at h1
    obtain ⟨w', e, k⟩ := sy_VYF_st hS hp h1
    rw [sy_bot e]
    exact k
  · exact sy_YF_c ok n p w hw
end
end
section
/-! what a question reads out of a table of weights -/
def ms_st (B K : Nat) (W : sa_C → Nat) (g : Nat) (v : Nat → Nat) : Nat → Nat := fun t => wc_mn B (fun s => wc_pl B (v s) (W (s, g, t))) K
def ms_rd (B K : Nat) (W : sa_C → Nat) : List Nat → (Nat → Nat) → (Nat → Nat)
  | [], v => v
  | a :: w, v => ms_rd B K W w (ms_st B K W a v)
def ms_v0 (W : sa_C → Nat) (p : Nat) : Nat → Nat := fun t => if t = p then 0 else W (p, 0, t)
def ms_fn (B : Nat) (F : sy_F) (v : Nat → Nat) : Nat → Nat := fun f => if F f = true then v f else B
def ms_X (W : sa_C → Nat) (F : sy_F) (p : Nat) (w : List Nat) : Nat := wc_mn 1000000 (ms_fn 1000000 F (ms_rd 1000000 24 W w (ms_v0 W p))) 24
def ms_u0 (p : Nat) : Nat → Nat := fun t => if t = p then 0 else 1000
def ms_Y (W : sa_C → Nat) (p : Nat) (w : List Nat) : Nat := ms_rd 1000 21 W (w ++ [0]) (ms_u0 p) 20
theorem ms_rd_Rp {B K : Nat} {W : sa_C → Nat} {D : sa_C → Nat → Prop} (hB : 256 < B) (hW : ∀ c, wc_Rp B (W c) (D c)) (hK : ∀ c n, D c n → c.2.2 < K) : ∀ (w : List Nat) (v : Nat → Nat) (Q : Nat → Nat → Prop), (∀ t, t < K → wc_Rp B (v t) (Q t)) → ∀ t, t < K → wc_Rp B (ms_rd B K W w v t) (fun n => ∃ s, s < K ∧ ∃ i j, Q s i ∧ sy_P D w s t j ∧ n = i + j)
  | [], v, Q, h, t, ht => by
    refine wc_Rp_iff ?_ (h t ht)
    intro n
    constructor
    · intro q
      exact ⟨t, ht, n, 0, q, ⟨rfl, rfl⟩, rfl⟩
    · rintro ⟨s, _, i, j, q, ⟨rfl, rfl⟩, rfl⟩
      exact q
  | a :: w, v, Q, h, t, ht => by
    have h1 : ∀ t, t < K → wc_Rp B (ms_st B K W a v t) (fun n => ∃ s, s < K ∧ ∃ i j, Q s i ∧ D (s, a, t) j ∧ n = i + j) := by
      intro t _
      exact wc_Rp_mn hB (fun s hs => wc_Rp_pl hB (h s hs) (hW (s, a, t)))
    refine wc_Rp_iff ?_ (ms_rd_Rp hB hW hK w _ _ h1 t ht)
    intro n
    constructor
    · rintro ⟨s, _, i, j, ⟨s', hs', i', j', q, d, rfl⟩, p, rfl⟩
      exact ⟨s', hs', i', j' + j, q, ⟨s, j', j, d, p, rfl⟩, by omega⟩
    · rintro ⟨s, hs, i, j, q, ⟨m, i', j', d, p, rfl⟩, rfl⟩
      exact ⟨m, hK _ _ d, i + i', j', ⟨s, hs, i, i', q, d, rfl⟩, p, by omega⟩
theorem ms_X_Rp {W : sa_C → Nat} {D : sa_C → Nat → Prop} {F : sy_F} {p : Nat} (w : List Nat) (hW : ∀ c, wc_Rp 1000000 (W c) (D c)) (hK : ∀ c n, D c n → c.2.2 < 24) (hF : ∀ f, F f = true → f < 24) (hp : p < 24) : wc_Rp 1000000 (ms_X W F p w) (sy_PX D F p w) := by
  have h0 : ∀ t, t < 24 → wc_Rp 1000000 (ms_v0 W p t) (fun n => (t = p ∧ n = 0) ∨ D (p, 0, t) n) := by
    intro t _
    unfold ms_v0
    by_cases e : t = p
    · rw [if_pos e]
      exact wc_Rp_0 (Or.inl ⟨e, rfl⟩)
    · rw [if_neg e]
      refine wc_Rp_iff ?_ (hW (p, 0, t))
      intro n
      constructor
      · exact fun h => Or.inr h
      · rintro (⟨z, _⟩ | h)
        · exact absurd z e
        · exact h
  have h1 := ms_rd_Rp (by omega) hW hK w (ms_v0 W p) _ h0
  have h2 : ∀ f, f < 24 → wc_Rp 1000000 (ms_fn 1000000 F (ms_rd 1000000 24 W w (ms_v0 W p)) f) (fun n => F f = true ∧ ∃ s, s < 24 ∧ ∃ i j, ((s = p ∧ i = 0) ∨ D (p, 0, s) i) ∧ sy_P D w s f j ∧ n = i + j) := by
    intro f hf
    unfold ms_fn
    by_cases e : F f = true
    · rw [if_pos e]
      refine wc_Rp_iff ?_ (h1 f hf)
      intro n
      exact ⟨fun h => ⟨e, h⟩, fun h => h.2⟩
    · rw [if_neg e]
      exact wc_Rp_no (by omega) (fun n h => e h.1)
  refine wc_Rp_iff ?_ (wc_Rp_mn (by omega) h2)
  intro n
  constructor
  · rintro ⟨f, _, e, s, _, i, j, h⟩
    exact ⟨f, e, s, i, j, h⟩
  · rintro ⟨f, e, s, i, j, hs, h⟩
    refine ⟨f, hF f e, e, s, ?_, i, j, hs, h⟩
    rcases hs with ⟨rfl, _⟩ | hs
    · exact hp
    · exact hK _ _ hs
theorem ms_Y_Rp {W : sa_C → Nat} {D : sa_C → Nat → Prop} {p : Nat} (w : List Nat) (hW : ∀ c, wc_Rp 1000 (W c) (D c)) (hK : ∀ c n, D c n → c.2.2 < 21) (hp : p < 21) : wc_Rp 1000 (ms_Y W p w) (fun n => sy_P D (w ++ [0]) p 20 n) := by
  have h0 : ∀ t, t < 21 → wc_Rp 1000 (ms_u0 p t) (fun n => t = p ∧ n = 0) := by
    intro t _
    unfold ms_u0
    by_cases e : t = p
    · rw [if_pos e]
      exact wc_Rp_0 ⟨e, rfl⟩
    · rw [if_neg e]
      exact wc_Rp_no (by omega) (fun n h => e h.1)
  refine wc_Rp_iff ?_ (ms_rd_Rp (by omega) hW hK (w ++ [0]) (ms_u0 p) _ h0 20 (by omega))
  intro n
  constructor
  · rintro ⟨s, _, i, j, ⟨rfl, rfl⟩, h, rfl⟩
    rw [Nat.zero_add]; exact h
  · intro h
    exact ⟨p, hp, 0, n, ⟨rfl, rfl⟩, h, by omega⟩
section
variable {nS nG nN nR : Nat} {T : sy_T} {E : sy_E} {F : sy_F}
/-- the same entries into states -/
theorem sy_XY (ok : sy_ok nS nG nN nR T E F) {f g t n : Nat} (hg : 1 ≤ g) : sa_Drv (sy_In (sy_XTl E) (sy_XTr nN T)) (f, g, t) n ↔ sa_Drv (sy_In (sy_Yl E F) (sy_YTr T)) (f, g, t) n := by
  have hN : nN ≤ 8 := ok.2.2.2.2.2.2.2.2.1
  have hSN : nS < nN := ok.2.2.2.2.2.2.2.1
  constructor
  · intro d
    refine d (fun c n => sa_Drv (sy_In (sy_Yl E F) (sy_YTr T)) c n) ?_ ?_ ?_
    · rintro x k (⟨h1, h2, he⟩ | ⟨r, p, g, q, u, hT, e, (⟨rfl, rfl, _⟩ | ⟨b, t, _, _, _, z⟩ | ⟨b, b', t, m, _, _, _, _, z⟩)⟩)
      · exact sa_d0 (Or.inl ⟨h1, h2, Or.inl he⟩)
      · exact sa_d0 (Or.inr ⟨r, p, g, q, [], hT, e, Or.inl ⟨rfl, rfl, rfl⟩⟩)
      · exact nomatch z
      · exact nomatch z
    · rintro x y k n (⟨z, _, _⟩ | ⟨r, p, g, q, u, hT, e, (⟨_, _, z⟩ | ⟨b, t, rfl, ht, rfl, hy⟩ | ⟨b, b', t, m, _, _, _, _, z⟩)⟩) ih
      · exact nomatch z
      · exact nomatch z
      · exact sa_d1 (Or.inr ⟨r, p, g, q, [b], hT, e, Or.inr (Or.inl ⟨b, t, rfl, by omega, rfl, hy⟩)⟩) ih
      · exact absurd (congrArg List.length z) (by simp)
    · rintro x y z k n n' (⟨z, _, _⟩ | ⟨r, p, g, q, u, hT, e, (⟨_, _, z⟩ | ⟨b, t, rfl, _, rfl, hy⟩ | ⟨b, b', t, m, rfl, ht, hm, rfl, hy⟩)⟩) ih ih2
      · exact nomatch z
      · exact nomatch z
      · exact absurd (congrArg List.length hy) (by simp)
      · have hy0 := hy
        injection hy with hy hy2
        subst hy
        have hr := sy_YT_rg ok _ _ ih
        exact sa_d2 (Or.inr ⟨r, p, g, q, [b, b'], hT, e, Or.inr (Or.inr ⟨b, b', t, m, rfl, by omega, hr, rfl, hy0⟩)⟩) ih ih2
  · intro d
    have h := d (fun c n => 1 ≤ c.2.1 → c.2.2 < nN ∧ sa_Drv (sy_In (sy_XTl E) (sy_XTr nN T)) c n) ?_ ?_ ?_
    · exact (h hg).2
    · rintro x k (⟨h1, h2, (he | ⟨e0, _⟩)⟩ | ⟨r, p, g, q, u, hT, e, (⟨rfl, rfl, _⟩ | ⟨b, t, _, _, _, z⟩ | ⟨b, b', t, m, _, _, _, _, z⟩)⟩) hx
      · exact ⟨(ok.2.1 _ _ _ he).2.2.2.2, sa_d0 (Or.inl ⟨h1, h2, he⟩)⟩
      · omega
      · have h1 := ok.1 _ _ _ _ _ hT
        exact ⟨by show q < nN; omega, sa_d0 (Or.inr ⟨r, p, g, q, [], hT, e, Or.inl ⟨rfl, rfl, rfl⟩⟩)⟩
      · exact nomatch z
      · exact nomatch z
    · rintro x y k n (⟨z, _, _⟩ | ⟨r, p, g, q, u, hT, e, (⟨_, _, z⟩ | ⟨b, t, rfl, ht, rfl, hy⟩ | ⟨b, b', t, m, _, _, _, _, z⟩)⟩) ih hx
      · exact nomatch z
      · exact nomatch z
      · have h1 := ok.1 _ _ _ _ _ hT
        rcases h1.2.2.2.2.2 with z | ⟨a, hu, ha, _⟩ | ⟨a, b, z, _⟩
        · exact nomatch z
        · injection hu with hu _
          subst hu
          have hy0 := hy
          injection hy with hy _
          subst hy
          have h2 := ih ha
          exact ⟨h2.1, sa_d1 (Or.inr ⟨r, p, g, q, [b], hT, e, Or.inr (Or.inl ⟨b, t, rfl, h2.1, rfl, hy0⟩)⟩) h2.2⟩
        · exact absurd (congrArg List.length z) (by simp)
      · exact absurd (congrArg List.length z) (by simp)
    · rintro x y z k n n' (⟨z, _, _⟩ | ⟨r, p, g, q, u, hT, e, (⟨_, _, z⟩ | ⟨b, t, rfl, _, rfl, hy⟩ | ⟨b, b', t, m, rfl, ht, hm, rfl, hy⟩)⟩) ih ih2 hx
      · exact nomatch z
      · exact nomatch z
      · exact absurd (congrArg List.length hy) (by simp)
      · have h1 := ok.1 _ _ _ _ _ hT
        rcases h1.2.2.2.2.2 with z | ⟨a, z, _⟩ | ⟨a, a', hu, ha, _, ha', _⟩
        · exact nomatch z
        · exact absurd (congrArg List.length z) (by simp)
        · injection hu with hu hu2
          injection hu2 with hu2 _
          subst hu hu2
          have hy0 := hy
          injection hy with hy hy2
          injection hy2 with hy2 _
          subst hy hy2
          have h2 := ih ha
          have h3 := ih2 ha'
          have h24 : m < 24 := Nat.lt_of_lt_of_le h2.1 (by omega)
          exact ⟨h3.1, sa_d2 (Or.inr ⟨r, p, g, q, [b, b'], hT, e, Or.inr (Or.inr ⟨b, b', t, m, rfl, h3.1, h24, rfl, hy0⟩)⟩) h2.2 h3.2⟩
/-- what may be written -/
def sy_XW (c : sa_C) : Prop := c.1 < 24 ∧ c.2.1 < 5 ∧ c.2.2 < 24
def sy_YW (c : sa_C) : Prop := (c.1 < 4 ∨ (8 ≤ c.1 ∧ c.1 < 20)) ∧ c.2.1 < 5 ∧ c.2.2 < 21
def sy_XL : List sa_C := (List.range 24).flatMap fun f => (List.range 5).flatMap fun g => (List.range 24).map fun t => (f, g, t)
def sy_YL : List sa_C := ((List.range 4) ++ (List.range 12).map (fun i => 8 + i)).flatMap fun f => (List.range 5).flatMap fun g => (List.range 21).map fun t => (f, g, t)
theorem sy_XL_in (c : sa_C) (h : sy_XW c) : c ∈ sy_XL := by
  obtain ⟨f, g, t⟩ := c
  obtain ⟨h1, h2, h3⟩ := h
  unfold sy_XL
  refine List.mem_flatMap.mpr ⟨f, List.mem_range.mpr h1, List.mem_flatMap.mpr ⟨g, List.mem_range.mpr h2, List.mem_map.mpr ⟨t, List.mem_range.mpr h3, rfl⟩⟩⟩
theorem sy_YL_in (c : sa_C) (h : sy_YW c) : c ∈ sy_YL := by
  obtain ⟨f, g, t⟩ := c
  obtain ⟨h1, h2, h3⟩ := h
  unfold sy_YL
  refine List.mem_flatMap.mpr ⟨f, ?_, List.mem_flatMap.mpr ⟨g, List.mem_range.mpr h2, List.mem_map.mpr ⟨t, List.mem_range.mpr h3, rfl⟩⟩⟩
  rcases h1 with h1 | ⟨h1, h4⟩
  · exact List.mem_append_left _ (List.mem_range.mpr h1)
  · refine List.mem_append_right _ (List.mem_map.mpr ⟨f - 8, List.mem_range.mpr ?_, ?_⟩)
    · have : f < 20 := h4
      omega
    · have : 8 ≤ f := h1
      omega
theorem sy_XL_len : sy_XL.length = 2880 := by decide +kernel
theorem sy_YL_len : sy_YL.length = 1680 := by decide +kernel
theorem sy_IM_ok {tb mb x a y : Nat} {u : List Nat} {j : Nat} {c : sa_C} {ys : List sa_C} {j' : Nat} (h : sy_IM tb mb x a y u j c ys j') (hj : j ≤ 1) (hu : u = [] ∨ j = 1) : j' ≤ 1 ∧ (ys = [] ∨ (j' = 1 ∧ ys.length ≤ 2)) := by
  obtain ⟨rfl, (⟨_, _, rfl⟩ | ⟨b, t, rfl, _, _, rfl⟩ | ⟨b, b', t, m, rfl, _, _, _, rfl⟩)⟩ := h
  · exact ⟨hj, Or.inl rfl⟩
  · refine ⟨hj, Or.inr ⟨?_, by simp⟩⟩
    rcases hu with z | z
    · exact nomatch z
    · exact z
  · refine ⟨hj, Or.inr ⟨?_, by simp⟩⟩
    rcases hu with z | z
    · exact nomatch z
    · exact z
theorem sy_IM_c {tb mb x a y : Nat} {u : List Nat} {j : Nat} {c : sa_C} {ys : List sa_C} {j' : Nat} (h : sy_IM tb mb x a y u j c ys j') : c.1 = x ∧ c.2.1 = a ∧ (c.2.2 = y ∨ c.2.2 < tb) := by
  obtain ⟨_, (⟨_, rfl, _⟩ | ⟨b, t, _, ht, rfl, _⟩ | ⟨b, b', t, m, _, ht, _, rfl, _⟩)⟩ := h
  · exact ⟨rfl, rfl, Or.inl rfl⟩
  · exact ⟨rfl, rfl, Or.inr ht⟩
  · exact ⟨rfl, rfl, Or.inr ht⟩
theorem sy_XT_ok (ok : sy_ok nS nG nN nR T E F) : sa_OK (sy_In (sy_XTl E) (sy_XTr nN T)) sy_XW := by
  rintro x ys k (⟨rfl, rfl, _⟩ | ⟨r, p, g, q, u, hT, h⟩)
  · exact ⟨by omega, Or.inl rfl, Or.inr ⟨rfl, rfl⟩⟩
  · have h1 := ok.1 _ _ _ _ _ hT
    have h2 := sy_IM_ok h (by omega) (Or.inr rfl)
    have h3 := sy_IM_c h
    have hS : nS ≤ 4 := ok.2.2.2.2.1
    have hG : nG ≤ 4 := ok.2.2.2.2.2.2.1
    have hN : nN ≤ 8 := ok.2.2.2.2.2.2.2.2.1
    exact ⟨h2.1, h2.2, Or.inl ⟨by omega, by omega, by omega⟩⟩
theorem sy_src_lt (ok : sy_ok nS nG nN nR T E F) {r p g q : Nat} {u : List Nat} (hT : T r = some (p, g, q, u)) : sy_src q u < 24 ∧ sy_lab u < 5 := by
  have h1 := ok.1 _ _ _ _ _ hT
  have hS : nS ≤ 4 := ok.2.2.2.2.1
  have hG : nG ≤ 4 := ok.2.2.2.2.2.2.1
  rcases h1.2.2.2.2.2 with rfl | ⟨a, rfl, _, _⟩ | ⟨a, b, rfl, _, _, _, _⟩
  · exact ⟨by show q < 24; omega, by show 0 < 5; omega⟩
  · exact ⟨by show q < 24; omega, by show a < 5; omega⟩
  · exact ⟨by show sy_mid q a < 24; unfold sy_mid; omega, by show b < 5; omega⟩
theorem sy_XF_ok (ok : sy_ok nS nG nN nR T E F) : sa_OK (sy_In (sy_XFl T E) (sy_XFr T)) sy_XW := by
  rintro x ys k (⟨rfl, rfl, _⟩ | ⟨r, p, g, q, u, hT, h⟩)
  · exact ⟨by omega, Or.inl rfl, Or.inr ⟨rfl, rfl⟩⟩
  · have h1 := ok.1 _ _ _ _ _ hT
    have hs := sy_src_lt ok hT
    have hS : nS ≤ 4 := ok.2.2.2.2.1
    rcases h with h | h
    · have h2 := sy_IM_ok h (by omega) (Or.inr rfl)
      have h3 := sy_IM_c h
      exact ⟨h2.1, h2.2, Or.inl ⟨by omega, by omega, by omega⟩⟩
    · have h2 := sy_IM_ok h (by omega) (Or.inr rfl)
      have h3 := sy_IM_c h
      exact ⟨h2.1, h2.2, Or.inl ⟨by omega, by omega, by omega⟩⟩
theorem sy_YT_ok (ok : sy_ok nS nG nN nR T E F) : sa_OK (sy_In (sy_Yl E F) (sy_YTr T)) sy_YW := by
  rintro x ys k (⟨rfl, rfl, _⟩ | ⟨r, p, g, q, u, hT, h⟩)
  · exact ⟨by omega, Or.inl rfl, Or.inr ⟨rfl, rfl⟩⟩
  · have h1 := ok.1 _ _ _ _ _ hT
    have h2 := sy_IM_ok h (by omega) (Or.inr rfl)
    have h3 := sy_IM_c h
    have hS : nS ≤ 4 := ok.2.2.2.2.1
    have hG : nG ≤ 4 := ok.2.2.2.2.2.2.1
    exact ⟨h2.1, h2.2, Or.inl ⟨by omega, by omega, by omega⟩⟩
theorem sy_YF_ok (ok : sy_ok nS nG nN nR T E F) : sa_OK (sy_In (sy_Yl E F) (sy_YFr nG T)) sy_YW := by
  rintro x ys k (⟨rfl, rfl, _⟩ | ⟨r, p, g, q, u, hT, h⟩)
  · exact ⟨by omega, Or.inl rfl, Or.inr ⟨rfl, rfl⟩⟩
  · have h1 := ok.1 _ _ _ _ _ hT
    have hS : nS ≤ 4 := ok.2.2.2.2.1
    have hG : nG ≤ 4 := ok.2.2.2.2.2.2.1
    have hR : nR ≤ 12 := ok.2.2.2.2.2.2.2.2.2.2
    have hw := h1.2.2.2.2.2
    rcases h with ⟨_, e, he, h⟩ | ⟨a, rfl, h⟩ | ⟨a, b, rfl, (h | h)⟩
    · have h2 := sy_IM_ok h (by omega) (Or.inr rfl)
      have h3 := sy_IM_c h
      exact ⟨h2.1, h2.2, Or.inl ⟨by omega, by omega, by omega⟩⟩
    · have h2 := sy_IM_ok h (by omega) (Or.inr rfl)
      have h3 := sy_IM_c h
      rcases hw with z | ⟨a', hu, _, _⟩ | ⟨a', b', z, _⟩
      · exact nomatch z
      · injection hu with hu _
        subst hu
        exact ⟨h2.1, h2.2, Or.inl ⟨by omega, by omega, by omega⟩⟩
      · exact absurd (congrArg List.length z) (by simp)
    · have h2 := sy_IM_ok h (by omega) (Or.inl rfl)
      have h3 := sy_IM_c h
      rcases hw with z | ⟨a', z, _, _⟩ | ⟨a', b', hu, _, _, _, _⟩
      · exact nomatch z
      · exact absurd (congrArg List.length z) (by simp)
      · injection hu with hu hu2
        injection hu2 with hu2 _
        subst hu hu2
        exact ⟨h2.1, h2.2, Or.inl ⟨by omega, by omega, by omega⟩⟩
    · have h2 := sy_IM_ok h (by omega) (Or.inr rfl)
      have h3 := sy_IM_c h
      rcases hw with z | ⟨a', z, _, _⟩ | ⟨a', b', hu, _, _, _, _⟩
      · exact nomatch z
      · exact absurd (congrArg List.length z) (by simp)
      · injection hu with hu hu2
        injection hu2 with hu2 _
        subst hu hu2
        exact ⟨h2.1, h2.2, Or.inl ⟨by omega, by omega, by omega⟩⟩
end
end
section
/-! the chosen shortest run -/
abbrev tr_C : Type := Nat × List Nat
def tr_Ft (fw : Bool) (T : sy_T) (r : Nat) (c c' : tr_C) : Prop := match fw with
  | true => ∃ g u v, T r = some (c.1, g, c'.1, u) ∧ c.2 = g :: v ∧ c'.2 = u ++ v
  | false => ∃ g u v, T r = some (c'.1, g, c.1, u) ∧ c.2 = u ++ v ∧ c'.2 = g :: v
def tr_V (fw : Bool) (T : sy_T) (E : sy_E) (F : sy_F) (c : tr_C) (n : Nat) : Prop := match fw with
  | true => sy_To T E F n c.1 c.2
  | false => sy_Fr T E F n c.1 c.2
theorem tr_V_s {fw : Bool} {T : sy_T} {E : sy_E} {F : sy_F} {c : tr_C} {n : Nat} : tr_V fw T E F c (n + 1) ↔ ∃ r c', tr_Ft fw T r c c' ∧ tr_V fw T E F c' n := by
  cases fw with
  | true =>
    constructor
    · rintro ⟨r, g, q, u, v, hT, hw, h⟩
      exact ⟨r, (q, u ++ v), ⟨g, u, v, hT, hw, rfl⟩, h⟩
    · rintro ⟨r, ⟨q, w'⟩, ⟨g, u, v, hT, hw, hw'⟩, h⟩
      refine ⟨r, g, q, u, v, hT, hw, ?_⟩
      rw [← hw']; exact h
  | false =>
    constructor
    · rintro ⟨r, p, g, u, v, hT, hw, h⟩
      exact ⟨r, (p, g :: v), ⟨g, u, v, hT, hw, rfl⟩, h⟩
    · rintro ⟨r, ⟨p, w'⟩, ⟨g, u, v, hT, hw, hw'⟩, h⟩
      refine ⟨r, p, g, u, v, hT, hw, ?_⟩
      rw [← hw']; exact h
def tr_ok (nS nG : Nat) (c : tr_C) : Prop := c.1 < nS ∧ ∀ a, a ∈ c.2 → 1 ≤ a ∧ a ≤ nG
def tr_Nx (fw : Bool) (T : sy_T) (E : sy_E) (F : sy_F) (k : Nat) (c : tr_C) (r : Nat) (c' : tr_C) : Prop := tr_Ft fw T r c c' ∧ wc_Ls (tr_V fw T E F c') k ∧ ∀ r' c'', r' < r → tr_Ft fw T r' c c'' → ¬ wc_Ls (tr_V fw T E F c'') k
section
variable {nS nG nN nR : Nat} {T : sy_T} {E : sy_E} {F : sy_F}
theorem sy_wd_in {u : List Nat} (h : sy_wd nG u) : u.length ≤ 2 ∧ ∀ a, a ∈ u → 1 ≤ a ∧ a ≤ nG := by
  rcases h with rfl | ⟨a, rfl, h⟩ | ⟨a, b, rfl, h1, h2, h3, h4⟩
  · exact ⟨by simp, fun a ha => absurd ha List.not_mem_nil⟩
  · exact ⟨by simp, fun x hx => by rw [List.mem_singleton.mp hx]; exact h⟩
  · refine ⟨by simp, fun x hx => ?_⟩
    rcases List.mem_cons.mp hx with rfl | hx
    · exact ⟨h1, h2⟩
    · rw [List.mem_singleton.mp hx]; exact ⟨h3, h4⟩
theorem tr_Ft_ok (ok : sy_ok nS nG nN nR T E F) {fw : Bool} {r : Nat} {c c' : tr_C} (h : tr_Ft fw T r c c') (hc : tr_ok nS nG c) : tr_ok nS nG c' ∧ c'.2.length ≤ c.2.length + 1 ∧ r < nR := by
  cases fw with
  | true =>
    obtain ⟨g, u, v, hT, hw, hw'⟩ := h
    have h1 := ok.1 _ _ _ _ _ hT
    have h2 := sy_wd_in h1.2.2.2.2.2
    refine ⟨⟨h1.2.2.2.2.1, ?_⟩, ?_, h1.1⟩
    · intro a ha
      rw [hw'] at ha
      rcases List.mem_append.mp ha with ha | ha
      · exact h2.2 a ha
      · exact hc.2 a (by rw [hw]; exact List.mem_cons_of_mem _ ha)
    · rw [hw', hw, List.length_append, List.length_cons]
      have := h2.1
      omega
  | false =>
    obtain ⟨g, u, v, hT, hw, hw'⟩ := h
    have h1 := ok.1 _ _ _ _ _ hT
    refine ⟨⟨h1.2.1, ?_⟩, ?_, h1.1⟩
    · intro a ha
      rw [hw'] at ha
      rcases List.mem_cons.mp ha with rfl | ha
      · exact ⟨h1.2.2.1, h1.2.2.2.1⟩
      · exact hc.2 a (by rw [hw]; exact List.mem_append_right _ ha)
    · rw [hw', hw, List.length_append, List.length_cons]
      omega
theorem tr_Ft_fn {fw : Bool} {r : Nat} {c c' c'' : tr_C} (h : tr_Ft fw T r c c') (h' : tr_Ft fw T r c c'') : c' = c'' := by
  obtain ⟨p, w⟩ := c
  obtain ⟨p', w'⟩ := c'
  obtain ⟨p'', w''⟩ := c''
  cases fw with
  | true =>
    obtain ⟨g, u, v, hT, hw, hw'⟩ := h
    obtain ⟨g2, u2, v2, hT2, hw2, hw2'⟩ := h'
    rw [hT] at hT2
    injection hT2 with e
    injection e with _ e
    injection e with _ e
    injection e with e1 e2
    dsimp only at hw hw2 hw' hw2' e1 e2
    rw [hw] at hw2
    injection hw2 with _ e3
    rw [hw', hw2', e2, e3, e1]
  | false =>
    obtain ⟨g, u, v, hT, hw, hw'⟩ := h
    obtain ⟨g2, u2, v2, hT2, hw2, hw2'⟩ := h'
    rw [hT] at hT2
    injection hT2 with e
    injection e with e0 e
    injection e with e1 e
    injection e with _ e2
    dsimp only at hw hw2 hw' hw2' e0 e1 e2
    rw [hw, e2] at hw2
    have e3 := List.append_cancel_left hw2
    rw [hw', hw2', e0, e1, e3]
theorem tr_Nx_ex {fw : Bool} {k : Nat} {c : tr_C} (h : wc_Ls (tr_V fw T E F c) (k + 1)) : ∃ r c', tr_Nx fw T E F k c r c' := by
  obtain ⟨hv, hl⟩ := h
  obtain ⟨r0, c0, hf, h0⟩ := tr_V_s.mp hv
  have hle : ∀ r c', tr_Ft fw T r c c' → ∀ n, tr_V fw T E F c' n → k ≤ n := by
    intro r c' hf n hn
    have := hl (n + 1) (tr_V_s.mpr ⟨r, c', hf, hn⟩)
    omega
  obtain ⟨r, ⟨c', h1, h2⟩, h3⟩ := pk_least (fun r => ∃ c', tr_Ft fw T r c c' ∧ wc_Ls (tr_V fw T E F c') k) ⟨r0, c0, hf, h0, hle r0 c0 hf⟩
  exact ⟨r, c', h1, h2, fun r' c'' hr hf' hls => h3 r' hr ⟨c'', hf', hls⟩⟩
theorem tr_seq {fw : Bool} : ∀ (len : Nat) (c : tr_C), wc_Ls (tr_V fw T E F c) len → ∃ (C : Nat → tr_C) (R : Nat → Nat), C 0 = c ∧ ∀ i, i < len → tr_Nx fw T E F (len - 1 - i) (C i) (R i) (C (i + 1))
  | 0, c, _ => ⟨fun _ => c, fun _ => 0, rfl, fun i hi => absurd hi (Nat.not_lt_zero i)⟩
  | k + 1, c, h => by
    obtain ⟨r, c', hn⟩ := tr_Nx_ex h
    obtain ⟨C, R, h0, hs⟩ := tr_seq k c' hn.2.1
    refine ⟨fun i => match i with | 0 => c | j + 1 => C j, fun i => match i with | 0 => r | j + 1 => R j, rfl, ?_⟩
    intro i hi
    cases i with
    | zero =>
      show tr_Nx fw T E F (k + 1 - 1 - 0) c r (C 0)
      rw [h0]
      exact hn
    | succ j =>
      show tr_Nx fw T E F (k + 1 - 1 - (j + 1)) (C j) (R j) (C (j + 1))
      have e : k + 1 - 1 - (j + 1) = k - 1 - j := by omega
      rw [e]
      exact hs j (by omega)
theorem tr_seq_ok (ok : sy_ok nS nG nN nR T E F) {fw : Bool} {len : Nat} {C : Nat → tr_C} {R : Nat → Nat} (hc : tr_ok nS nG (C 0)) (h : ∀ i, i < len → tr_Nx fw T E F (len - 1 - i) (C i) (R i) (C (i + 1))) : ∀ i, i ≤ len → tr_ok nS nG (C i) ∧ (C i).2.length ≤ (C 0).2.length + i
  | 0, _ => ⟨hc, Nat.le_refl _⟩
  | i + 1, hi => by
    have ih := tr_seq_ok ok hc h i (by omega)
    have h1 := tr_Ft_ok ok (h i (by omega)).1 ih.1
    exact ⟨h1.1, by omega⟩
end
end
section
/-! how the arrays hold the system -/
def st_b (b : Bool) : Int32 := if b = true then 1 else 0
theorem st_nar (b : Bool) : vp_nar .boolean (st_b b) = st_b b := by cases b <;> rfl
theorem st_nrw (b : Bool) : narrow .boolean (.int (st_b b)) = .int (st_b b) := by cases b <;> rfl
theorem st_b0 {b : Bool} : st_b b = 0 ↔ b = false := by cases b <;> decide
theorem st_b1 {b : Bool} : ¬ st_b b = 0 ↔ b = true := by cases b <;> decide
theorem st_bj {a b : Bool} : st_b a = st_b b ↔ a = b := by cases a <;> cases b <;> decide
theorem st_bz (v : Int32) : ∃ b, lw_bz v = st_b b := by
  rcases lw_bz_01 v with h | h
  · exact ⟨false, h⟩
  · exact ⟨true, h⟩
def st_cd : List Nat → Nat
  | [] => 0
  | [a] => a
  | [a, b] => 10 * a + b
  | _ => 0
def st_tp : List Nat → Nat
  | [] => 0
  | a :: _ => a
def st_bl : List Nat → Nat
  | [_, b] => b
  | _ => 0
/-- a stack, top first, lies in A from b upwards -/
def st_Stk (A : Nat → Int32) (b : Nat) : List Nat → Prop
  | [] => True
  | a :: w => A (b + w.length) = nI a ∧ st_Stk A b w
theorem st_stk_cg {A A' : Nat → Int32} {b b' : Nat} : ∀ {w : List Nat}, (∀ i, i < w.length → A' (b' + i) = A (b + i)) → st_Stk A b w → st_Stk A' b' w
  | [], _, _ => trivial
  | a :: w, h, ⟨h1, h2⟩ => ⟨by rw [h w.length (by simp), h1], st_stk_cg (fun i hi => h i (by simp only [List.length_cons]; omega)) h2⟩
theorem st_stk_u {A : Nat → Int32} {b k : Nat} {x : Int32} {w : List Nat} (hk : k < b ∨ b + w.length ≤ k) (h : st_Stk A b w) : st_Stk (upd A k x) b w :=
  st_stk_cg (fun i hi => pk_un (by omega)) h
theorem st_stk_push {A : Nat → Int32} {b k a : Nat} {w : List Nat} (hk : k = b + w.length) (h : st_Stk A b w) : st_Stk (upd A k (nI a)) b (a :: w) := by
  subst hk
  exact ⟨pk_us, st_stk_u (Or.inr (Nat.le_refl _)) h⟩
theorem st_stk_get {A : Nat → Int32} {b : Nat} : ∀ {w : List Nat}, st_Stk A b w → ∀ k, k < w.length → A (b + (w.length - 1 - k)) = nI (w.getD k 0)
  | [], _, k, hk => absurd hk (by simp)
  | a :: w, ⟨h1, h2⟩, 0, _ => by
    show A (b + (w.length + 1 - 1 - 0)) = nI a
    rw [← h1]
    exact congrArg A (by omega)
  | a :: w, ⟨h1, h2⟩, k + 1, hk => by
    have := st_stk_get h2 k (by simp only [List.length_cons] at hk; omega)
    show A (b + (w.length + 1 - 1 - (k + 1))) = nI (w.getD k 0)
    rw [← this]
    exact congrArg A (by omega)
/-- a list's suffix under v -/
theorem st_stk_app {A : Nat → Int32} {b : Nat} : ∀ {u v : List Nat}, st_Stk A b (u ++ v) → st_Stk A b v
  | [], _, h => h
  | _ :: _, _, h => st_stk_app h.2
def xr_Ru (T : sy_T) (us fr sy to tp bl : Nat → Int32) : Prop := ∀ r, r < 12 → (T r = none → us r = 0) ∧ (∀ p g q u, T r = some (p, g, q, u) → us r = 1 ∧ fr r = nI p ∧ sy r = nI g ∧ to r = nI q ∧ tp r = nI (st_tp u) ∧ bl r = nI (st_bl u))
def yr_Ru (T : sy_T) (us fr sy to wd : Nat → Int32) : Prop := ∀ r, r < 12 → (T r = none → us r = 0) ∧ (∀ p g q u, T r = some (p, g, q, u) → us r = 1 ∧ fr r = nI p ∧ sy r = nI g ∧ to r = nI q ∧ wd r = nI (st_cd u))
def xr_Ed (E : sy_E) (A : Nat → Int32) : Prop := ∀ f g t, f < 8 → 1 ≤ g → g ≤ 4 → t < 8 → A ((f * 4 + g - 1) * 8 + t) = st_b (E f g t)
def yr_Ed (E : sy_E) (A : Nat → Int32) : Prop := ∀ f g t, f < 8 → 1 ≤ g → g ≤ 4 → t < 8 → A ((f * 5 + g) * 8 + t) = st_b (E f g t)
def xr_Fi (F : sy_F) (A : Nat → Int32) : Prop := ∀ f, f < 24 → A f = st_b (F f)
def yr_Fi (F : sy_F) (A : Nat → Int32) : Prop := ∀ f, f < 8 → A f = st_b (F f)
/-- a table of weights, K nodes, way d -/
def wa_R (K d : Nat) (A : Nat → Int32) (W : sa_C → Nat) : Prop := ∀ f g t, f < K → g < 5 → t < K → A (((d * K + f) * 5 + g) * K + t) = nI (W (f, g, t))
theorem wa_inj {K d f g t f' g' t' : Nat} (hK : K = 24 ∨ K = 21) (hg : g < 5) (hg' : g' < 5) (ht : t < K) (ht' : t' < K) (h : ((d * K + f) * 5 + g) * K + t = ((d * K + f') * 5 + g') * K + t') : f = f' ∧ g = g' ∧ t = t' := by
  rcases hK with rfl | rfl <;> omega
theorem wa_u {K d : Nat} {A : Nat → Int32} {W : sa_C → Nat} {f g t v : Nat} (hK : K = 24 ∨ K = 21) (hg : g < 5) (ht : t < K) (h : wa_R K d A W) : wa_R K d (upd A (((d * K + f) * 5 + g) * K + t) (nI v)) (sa_cu W (f, g, t) v) := by
  intro f' g' t' hf' hg' ht'
  by_cases e : f' = f ∧ g' = g ∧ t' = t
  · obtain ⟨rfl, rfl, rfl⟩ := e
    rw [pk_us, sa_cu_s]
  · rw [sa_cu_n (by intro z; injection z with z1 z; injection z with z2 z3; exact e ⟨z1, z2, z3⟩), pk_un]
    · exact h f' g' t' hf' hg' ht'
    · intro z
      exact e (wa_inj hK hg' hg ht' ht z)
theorem wa_o {K d d' : Nat} {A : Nat → Int32} {W : sa_C → Nat} {f g t : Nat} {x : Int32} (hK : K = 24 ∨ K = 21) (hd : d ≠ d') (hf : f < K) (hg : g < 5) (ht : t < K) (h : wa_R K d' A W) : wa_R K d' (upd A (((d * K + f) * 5 + g) * K + t) x) W := by
  intro f' g' t' hf' hg' ht'
  rw [pk_un]
  · exact h f' g' t' hf' hg' ht'
  · rcases hK with rfl | rfl <;> omega
/-- the other half is as it was -/
def wa_K (K d : Nat) (A A' : Nat → Int32) : Prop := ∀ i, (i < d * (K * 5 * K) ∨ (d + 1) * (K * 5 * K) ≤ i) → A' i = A i
theorem wa_K_r {K d : Nat} {A : Nat → Int32} : wa_K K d A A := fun _ _ => rfl
theorem wa_K_t {K d : Nat} {A A' A'' : Nat → Int32} (h : wa_K K d A A') (h' : wa_K K d A' A'') : wa_K K d A A'' := fun i hi => (h' i hi).trans (h i hi)
theorem wa_K_u {K d : Nat} {A : Nat → Int32} {f g t : Nat} {x : Int32} (hK : K = 24 ∨ K = 21) (hf : f < K) (hg : g < 5) (ht : t < K) : wa_K K d A (upd A (((d * K + f) * 5 + g) * K + t) x) := by
  intro i hi
  rw [pk_un]
  rcases hK with rfl | rfl <;> omega
theorem wa_K_o {K d d' : Nat} {A A' : Nat → Int32} {W : sa_C → Nat} (hK : K = 24 ∨ K = 21) (hd : d ≠ d') (k : wa_K K d A A') (h : wa_R K d' A W) : wa_R K d' A' W := by
  intro f g t hf hg ht
  rw [k]
  · exact h f g t hf hg ht
  · rcases hK with rfl | rfl <;> omega
/-- indices -/
theorem ix_w (K d f g t : Nat) : ((((nI (d + 1) - 1) * nI K + nI f) * 5 + nI g) * nI K + nI t) = nI (((d * K + f) * 5 + g) * K + t) := by
  show ((((nI (d + 1) - 1) * nI K + nI f) * nI 5 + nI g) * nI K + nI t) = _
  rw [nI_pred, pk_mul, nI_add, pk_mul, nI_add, pk_mul, nI_add]
end
section
/-! X: weights, sums, least sums, one lowering -/
theorem wc_mn_k {B : Nat} {f : Nat → Nat} {m : Nat} (h : wc_mn B f m ≤ f m) : wc_mn B f (m + 1) = wc_mn B f m := if_pos h
theorem wc_mn_t {B : Nat} {f : Nat → Nat} {m : Nat} (h : f m < wc_mn B f m) : wc_mn B f (m + 1) = f m := if_neg (Nat.not_le.mpr h)
/-- the best weight of a word of at most two symbols -/
def sy_bst (B mb : Nat) (W : sa_C → Nat) (y : Nat) : List Nat → Nat → Nat
  | [], t => if y = t then 0 else B
  | [b], t => W (y, b, t)
  | [b, b'], t => wc_mn B (fun m => wc_pl B (W (y, b, m)) (W (m, b', t))) mb
  | _ :: _ :: _ :: _, _ => B
theorem sy_bst_i {B tb mb x a y j t : Nat} {W : sa_C → Nat} {u : List Nat} (hB : 256 < B) (hR : sa_Rg B W) (hj : j ≤ 1) (ht : t < tb) (hv : wc_pl B (sy_bst B mb W y u t) j < W (x, a, t)) : ∃ ys j', sy_IM tb mb x a y u j (x, a, t) ys j' ∧ wc_pl B (sy_bst B mb W y u t) j = sa_iv B W ys j' := by
  have hle : W (x, a, t) ≤ B := by have := hR (x, a, t); omega
  match u, hv with
  | [], hv =>
    by_cases e : y = t
    · subst e
      refine ⟨[], j, ⟨rfl, Or.inl ⟨rfl, rfl, rfl⟩⟩, ?_⟩
      show wc_pl B (if y = y then 0 else B) j = j
      rw [if_pos rfl]
      unfold wc_pl
      rw [if_neg (by omega), if_pos (by omega), if_pos (by omega)]
      omega
    · exfalso
      have : wc_pl B (if y = t then 0 else B) j < W (x, a, t) := hv
      rw [if_neg e, wc_pl_B] at this
      omega
  | [b], hv => exact ⟨[(y, b, t)], j, ⟨rfl, Or.inr (Or.inl ⟨b, t, rfl, ht, rfl, rfl⟩)⟩, rfl⟩
  | [b, b'], hv =>
    have hv' : wc_pl B (wc_mn B (fun m => wc_pl B (W (y, b, m)) (W (m, b', t))) mb) j < W (x, a, t) := hv
    rcases wc_mn_or B (fun m => wc_pl B (W (y, b, m)) (W (m, b', t))) mb with e | ⟨m, hm, e⟩
    · exfalso
      rw [e, wc_pl_B] at hv'
      omega
    · refine ⟨[(y, b, m), (m, b', t)], j, ⟨rfl, Or.inr (Or.inr ⟨b, b', t, m, rfl, ht, hm, rfl, rfl⟩)⟩, ?_⟩
      show wc_pl B (wc_mn B (fun m => wc_pl B (W (y, b, m)) (W (m, b', t))) mb) j = wc_pl B (wc_pl B (W (y, b, m)) (W (m, b', t))) j
      rw [e]
  | _ :: _ :: _ :: _, hv =>
    exfalso
    have : wc_pl B B j < W (x, a, t) := hv
    rw [wc_pl_B] at this
    omega
theorem sy_bst_e {B tb mb x a y j t : Nat} {W : sa_C → Nat} {u : List Nat} {c : sa_C} {ys : List sa_C} {j' : Nat} (hB : 256 < B) (hj : j ≤ 1) (h : sy_IM tb mb x a y u j c ys j') (ht : c.2.2 = t) : wc_pl B (sy_bst B mb W y u t) j ≤ sa_iv B W ys j' := by
  obtain ⟨rfl, (⟨rfl, rfl, rfl⟩ | ⟨b, t', rfl, _, rfl, rfl⟩ | ⟨b, b', t', m, rfl, _, hm, rfl, rfl⟩)⟩ := h
  · have ht' : y = t := ht
    show wc_pl B (if y = t then 0 else B) j' ≤ j'
    rw [if_pos ht']
    unfold wc_pl
    rw [if_neg (by omega), if_pos (by omega), if_pos (by omega)]
    omega
  · have ht' : t' = t := ht
    subst ht'
    exact Nat.le_refl _
  · have ht' : t' = t := ht
    subst ht'
    exact wc_pl_mono hB (wc_mn_le B (fun m => wc_pl B (W (y, b, m)) (W (m, b', t'))) mb m hm) (Nat.le_refl _)
theorem sy_bst_r {B mb y t : Nat} {W : sa_C → Nat} {u : List Nat} (hB : 256 < B) (hR : sa_Rg B W) : sy_bst B mb W y u t ≤ B := by
  match u with
  | [] =>
    show (if y = t then 0 else B) ≤ B
    split <;> omega
  | [b] =>
    show W (y, b, t) ≤ B
    have := hR (y, b, t)
    omega
  | [b, b'] => exact wc_mn_B _ _ _
  | _ :: _ :: _ :: _ => exact Nat.le_refl _
theorem wc_pl_le {B a b : Nat} (hB : 256 < B) : wc_pl B a b ≤ B := by
  have := @wc_pl_rg B a b hB
  omega
section
variable {nS nG nN nR : Nat} {f_unreached f_hereState f_hereHeight f_toSolved f_fromSolved f_toCount f_fromCount f_traceSize f_workState f_workHeight : Int32} {a_ruleUsed a_ruleFrom a_ruleSymbol a_ruleTo a_ruleTop a_ruleBelow a_edges a_finals a_hereStack a_weights a_traceRules a_traceStates a_traceHeights a_traceStacks a_workStack a_vector a_nextVector a_marked a_nextMarked : Nat → Int32}
theorem xw_of {post : Int32 → Prop} {d f g t : Nat} {v : Int32} (hd : d < 2) (hf : f < 24) (hg : g < 5) (ht : t < 24) (hv : a_weights (((d * 24 + f) * 5 + g) * 24 + t) = v) (h : post v) : wpX_weightOf post (f_unreached, nI nS, nI nG, nI nN, nI nR, f_hereState, f_hereHeight, f_toSolved, f_fromSolved, f_toCount, f_fromCount, f_traceSize, f_workState, f_workHeight, a_ruleUsed, a_ruleFrom, a_ruleSymbol, a_ruleTo, a_ruleTop, a_ruleBelow, a_edges, a_finals, a_hereStack, a_weights, a_traceRules, a_traceStates, a_traceHeights, a_traceStacks, a_workStack, a_vector, a_nextVector, a_marked, a_nextMarked) (nI (d + 1)) (nI f) (nI g) (nI t) := by
  unfold wpX_weightOf wpX_weightIndex
  dsimp only
  rw [show (((((((nI (d + 1) - 1) * 24) + nI f) * 5) + nI g) * 24) + nI t) = nI (((d * 24 + f) * 5 + g) * 24 + t) from ix_w 24 d f g t]
  refine ⟨vp_in_nI (by omega) (by omega), ?_⟩
  rw [nI_clamp (by omega), hv]
  exact h
theorem xw_plus {post : Int32 → Prop} (a b : Nat) (ha : a ≤ 1000000) (hb : b ≤ 1000000) (h : post (nI (wc_pl 1000000 a b))) : wpX_plus post (f_unreached, nI nS, nI nG, nI nN, nI nR, f_hereState, f_hereHeight, f_toSolved, f_fromSolved, f_toCount, f_fromCount, f_traceSize, f_workState, f_workHeight, a_ruleUsed, a_ruleFrom, a_ruleSymbol, a_ruleTo, a_ruleTop, a_ruleBelow, a_edges, a_finals, a_hereStack, a_weights, a_traceRules, a_traceStates, a_traceHeights, a_traceStacks, a_workStack, a_vector, a_nextVector, a_marked, a_nextMarked) (nI a) (nI b) := by
  unfold wc_pl at h
  refine pk_le 1000000 a (fun h1 => ?_) (fun h1 => pk_lt b 1000000 (fun h2 => nm_r (nI_add a b) (pk_le (a + b) 256 (fun h3 => ?_) (fun h3 => ?_))) (fun h2 => ?_))
  · rw [if_pos h1] at h; exact h
  · rw [if_neg (by omega), if_pos h2, if_pos h3] at h; exact h
  · rw [if_neg (by omega), if_pos h2, if_neg (by omega)] at h; exact h
  · rw [if_neg (by omega), if_neg (by omega)] at h; exact h
theorem xw_relax {post : Int32 → SX → Prop} {d f g t v w : Nat} (hd : d < 2) (hf : f < 24) (hg : g < 5) (ht : t < 24) (hw : a_weights (((d * 24 + f) * 5 + g) * 24 + t) = nI w) (hw31 : w ≤ 1000000) (hv : v ≤ 1000000) (h0 : w ≤ v → post 0 (f_unreached, nI nS, nI nG, nI nN, nI nR, f_hereState, f_hereHeight, f_toSolved, f_fromSolved, f_toCount, f_fromCount, f_traceSize, f_workState, f_workHeight, a_ruleUsed, a_ruleFrom, a_ruleSymbol, a_ruleTo, a_ruleTop, a_ruleBelow, a_edges, a_finals, a_hereStack, a_weights, a_traceRules, a_traceStates, a_traceHeights, a_traceStacks, a_workStack, a_vector, a_nextVector, a_marked, a_nextMarked)) (h1 : v < w → post 1 (f_unreached, nI nS, nI nG, nI nN, nI nR, f_hereState, f_hereHeight, f_toSolved, f_fromSolved, f_toCount, f_fromCount, f_traceSize, f_workState, f_workHeight, a_ruleUsed, a_ruleFrom, a_ruleSymbol, a_ruleTo, a_ruleTop, a_ruleBelow, a_edges, a_finals, a_hereStack, upd a_weights (((d * 24 + f) * 5 + g) * 24 + t) (nI v), a_traceRules, a_traceStates, a_traceHeights, a_traceStacks, a_workStack, a_vector, a_nextVector, a_marked, a_nextMarked)) : wpX_relax post (f_unreached, nI nS, nI nG, nI nN, nI nR, f_hereState, f_hereHeight, f_toSolved, f_fromSolved, f_toCount, f_fromCount, f_traceSize, f_workState, f_workHeight, a_ruleUsed, a_ruleFrom, a_ruleSymbol, a_ruleTo, a_ruleTop, a_ruleBelow, a_edges, a_finals, a_hereStack, a_weights, a_traceRules, a_traceStates, a_traceHeights, a_traceStacks, a_workStack, a_vector, a_nextVector, a_marked, a_nextMarked) (nI (d + 1)) (nI f) (nI g) (nI t) (nI v) := by
  unfold wpX_relax wpX_weightIndex
  dsimp only
  rw [show (((((((nI (d + 1) - 1) * 24) + nI f) * 5) + nI g) * 24) + nI t) = nI (((d * 24 + f) * 5 + g) * 24 + t) from ix_w 24 d f g t]
  have hin : vp_in (nI (((d * 24 + f) * 5 + g) * 24 + t)) 5760 := vp_in_nI (by omega) (by omega)
  refine ⟨hin, ?_⟩
  rw [nI_clamp (by omega), hw]
  exact pk_le w v h0 (fun h => ⟨hin, nm_e (h1 h)⟩)
theorem xw_via {post : Int32 → Prop} {d q a b t : Nat} {W : sa_C → Nat} (hW : wa_R 24 d a_weights W) (hR : sa_Rg 1000000 W) (hd : d < 2) (hq : q < 24) (ha : a < 5) (hb : b < 5) (ht : t < 24) (h : post (nI (sy_bst 1000000 24 W q [a, b] t))) : wpX_via post (f_unreached, nI nS, nI nG, nI nN, nI nR, f_hereState, f_hereHeight, f_toSolved, f_fromSolved, f_toCount, f_fromCount, f_traceSize, f_workState, f_workHeight, a_ruleUsed, a_ruleFrom, a_ruleSymbol, a_ruleTo, a_ruleTop, a_ruleBelow, a_edges, a_finals, a_hereStack, a_weights, a_traceRules, a_traceStates, a_traceHeights, a_traceStacks, a_workStack, a_vector, a_nextVector, a_marked, a_nextMarked) (nI (d + 1)) (nI q) (nI a) (nI b) (nI t) := by
  have hL : ∀ k m, m + k = 24 → wX_via_7 post (nI (d + 1)) (nI q) (nI a) (nI b) (nI t) f_unreached (nI nS) (nI nG) (nI nN) (nI nR) f_hereState f_hereHeight f_toSolved f_fromSolved f_toCount f_fromCount f_traceSize f_workState f_workHeight a_ruleUsed a_ruleFrom a_ruleSymbol a_ruleTo a_ruleTop a_ruleBelow a_edges a_finals a_hereStack a_weights a_traceRules a_traceStates a_traceHeights a_traceStacks a_workStack a_vector a_nextVector a_marked a_nextMarked (k + 1) (nI (wc_mn 1000000 (fun m => wc_pl 1000000 (W (q, a, m)) (W (m, b, t))) m)) (nI m) := by
    intro k
    induction k with
    | zero =>
      intro m hm
      have e : m = 24 := by omega
      subst e
      exact pk_le 24 24 (fun _ => h) (fun z => absurd z (by omega))
    | succ k ih =>
      intro m hm
      have hmB := wc_mn_B 1000000 (fun m => wc_pl 1000000 (W (q, a, m)) (W (m, b, t))) m
      have h1 := hR (q, a, m)
      have h2 := hR (m, b, t)
      have hpl : wc_pl 1000000 (W (q, a, m)) (W (m, b, t)) ≤ 1000000 := wc_pl_le (by omega)
      refine pk_le 24 m (fun z => absurd z (by omega)) (fun _ => ?_)
      refine xw_of hd hq ha (by omega) (hW q a m hq ha (by omega)) ?_
      refine pk_le (wc_mn 1000000 (fun m => wc_pl 1000000 (W (q, a, m)) (W (m, b, t))) m) (W (q, a, m)) (fun h3 => nm_r (nI_1 m) ?_) (fun h3 => ?_)
      · have h4 : W (q, a, m) ≤ wc_pl 1000000 (W (q, a, m)) (W (m, b, t)) := wc_pl_ge (by omega) h1
        have e := @wc_mn_k 1000000 (fun m => wc_pl 1000000 (W (q, a, m)) (W (m, b, t))) m (by show _ ≤ wc_pl 1000000 (W (q, a, m)) (W (m, b, t)); omega)
        have := ih (m + 1) (by omega)
        rw [e] at this
        exact this
      · refine xw_of hd (by omega) hb ht (hW m b t (by omega) hb ht) ?_
        refine xw_plus _ _ (by omega) (by omega) ?_
        refine pk_le (wc_mn 1000000 (fun m => wc_pl 1000000 (W (q, a, m)) (W (m, b, t))) m) (wc_pl 1000000 (W (q, a, m)) (W (m, b, t))) (fun h4 => nm_r (nI_1 m) ?_) (fun h4 => nm_r (nI_1 m) ?_)
        · have e := @wc_mn_k 1000000 (fun m => wc_pl 1000000 (W (q, a, m)) (W (m, b, t))) m h4
          have := ih (m + 1) (by omega)
          rw [e] at this
          exact this
        · have e := @wc_mn_t 1000000 (fun m => wc_pl 1000000 (W (q, a, m)) (W (m, b, t))) m h4
          have := ih (m + 1) (by omega)
          rw [e] at this
          exact this
  exact ⟨25, hL 24 0 (by omega)⟩
/-- one lowering within a round -/
theorem xw_rx {post : Int32 → SX → Prop} {d f g t v k : Nat} {W W0 : sa_C → Nat} {Ins D E : sa_C → List sa_C → Nat → Prop} {ch : Bool} (hd : d < 2) (hf : f < 24) (hg : g < 5) (ht : t < 24) (hI : sa_OK Ins sy_XW) (hk : k ≤ 256) (hs : sa_St 1000000 Ins k W0) (hW : wa_R 24 d a_weights W) (R : sa_RI 1000000 sy_XW Ins W0 k D W ch) (hv : v ≤ 1000000) (hi : v < W (f, g, t) → ∃ ys j, Ins (f, g, t) ys j ∧ v = sa_iv 1000000 W ys j) (hE : ∀ x' ys j, E x' ys j → x' = (f, g, t) ∧ Ins x' ys j ∧ v ≤ sa_iv 1000000 W ys j) (h : ∀ (b : Bool) (A' : Nat → Int32) (W' : sa_C → Nat), wa_R 24 d A' W' → wa_K 24 d a_weights A' → sa_RI 1000000 sy_XW Ins W0 k (fun a b c => D a b c ∨ E a b c) W' (ch || b) → post (st_b b) (f_unreached, nI nS, nI nG, nI nN, nI nR, f_hereState, f_hereHeight, f_toSolved, f_fromSolved, f_toCount, f_fromCount, f_traceSize, f_workState, f_workHeight, a_ruleUsed, a_ruleFrom, a_ruleSymbol, a_ruleTo, a_ruleTop, a_ruleBelow, a_edges, a_finals, a_hereStack, A', a_traceRules, a_traceStates, a_traceHeights, a_traceStacks, a_workStack, a_vector, a_nextVector, a_marked, a_nextMarked)) : wpX_relax post (f_unreached, nI nS, nI nG, nI nN, nI nR, f_hereState, f_hereHeight, f_toSolved, f_fromSolved, f_toCount, f_fromCount, f_traceSize, f_workState, f_workHeight, a_ruleUsed, a_ruleFrom, a_ruleSymbol, a_ruleTo, a_ruleTop, a_ruleBelow, a_edges, a_finals, a_hereStack, a_weights, a_traceRules, a_traceStates, a_traceHeights, a_traceStacks, a_workStack, a_vector, a_nextVector, a_marked, a_nextMarked) (nI (d + 1)) (nI f) (nI g) (nI t) (nI v) := by
  have hr := R.1 (f, g, t)
  refine xw_relax hd hf hg ht (hW f g t hf hg ht) (by omega) hv (fun h1 => ?_) (fun h1 => ?_)
  · refine h false a_weights W hW wa_K_r ?_
    rw [Bool.or_false]
    exact sa_opk R h1 hE
  · refine h true _ (sa_cu W (f, g, t) v) (wa_u (Or.inl rfl) hg ht hW) (wa_K_u (Or.inl rfl) hf hg ht) ?_
    rw [Bool.or_true]
    exact sa_opw (by omega) hI hk hs R h1 ⟨hf, hg, ht⟩ (hi h1) hE
end
end
section
/-! X: a rule within a round -/
section
variable {nS nG nN nR : Nat} {f_unreached f_hereState f_hereHeight f_toSolved f_fromSolved f_toCount f_fromCount f_traceSize f_workState f_workHeight : Int32} {a_ruleUsed a_ruleFrom a_ruleSymbol a_ruleTo a_ruleTop a_ruleBelow a_edges a_finals a_hereStack a_weights a_traceRules a_traceStates a_traceHeights a_traceStacks a_workStack a_vector a_nextVector a_marked a_nextMarked : Nat → Int32}
variable {T : sy_T} {E : sy_E} {F : sy_F}
theorem xs_rb {post : Int32 → SX → Prop} {r p g q k : Nat} {u : List Nat} {W W0 : sa_C → Nat} {D : sa_C → List sa_C → Nat → Prop} {ch : Bool} (ok : sy_ok nS nG nN nR T E F) (hru : xr_Ru T a_ruleUsed a_ruleFrom a_ruleSymbol a_ruleTo a_ruleTop a_ruleBelow) (hT : T r = some (p, g, q, u)) (hk : k ≤ 256) (hs : sa_St 1000000 (sy_In (sy_XTl E) (sy_XTr nN T)) k W0) (hW : wa_R 24 0 a_weights W) (R : sa_RI 1000000 sy_XW (sy_In (sy_XTl E) (sy_XTr nN T)) W0 k D W ch) (h : ∀ (b : Bool) (A' : Nat → Int32) (W' : sa_C → Nat), wa_R 24 0 A' W' → wa_K 24 0 a_weights A' → sa_RI 1000000 sy_XW (sy_In (sy_XTl E) (sy_XTr nN T)) W0 k (fun a b c => D a b c ∨ sy_XTr nN T r a b c) W' (ch || b) → post (st_b b) (f_unreached, nI nS, nI nG, nI nN, nI nR, f_hereState, f_hereHeight, f_toSolved, f_fromSolved, f_toCount, f_fromCount, f_traceSize, f_workState, f_workHeight, a_ruleUsed, a_ruleFrom, a_ruleSymbol, a_ruleTo, a_ruleTop, a_ruleBelow, a_edges, a_finals, a_hereStack, A', a_traceRules, a_traceStates, a_traceHeights, a_traceStacks, a_workStack, a_vector, a_nextVector, a_marked, a_nextMarked)) : wpX_relaxBackward post (f_unreached, nI nS, nI nG, nI nN, nI nR, f_hereState, f_hereHeight, f_toSolved, f_fromSolved, f_toCount, f_fromCount, f_traceSize, f_workState, f_workHeight, a_ruleUsed, a_ruleFrom, a_ruleSymbol, a_ruleTo, a_ruleTop, a_ruleBelow, a_edges, a_finals, a_hereStack, a_weights, a_traceRules, a_traceStates, a_traceHeights, a_traceStacks, a_workStack, a_vector, a_nextVector, a_marked, a_nextMarked) (nI r) := by
  have h1 := ok.1 _ _ _ _ _ hT
  have hS : nS ≤ 4 := ok.2.2.2.2.1
  have hG : nG ≤ 4 := ok.2.2.2.2.2.2.1
  have hSN : nS < nN := ok.2.2.2.2.2.2.2.1
  have hN : nN ≤ 8 := ok.2.2.2.2.2.2.2.2.1
  have hR : nR ≤ 12 := ok.2.2.2.2.2.2.2.2.2.2
  have hr := (hru r (by omega)).2 _ _ _ _ hT
  have hcl : (nI r).toNatClampNeg = r := nI_clamp (by omega)
  have hin : vp_in (nI r) 12 := vp_in_nI (by omega) (by omega)
  have hwd := sy_wd_in h1.2.2.2.2.2
  have hI := sy_XT_ok ok
  have hfun : ∀ x ys j, sy_XTr nN T r x ys j → sy_IM nN 24 p g q u 1 x ys j := by
    rintro x ys j ⟨p', g', q', u', hT', hi⟩
    rw [hT] at hT'
    injection hT' with e
    injection e with e1 e
    injection e with e2 e
    injection e with e3 e4
    subst e1 e2 e3 e4
    exact hi
  refine ⟨hin, nm_r (e' := nI p) (by rw [hcl]; exact hr.2.1) ⟨hin, nm_r (e' := nI g) (by rw [hcl]; exact hr.2.2.1) ⟨hin, nm_r (e' := nI q) (by rw [hcl]; exact hr.2.2.2.1) ⟨hin, nm_r (e' := nI (st_tp u)) (by rw [hcl]; exact hr.2.2.2.2.1) ⟨hin, nm_r (e' := nI (st_bl u)) (by rw [hcl]; exact hr.2.2.2.2.2) ?_⟩⟩⟩⟩⟩
  by_cases hu : u = []
  · subst hu
    refine br_t (show nI (st_tp []) = 0 from rfl) ?_
    refine xw_rx (d := 0) (v := 1) (E := fun x ys j => sy_IM nN 24 p g q [] 1 x ys j) (by omega) (by omega) (by omega) (by omega) hI hk hs hW R (by omega) ?_ ?_ ?_
    · intro _
      exact ⟨[], 1, Or.inr ⟨r, p, g, q, [], hT, rfl, Or.inl ⟨rfl, rfl, rfl⟩⟩, rfl⟩
    · rintro x' ys j ⟨rfl, (⟨_, rfl, rfl⟩ | ⟨b, t, z, _⟩ | ⟨b, b', t, m, z, _⟩)⟩
      · exact ⟨rfl, Or.inr ⟨r, p, g, q, [], hT, rfl, Or.inl ⟨rfl, rfl, rfl⟩⟩, Nat.le_refl _⟩
      · exact nomatch z
      · exact nomatch z
    · intro b A' W' hW' hK' R'
      refine ⟨st_nrw b, h b A' W' hW' hK' (sa_mono ?_ R')⟩
      rintro x ys j (hd | hd)
      · exact Or.inl hd
      · exact Or.inr (hfun x ys j hd)
  · have htp : ¬ nI (st_tp u) = 0 := by
      cases u with
      | nil => exact absurd rfl hu
      | cons a u' =>
        have := hwd.2 a (List.mem_cons_self ..)
        exact nI_ne0 (show 0 < a by omega) (show a < 2 ^ 31 by omega)
    refine br_f htp ⟨nN + 1, ?_⟩
    have hL : ∀ k' t, t + k' = nN → ∀ (b : Bool) (A : Nat → Int32) (W : sa_C → Nat), wa_R 24 0 A W → wa_K 24 0 a_weights A → sa_RI 1000000 sy_XW (sy_In (sy_XTl E) (sy_XTr nN T)) W0 k (fun x ys j => D x ys j ∨ (sy_IM nN 24 p g q u 1 x ys j ∧ x.2.2 < t)) W (ch || b) → wX_relaxBackward_60 post (nI p) (nI g) (nI q) (nI (st_tp u)) (nI (st_bl u)) (k' + 1) (st_b b) (nI t) f_unreached (nI nS) (nI nG) (nI nN) (nI nR) f_hereState f_hereHeight f_toSolved f_fromSolved f_toCount f_fromCount f_traceSize f_workState f_workHeight a_ruleUsed a_ruleFrom a_ruleSymbol a_ruleTo a_ruleTop a_ruleBelow a_edges a_finals a_hereStack A a_traceRules a_traceStates a_traceHeights a_traceStacks a_workStack a_vector a_nextVector a_marked a_nextMarked := by
      intro k'
      induction k' with
      | zero =>
        intro t ht b A W hW hK R
        refine pk_le nN t (fun _ => ⟨st_nrw b, h b A W hW hK (sa_mono ?_ R)⟩) (fun z => absurd z (by omega))
        rintro x ys j (hd | hd)
        · exact Or.inl hd
        · have hi := hfun x ys j hd
          refine Or.inr ⟨hi, ?_⟩
          obtain ⟨_, (⟨z, _⟩ | ⟨b, t', _, ht', rfl, _⟩ | ⟨b, b', t', m, _, ht', _, rfl, _⟩)⟩ := hi
          · exact absurd z hu
          · show t' < t; omega
          · show t' < t; omega
      | succ k' ih =>
        intro t ht b A W hW hK R
        have step : wX_relaxBackward_105 post (wX_relaxBackward_60 post (nI p) (nI g) (nI q) (nI (st_tp u)) (nI (st_bl u)) (k' + 1)) (nI p) (nI g) (nI q) (nI (st_tp u)) (nI (st_bl u)) (st_b b) (nI t) (nI (sy_bst 1000000 24 W q u t)) f_unreached (nI nS) (nI nG) (nI nN) (nI nR) f_hereState f_hereHeight f_toSolved f_fromSolved f_toCount f_fromCount f_traceSize f_workState f_workHeight a_ruleUsed a_ruleFrom a_ruleSymbol a_ruleTo a_ruleTop a_ruleBelow a_edges a_finals a_hereStack A a_traceRules a_traceStates a_traceHeights a_traceStacks a_workStack a_vector a_nextVector a_marked a_nextMarked := by
          unfold wX_relaxBackward_105
          refine xw_plus _ 1 (sy_bst_r (by omega) R.1) (by omega) ?_
          refine xw_rx (d := 0) (E := fun x ys j => sy_IM nN 24 p g q u 1 x ys j ∧ x.2.2 = t) (by omega) (by omega) (by omega) (by omega) hI hk hs hW R (wc_pl_le (by omega)) ?_ ?_ ?_
          · intro hv
            obtain ⟨ys, j, hi, hv'⟩ := sy_bst_i (tb := nN) (by omega) R.1 (by omega) (by omega) hv
            exact ⟨ys, j, Or.inr ⟨r, p, g, q, u, hT, hi⟩, hv'⟩
          · rintro x' ys j ⟨hi, ht'⟩
            have hc := sy_IM_c hi
            refine ⟨?_, Or.inr ⟨r, p, g, q, u, hT, hi⟩, sy_bst_e (by omega) (by omega) hi ht'⟩
            obtain ⟨x1, x2, x3⟩ := x'
            dsimp only at hc ht'
            rw [hc.1, hc.2.1, ht']
          · intro b' A' W' hW' hK' R'
            have R2 : sa_RI 1000000 sy_XW (sy_In (sy_XTl E) (sy_XTr nN T)) W0 k (fun x ys j => D x ys j ∨ (sy_IM nN 24 p g q u 1 x ys j ∧ x.2.2 < t + 1)) W' (ch || (b || b')) := by
              rw [← Bool.or_assoc]
              refine sa_mono ?_ R'
              rintro x ys j (hd | ⟨hi, hlt⟩)
              · exact Or.inl (Or.inl hd)
              · by_cases e : x.2.2 = t
                · exact Or.inr ⟨hi, e⟩
                · exact Or.inl (Or.inr ⟨hi, by omega⟩)
            have hn := ih (t + 1) (by omega) (b || b') A' W' hW' (wa_K_t hK hK') R2
            cases b' with
            | false =>
              rw [Bool.or_false] at hn
              exact br_t rfl (nm_r (nI_1 t) hn)
            | true =>
              rw [Bool.or_true] at hn
              exact br_f (by decide) (nm_r (nI_1 t) hn)
        refine pk_le nN t (fun z => absurd z (by omega)) (fun _ => ?_)
        rcases h1.2.2.2.2.2 with e | ⟨a, e, ha⟩ | ⟨a, b1, e, ha, ha2, hb, hb2⟩
        · exact absurd e hu
        · subst e
          refine br_t (show nI (st_bl [a]) = 0 from rfl) ?_
          exact xw_of (d := 0) (by omega) (by omega) (by show a < 5; omega) (by omega) (hW q a t (by omega) (by omega) (by omega)) step
        · subst e
          refine br_f (nI_ne0 (show 0 < b1 by omega) (show b1 < 2 ^ 31 by omega)) ?_
          exact xw_via (d := 0) hW R.1 (by omega) (by omega) (by show a < 5; omega) (by show b1 < 5; omega) (by omega) step
    refine hL nN 0 (by omega) false a_weights W hW wa_K_r ?_
    rw [Bool.or_false]
    refine sa_mono ?_ R
    rintro x ys j (hd | ⟨_, z⟩)
    · exact hd
    · omega
theorem xs_rf {post : Int32 → SX → Prop} {r p g q k : Nat} {u : List Nat} {W W0 : sa_C → Nat} {D : sa_C → List sa_C → Nat → Prop} {ch : Bool} (ok : sy_ok nS nG nN nR T E F) (hru : xr_Ru T a_ruleUsed a_ruleFrom a_ruleSymbol a_ruleTo a_ruleTop a_ruleBelow) (hT : T r = some (p, g, q, u)) (hk : k ≤ 256) (hs : sa_St 1000000 (sy_In (sy_XFl T E) (sy_XFr T)) k W0) (hW : wa_R 24 1 a_weights W) (R : sa_RI 1000000 sy_XW (sy_In (sy_XFl T E) (sy_XFr T)) W0 k D W ch) (h : ∀ (b : Bool) (A' : Nat → Int32) (W' : sa_C → Nat), wa_R 24 1 A' W' → wa_K 24 1 a_weights A' → sa_RI 1000000 sy_XW (sy_In (sy_XFl T E) (sy_XFr T)) W0 k (fun a b c => D a b c ∨ sy_XFr T r a b c) W' (ch || b) → post (st_b b) (f_unreached, nI nS, nI nG, nI nN, nI nR, f_hereState, f_hereHeight, f_toSolved, f_fromSolved, f_toCount, f_fromCount, f_traceSize, f_workState, f_workHeight, a_ruleUsed, a_ruleFrom, a_ruleSymbol, a_ruleTo, a_ruleTop, a_ruleBelow, a_edges, a_finals, a_hereStack, A', a_traceRules, a_traceStates, a_traceHeights, a_traceStacks, a_workStack, a_vector, a_nextVector, a_marked, a_nextMarked)) : wpX_relaxForward post (f_unreached, nI nS, nI nG, nI nN, nI nR, f_hereState, f_hereHeight, f_toSolved, f_fromSolved, f_toCount, f_fromCount, f_traceSize, f_workState, f_workHeight, a_ruleUsed, a_ruleFrom, a_ruleSymbol, a_ruleTo, a_ruleTop, a_ruleBelow, a_edges, a_finals, a_hereStack, a_weights, a_traceRules, a_traceStates, a_traceHeights, a_traceStacks, a_workStack, a_vector, a_nextVector, a_marked, a_nextMarked) (nI r) := by
  have h1 := ok.1 _ _ _ _ _ hT
  have hS : nS ≤ 4 := ok.2.2.2.2.1
  have hG : nG ≤ 4 := ok.2.2.2.2.2.2.1
  have hR : nR ≤ 12 := ok.2.2.2.2.2.2.2.2.2.2
  have hr := (hru r (by omega)).2 _ _ _ _ hT
  have hcl : (nI r).toNatClampNeg = r := nI_clamp (by omega)
  have hin : vp_in (nI r) 12 := vp_in_nI (by omega) (by omega)
  have hI := sy_XF_ok ok
  have hsl := sy_src_lt ok hT
  generalize hsrc : sy_src q u = src at hsl
  generalize hlab : sy_lab u = lab at hsl
  have hfun : ∀ x ys j, sy_XFr T r x ys j → sy_IM 24 24 src lab p [g] 1 x ys j ∨ sy_IM 24 24 src lab p [0, g] 1 x ys j := by
    rintro x ys j ⟨p', g', q', u', hT', hi⟩
    rw [hT] at hT'
    injection hT' with e
    injection e with e1 e
    injection e with e2 e
    injection e with e3 e4
    subst e1 e2 e3 e4
    rw [hsrc, hlab] at hi
    exact hi
  have hfun2 : ∀ x ys j, sy_IM 24 24 src lab p [g] 1 x ys j ∨ sy_IM 24 24 src lab p [0, g] 1 x ys j → sy_In (sy_XFl T E) (sy_XFr T) x ys j := by
    intro x ys j hi
    rw [← hsrc, ← hlab] at hi
    exact Or.inr ⟨r, p, g, q, u, hT, hi⟩
  have hL : ∀ k' t, t + k' = 24 → ∀ (b : Bool) (A : Nat → Int32) (W : sa_C → Nat), wa_R 24 1 A W → wa_K 24 1 a_weights A → sa_RI 1000000 sy_XW (sy_In (sy_XFl T E) (sy_XFr T)) W0 k (fun x ys j => D x ys j ∨ ((sy_IM 24 24 src lab p [g] 1 x ys j ∨ sy_IM 24 24 src lab p [0, g] 1 x ys j) ∧ x.2.2 < t)) W (ch || b) → wX_relaxForward_71 post (nI p) (nI g) (nI src) (nI lab) (k' + 1) (st_b b) (nI t) f_unreached (nI nS) (nI nG) (nI nN) (nI nR) f_hereState f_hereHeight f_toSolved f_fromSolved f_toCount f_fromCount f_traceSize f_workState f_workHeight a_ruleUsed a_ruleFrom a_ruleSymbol a_ruleTo a_ruleTop a_ruleBelow a_edges a_finals a_hereStack A a_traceRules a_traceStates a_traceHeights a_traceStacks a_workStack a_vector a_nextVector a_marked a_nextMarked := by
    intro k'
    induction k' with
    | zero =>
      intro t ht b A W hW hK R
      refine pk_le 24 t (fun _ => ⟨st_nrw b, h b A W hW hK (sa_mono ?_ R)⟩) (fun z => absurd z (by omega))
      rintro x ys j (hd | hd)
      · exact Or.inl hd
      · have hi := hfun x ys j hd
        refine Or.inr ⟨hi, ?_⟩
        obtain ⟨_, (⟨z, _⟩ | ⟨b, t', _, ht', rfl, _⟩ | ⟨b, b', t', m, _, ht', _, rfl, _⟩)⟩ | ⟨_, (⟨z, _⟩ | ⟨b, t', _, ht', rfl, _⟩ | ⟨b, b', t', m, _, ht', _, rfl, _⟩)⟩ := hi
        · exact nomatch z
        · show t' < t; omega
        · show t' < t; omega
        · exact nomatch z
        · show t' < t; omega
        · show t' < t; omega
    | succ k' ih =>
      intro t ht b A W hW hK R
      have step : ∀ v, (v = sy_bst 1000000 24 W p [g] t ∨ v = sy_bst 1000000 24 W p [0, g] t) → v ≤ sy_bst 1000000 24 W p [g] t → v ≤ sy_bst 1000000 24 W p [0, g] t → wX_relaxForward_112 post (wX_relaxForward_71 post (nI p) (nI g) (nI src) (nI lab) (k' + 1)) (nI p) (nI g) (nI src) (nI lab) (st_b b) (nI t) (nI v) f_unreached (nI nS) (nI nG) (nI nN) (nI nR) f_hereState f_hereHeight f_toSolved f_fromSolved f_toCount f_fromCount f_traceSize f_workState f_workHeight a_ruleUsed a_ruleFrom a_ruleSymbol a_ruleTo a_ruleTop a_ruleBelow a_edges a_finals a_hereStack A a_traceRules a_traceStates a_traceHeights a_traceStacks a_workStack a_vector a_nextVector a_marked a_nextMarked := by
        intro v hv hv1 hv2
        have hvB : v ≤ 1000000 := Nat.le_trans hv1 (sy_bst_r (by omega) R.1)
        unfold wX_relaxForward_112
        refine xw_plus v 1 hvB (by omega) ?_
        refine xw_rx (d := 1) (E := fun x ys j => (sy_IM 24 24 src lab p [g] 1 x ys j ∨ sy_IM 24 24 src lab p [0, g] 1 x ys j) ∧ x.2.2 = t) (by omega) hsl.1 hsl.2 (by omega) hI hk hs hW R (wc_pl_le (by omega)) ?_ ?_ ?_
        · intro hlt
          rcases hv with e | e
          · rw [e] at hlt
            obtain ⟨ys, j, hi, hv'⟩ := sy_bst_i (tb := 24) (by omega) R.1 (by omega) (by omega) hlt
            exact ⟨ys, j, hfun2 _ _ _ (Or.inl hi), by rw [e]; exact hv'⟩
          · rw [e] at hlt
            obtain ⟨ys, j, hi, hv'⟩ := sy_bst_i (tb := 24) (by omega) R.1 (by omega) (by omega) hlt
            exact ⟨ys, j, hfun2 _ _ _ (Or.inr hi), by rw [e]; exact hv'⟩
        · rintro x' ys j ⟨hi, ht'⟩
          have hc : x'.1 = src ∧ x'.2.1 = lab := by
            rcases hi with hi | hi
            · exact ⟨(sy_IM_c hi).1, (sy_IM_c hi).2.1⟩
            · exact ⟨(sy_IM_c hi).1, (sy_IM_c hi).2.1⟩
          refine ⟨?_, hfun2 _ _ _ hi, ?_⟩
          · obtain ⟨x1, x2, x3⟩ := x'
            dsimp only at hc ht'
            rw [hc.1, hc.2, ht']
          · rcases hi with hi | hi
            · exact Nat.le_trans (wc_pl_mono (by omega) hv1 (Nat.le_refl _)) (sy_bst_e (by omega) (by omega) hi ht')
            · exact Nat.le_trans (wc_pl_mono (by omega) hv2 (Nat.le_refl _)) (sy_bst_e (by omega) (by omega) hi ht')
        · intro b' A' W' hW' hK' R'
          have R2 : sa_RI 1000000 sy_XW (sy_In (sy_XFl T E) (sy_XFr T)) W0 k (fun x ys j => D x ys j ∨ ((sy_IM 24 24 src lab p [g] 1 x ys j ∨ sy_IM 24 24 src lab p [0, g] 1 x ys j) ∧ x.2.2 < t + 1)) W' (ch || (b || b')) := by
            rw [← Bool.or_assoc]
            refine sa_mono ?_ R'
            rintro x ys j (hd | ⟨hi, hlt⟩)
            · exact Or.inl (Or.inl hd)
            · by_cases e : x.2.2 = t
              · exact Or.inr ⟨hi, e⟩
              · exact Or.inl (Or.inr ⟨hi, by omega⟩)
          have hn := ih (t + 1) (by omega) (b || b') A' W' hW' (wa_K_t hK hK') R2
          cases b' with
          | false =>
            rw [Bool.or_false] at hn
            exact br_t rfl (nm_r (nI_1 t) hn)
          | true =>
            rw [Bool.or_true] at hn
            exact br_f (by decide) (nm_r (nI_1 t) hn)
      have hb1 : sy_bst 1000000 24 W p [g] t ≤ 1000000 := sy_bst_r (by omega) R.1
      have hb2 : sy_bst 1000000 24 W p [0, g] t ≤ 1000000 := sy_bst_r (by omega) R.1
      refine pk_le 24 t (fun z => absurd z (by omega)) (fun _ => ?_)
      refine xw_of (d := 1) (by omega) (by omega) (by omega) (by omega) (hW p g t (by omega) (by omega) (by omega)) ?_
      refine xw_via (d := 1) (a := 0) hW R.1 (by omega) (by omega) (by omega) (by omega) (by omega) ?_
      exact pk_le (sy_bst 1000000 24 W p [g] t) (sy_bst 1000000 24 W p [0, g] t) (fun h2 => step _ (Or.inl rfl) (Nat.le_refl _) h2) (fun h2 => step _ (Or.inr rfl) (Nat.le_of_lt h2) (Nat.le_refl _))
  have hL0 := hL 24 0 (by omega) false a_weights W hW wa_K_r (by
    rw [Bool.or_false]
    refine sa_mono ?_ R
    rintro x ys j (hd | ⟨_, z⟩)
    · exact hd
    · omega)
  refine ⟨hin, nm_r (e' := nI p) (by rw [hcl]; exact hr.2.1) ⟨hin, nm_r (e' := nI g) (by rw [hcl]; exact hr.2.2.1) ⟨hin, nm_r (e' := nI q) (by rw [hcl]; exact hr.2.2.2.1) ⟨hin, nm_r (e' := nI (st_tp u)) (by rw [hcl]; exact hr.2.2.2.2.1) ⟨hin, ?_⟩⟩⟩⟩⟩
  rw [hcl, hr.2.2.2.2.2]
  rcases h1.2.2.2.2.2 with e | ⟨a, e, ha⟩ | ⟨a, b1, e, ha, ha2, hb, hb2⟩
  · subst e
    refine br_t (show nI (st_bl []) = 0 from rfl) ⟨25, ?_⟩
    have e1 : q = src := hsrc
    have e2 : 0 = lab := hlab
    subst e1 e2
    exact hL0
  · subst e
    refine br_t (show nI (st_bl [a]) = 0 from rfl) ⟨25, ?_⟩
    have e1 : q = src := hsrc
    have e2 : a = lab := hlab
    subst e1 e2
    exact hL0
  · subst e
    refine br_f (nI_ne0 (show 0 < b1 by omega) (show b1 < 2 ^ 31 by omega)) ⟨hin, hin, ?_⟩
    have e1 : sy_mid q a = src := hsrc
    have e2 : b1 = lab := hlab
    subst e1 e2
    unfold wpX_middleNode
    dsimp only
    rw [hr.2.2.2.1, hr.2.2.2.2.1]
    have em : ((8 + nI q * 4) + nI (st_tp [a, b1])) - 1 = nI (sy_mid q a) := by
      show ((nI 8 + nI q * nI 4) + nI a) - nI 1 = nI (sy_mid q a)
      rw [pk_mul, nI_add, nI_add, pk_sub (by omega)]
      rfl
    rw [em]
    refine ⟨hin, nm_r (e' := nI b1) rfl ⟨25, ?_⟩⟩
    exact hL0
end
end
section
/-! X: loading, rounds, saturate -/
def sa_LI (B : Nat) (Ins : sa_C → List sa_C → Nat → Prop) (S : sa_C → Prop) (W : sa_C → Nat) : Prop := sa_Rg B W ∧ sa_Sd Ins W ∧ ∀ c, S c → W c = 0
theorem sa_ld0 {B : Nat} {Ins : sa_C → List sa_C → Nat → Prop} {S : sa_C → Prop} (hB : 256 < B) (hS : ∀ c, ¬ S c) : sa_LI B Ins S (fun _ => B) :=
  ⟨fun _ => Or.inr rfl, fun c z => by dsimp only at z; omega, fun c s => absurd s (hS c)⟩
theorem sa_ldk {B : Nat} {Ins : sa_C → List sa_C → Nat → Prop} {S S' : sa_C → Prop} {W : sa_C → Nat} {c : sa_C} (hS : ∀ x, S' x → S x ∨ x = c) (hc : W c ≤ 0) (h : sa_LI B Ins S W) : sa_LI B Ins S' W := by
  refine ⟨h.1, h.2.1, fun x s => ?_⟩
  rcases hS x s with s | rfl
  · exact h.2.2 x s
  · omega
theorem sa_ldu {B : Nat} {Ins : sa_C → List sa_C → Nat → Prop} {S S' : sa_C → Prop} {W : sa_C → Nat} {c : sa_C} (hS : ∀ x, S' x → S x ∨ x = c) (hi : Ins c [] 0) (h : sa_LI B Ins S W) : sa_LI B Ins S' (sa_cu W c 0) := by
  refine ⟨fun x => ?_, fun x => ?_, fun x s => ?_⟩
  · by_cases e : x = c
    · subst e; rw [sa_cu_s]; exact Or.inl (Nat.zero_le _)
    · rw [sa_cu_n e]; exact h.1 x
  · by_cases e : x = c
    · subst e; rw [sa_cu_s]; intro _
      exact ⟨0, sa_d0 hi, Nat.le_of_eq (wc_cap_sm (by omega))⟩
    · rw [sa_cu_n e]; exact h.2.1 x
  · by_cases e : x = c
    · subst e; exact sa_cu_s
    · rw [sa_cu_n e]
      rcases hS x s with s | z
      · exact h.2.2 x s
      · exact absurd z e
theorem sa_ldm {B : Nat} {Ins : sa_C → List sa_C → Nat → Prop} {S S' : sa_C → Prop} {W : sa_C → Nat} (hS : ∀ x, S' x → S x) (h : sa_LI B Ins S W) : sa_LI B Ins S' W := ⟨h.1, h.2.1, fun x s => h.2.2 x (hS x s)⟩
section
variable {nS nG nN nR : Nat} {f_unreached f_hereState f_hereHeight f_toSolved f_fromSolved f_toCount f_fromCount f_traceSize f_workState f_workHeight : Int32} {a_ruleUsed a_ruleFrom a_ruleSymbol a_ruleTo a_ruleTop a_ruleBelow a_edges a_finals a_hereStack a_weights a_traceRules a_traceStates a_traceHeights a_traceStacks a_workStack a_vector a_nextVector a_marked a_nextMarked : Nat → Int32}
variable {T : sy_T} {E : sy_E} {F : sy_F}
theorem ix_e4 {f g t : Nat} (hg : 1 ≤ g) : ((((nI f * 4) + nI g) - 1) * 8) + nI t = nI ((f * 4 + g - 1) * 8 + t) := by
  show ((((nI f * nI 4) + nI g) - nI 1) * nI 8) + nI t = _
  rw [pk_mul, nI_add, pk_sub (by omega), pk_mul, nI_add]
theorem xs_ld1 {post : Int32 → SX → Prop} {d f g t : Nat} {W : sa_C → Nat} {Ins : sa_C → List sa_C → Nat → Prop} {S S' : sa_C → Prop} (hd : d < 2) (hf : f < 24) (hg : g < 5) (ht : t < 24) (hW : wa_R 24 d a_weights W) (hL : sa_LI 1000000 Ins S W) (hi : Ins (f, g, t) [] 0) (hS : ∀ x, S' x → S x ∨ x = (f, g, t)) (h : ∀ (x : Int32) (A' : Nat → Int32) (W' : sa_C → Nat), wa_R 24 d A' W' → wa_K 24 d a_weights A' → sa_LI 1000000 Ins S' W' → post x (f_unreached, nI nS, nI nG, nI nN, nI nR, f_hereState, f_hereHeight, f_toSolved, f_fromSolved, f_toCount, f_fromCount, f_traceSize, f_workState, f_workHeight, a_ruleUsed, a_ruleFrom, a_ruleSymbol, a_ruleTo, a_ruleTop, a_ruleBelow, a_edges, a_finals, a_hereStack, A', a_traceRules, a_traceStates, a_traceHeights, a_traceStacks, a_workStack, a_vector, a_nextVector, a_marked, a_nextMarked)) : wpX_relax post (f_unreached, nI nS, nI nG, nI nN, nI nR, f_hereState, f_hereHeight, f_toSolved, f_fromSolved, f_toCount, f_fromCount, f_traceSize, f_workState, f_workHeight, a_ruleUsed, a_ruleFrom, a_ruleSymbol, a_ruleTo, a_ruleTop, a_ruleBelow, a_edges, a_finals, a_hereStack, a_weights, a_traceRules, a_traceStates, a_traceHeights, a_traceStacks, a_workStack, a_vector, a_nextVector, a_marked, a_nextMarked) (nI (d + 1)) (nI f) (nI g) (nI t) 0 := by
  have hr := hL.1 (f, g, t)
  refine xw_relax (v := 0) hd hf hg ht (hW f g t hf hg ht) (by omega) (by omega) (fun h1 => ?_) (fun h1 => ?_)
  · exact h 0 a_weights W hW wa_K_r (sa_ldk hS h1 hL)
  · exact h 1 _ (sa_cu W (f, g, t) 0) (wa_u (Or.inl rfl) hg ht hW) (wa_K_u (Or.inl rfl) hf hg ht) (sa_ldu hS hi hL)
/-- the edges before (f, g, t) -/
def sy_Eb (E : sy_E) (f g t : Nat) (c : sa_C) : Prop := E c.1 c.2.1 c.2.2 = true ∧ (c.1 < f ∨ (c.1 = f ∧ (c.2.1 < g ∨ (c.2.1 = g ∧ c.2.2 < t))))
theorem xs_61 {post : SX → Prop} {J35 J46 : (Int32 → Int32 → Int32 → Int32 → Int32 → Int32 → Int32 → Int32 → Int32 → Int32 → Int32 → Int32 → Int32 → Int32 → Int32 → (Nat → Int32) → (Nat → Int32) → (Nat → Int32) → (Nat → Int32) → (Nat → Int32) → (Nat → Int32) → (Nat → Int32) → (Nat → Int32) → (Nat → Int32) → (Nat → Int32) → (Nat → Int32) → (Nat → Int32) → (Nat → Int32) → (Nat → Int32) → (Nat → Int32) → (Nat → Int32) → (Nat → Int32) → (Nat → Int32) → (Nat → Int32) → Prop)} {d f g : Nat} {Ins : sa_C → List sa_C → Nat → Prop} (ok : sy_ok nS nG nN nR T E F) (hed : xr_Ed E a_edges) (hd : d < 2) (hf : f < nN) (hg : 1 ≤ g) (hg2 : g ≤ nG) (hI : ∀ c, E c.1 c.2.1 c.2.2 = true → Ins c [] 0) (hJ : ∀ (A' : Nat → Int32) (W' : sa_C → Nat), wa_R 24 d A' W' → wa_K 24 d a_weights A' → sa_LI 1000000 Ins (sy_Eb E f (g + 1) 0) W' → J46 (nI (g + 1)) f_unreached (nI nS) (nI nG) (nI nN) (nI nR) f_hereState f_hereHeight f_toSolved f_fromSolved f_toCount f_fromCount f_traceSize f_workState f_workHeight a_ruleUsed a_ruleFrom a_ruleSymbol a_ruleTo a_ruleTop a_ruleBelow a_edges a_finals a_hereStack A' a_traceRules a_traceStates a_traceHeights a_traceStacks a_workStack a_vector a_nextVector a_marked a_nextMarked) : ∀ k t, t + k = nN → ∀ (A : Nat → Int32) (W : sa_C → Nat), wa_R 24 d A W → wa_K 24 d a_weights A → sa_LI 1000000 Ins (sy_Eb E f g t) W → wX_loadEdges_61 post J35 J46 (nI (d + 1)) (nI f) (nI g) (k + 1) (nI t) f_unreached (nI nS) (nI nG) (nI nN) (nI nR) f_hereState f_hereHeight f_toSolved f_fromSolved f_toCount f_fromCount f_traceSize f_workState f_workHeight a_ruleUsed a_ruleFrom a_ruleSymbol a_ruleTo a_ruleTop a_ruleBelow a_edges a_finals a_hereStack A a_traceRules a_traceStates a_traceHeights a_traceStacks a_workStack a_vector a_nextVector a_marked a_nextMarked := by
  have hN : nN ≤ 8 := ok.2.2.2.2.2.2.2.2.1
  have hG : nG ≤ 4 := ok.2.2.2.2.2.2.1
  intro k
  induction k with
  | zero =>
    intro t ht A W hW hK hL
    refine pk_le nN t (fun _ => nm_r (nI_1 g) (hJ A W hW hK (sa_ldm ?_ hL))) (fun z => absurd z (by omega))
    rintro x ⟨he, hx⟩
    have := (ok.2.1 _ _ _ he).2.2.2.2
    exact ⟨he, by omega⟩
  | succ k ih =>
    intro t ht A W hW hK hL
    refine pk_le nN t (fun z => absurd z (by omega)) (fun _ => ?_)
    unfold wpX_edgeIndex
    dsimp only
    rw [ix_e4 hg, nI_clamp (by omega), hed f g t (by omega) hg (by omega) (by omega)]
    refine ⟨vp_in_nI (by omega) (by omega), ?_⟩
    cases he : E f g t with
    | false =>
      refine br_t rfl (nm_r (nI_1 t) (ih (t + 1) (by omega) A W hW hK (sa_ldm ?_ hL)))
      rintro ⟨x1, x2, x3⟩ ⟨hx, hlt⟩
      dsimp only at hx hlt
      refine ⟨hx, ?_⟩
      show x1 < f ∨ (x1 = f ∧ (x2 < g ∨ (x2 = g ∧ x3 < t)))
      by_cases e : x1 = f ∧ x2 = g ∧ x3 = t
      · obtain ⟨rfl, rfl, rfl⟩ := e
        rw [he] at hx
        exact absurd hx (by decide)
      · omega
    | true =>
      refine br_f (by decide) ?_
      refine xs_ld1 hd (by omega) (by omega) (by omega) hW hL (hI (f, g, t) he) (S' := sy_Eb E f g (t + 1)) ?_ ?_
      · rintro ⟨x1, x2, x3⟩ ⟨hx, hlt⟩
        dsimp only at hx hlt
        by_cases e : x1 = f ∧ x2 = g ∧ x3 = t
        · obtain ⟨rfl, rfl, rfl⟩ := e
          exact Or.inr rfl
        · refine Or.inl ⟨hx, ?_⟩
          show x1 < f ∨ (x1 = f ∧ (x2 < g ∨ (x2 = g ∧ x3 < t)))
          omega
      · intro x A' W' hW' hK' hL'
        exact nm_r (nI_1 t) (ih (t + 1) (by omega) A' W' hW' (wa_K_t hK hK') hL')
theorem xs_46 {post : SX → Prop} {J35 : (Int32 → Int32 → Int32 → Int32 → Int32 → Int32 → Int32 → Int32 → Int32 → Int32 → Int32 → Int32 → Int32 → Int32 → Int32 → (Nat → Int32) → (Nat → Int32) → (Nat → Int32) → (Nat → Int32) → (Nat → Int32) → (Nat → Int32) → (Nat → Int32) → (Nat → Int32) → (Nat → Int32) → (Nat → Int32) → (Nat → Int32) → (Nat → Int32) → (Nat → Int32) → (Nat → Int32) → (Nat → Int32) → (Nat → Int32) → (Nat → Int32) → (Nat → Int32) → (Nat → Int32) → Prop)} {d f : Nat} {Ins : sa_C → List sa_C → Nat → Prop} (ok : sy_ok nS nG nN nR T E F) (hed : xr_Ed E a_edges) (hd : d < 2) (hf : f < nN) (hI : ∀ c, E c.1 c.2.1 c.2.2 = true → Ins c [] 0) (hJ : ∀ (A' : Nat → Int32) (W' : sa_C → Nat), wa_R 24 d A' W' → wa_K 24 d a_weights A' → sa_LI 1000000 Ins (sy_Eb E (f + 1) 0 0) W' → J35 (nI (f + 1)) f_unreached (nI nS) (nI nG) (nI nN) (nI nR) f_hereState f_hereHeight f_toSolved f_fromSolved f_toCount f_fromCount f_traceSize f_workState f_workHeight a_ruleUsed a_ruleFrom a_ruleSymbol a_ruleTo a_ruleTop a_ruleBelow a_edges a_finals a_hereStack A' a_traceRules a_traceStates a_traceHeights a_traceStacks a_workStack a_vector a_nextVector a_marked a_nextMarked) : ∀ k g, g + k = nG + 1 → 1 ≤ g → ∀ (A : Nat → Int32) (W : sa_C → Nat), wa_R 24 d A W → wa_K 24 d a_weights A → sa_LI 1000000 Ins (sy_Eb E f g 0) W → wX_loadEdges_46 post J35 (nI (d + 1)) (nI f) (k + 1) (nI g) f_unreached (nI nS) (nI nG) (nI nN) (nI nR) f_hereState f_hereHeight f_toSolved f_fromSolved f_toCount f_fromCount f_traceSize f_workState f_workHeight a_ruleUsed a_ruleFrom a_ruleSymbol a_ruleTo a_ruleTop a_ruleBelow a_edges a_finals a_hereStack A a_traceRules a_traceStates a_traceHeights a_traceStacks a_workStack a_vector a_nextVector a_marked a_nextMarked := by
  have hN : nN ≤ 8 := ok.2.2.2.2.2.2.2.2.1
  have hSN : nS < nN := ok.2.2.2.2.2.2.2.1
  have hG : nG ≤ 4 := ok.2.2.2.2.2.2.1
  intro k
  induction k with
  | zero =>
    intro g hg hg1 A W hW hK hL
    refine pk_lt nG g (fun _ => nm_r (nI_1 f) (hJ A W hW hK (sa_ldm ?_ hL))) (fun z => absurd z (by omega))
    rintro x ⟨he, hx⟩
    have := ok.2.1 _ _ _ he
    exact ⟨he, by omega⟩
  | succ k ih =>
    intro g hg hg1 A W hW hK hL
    refine pk_lt nG g (fun z => absurd z (by omega)) (fun _ => ⟨nN - nS + 1, ?_⟩)
    refine xs_61 ok hed hd hf hg1 (by omega) hI ?_ (nN - nS) nS (by omega) A W hW wa_K_r (sa_ldm ?_ hL)
    · intro A' W' hW' hK' hL'
      exact ih (g + 1) (by omega) (by omega) A' W' hW' (wa_K_t hK hK') hL'
    · rintro x ⟨he, hx⟩
      have := ok.2.1 _ _ _ he
      exact ⟨he, by omega⟩
theorem xs_35 {post : SX → Prop} {d : Nat} {Ins : sa_C → List sa_C → Nat → Prop} (ok : sy_ok nS nG nN nR T E F) (hed : xr_Ed E a_edges) (hd : d < 2) (hI : ∀ c, E c.1 c.2.1 c.2.2 = true → Ins c [] 0) (hp : ∀ (A' : Nat → Int32) (W' : sa_C → Nat), wa_R 24 d A' W' → wa_K 24 d a_weights A' → sa_LI 1000000 Ins (fun c => E c.1 c.2.1 c.2.2 = true) W' → post (f_unreached, nI nS, nI nG, nI nN, nI nR, f_hereState, f_hereHeight, f_toSolved, f_fromSolved, f_toCount, f_fromCount, f_traceSize, f_workState, f_workHeight, a_ruleUsed, a_ruleFrom, a_ruleSymbol, a_ruleTo, a_ruleTop, a_ruleBelow, a_edges, a_finals, a_hereStack, A', a_traceRules, a_traceStates, a_traceHeights, a_traceStacks, a_workStack, a_vector, a_nextVector, a_marked, a_nextMarked)) : ∀ k f, f + k = nN → ∀ (A : Nat → Int32) (W : sa_C → Nat), wa_R 24 d A W → wa_K 24 d a_weights A → sa_LI 1000000 Ins (sy_Eb E f 0 0) W → wX_loadEdges_35 post (nI (d + 1)) (k + 1) (nI f) f_unreached (nI nS) (nI nG) (nI nN) (nI nR) f_hereState f_hereHeight f_toSolved f_fromSolved f_toCount f_fromCount f_traceSize f_workState f_workHeight a_ruleUsed a_ruleFrom a_ruleSymbol a_ruleTo a_ruleTop a_ruleBelow a_edges a_finals a_hereStack A a_traceRules a_traceStates a_traceHeights a_traceStacks a_workStack a_vector a_nextVector a_marked a_nextMarked := by
  have hN : nN ≤ 8 := ok.2.2.2.2.2.2.2.2.1
  intro k
  induction k with
  | zero =>
    intro f hf A W hW hK hL
    refine pk_le nN f (fun _ => hp A W hW hK (sa_ldm ?_ hL)) (fun z => absurd z (by omega))
    intro x he
    have := ok.2.1 _ _ _ he
    exact ⟨he, by omega⟩
  | succ k ih =>
    intro f hf A W hW hK hL
    refine pk_le nN f (fun z => absurd z (by omega)) (fun _ => ⟨nG + 1, ?_⟩)
    refine xs_46 ok hed hd (by omega) hI ?_ nG 1 (by omega) (by omega) A W hW wa_K_r (sa_ldm ?_ hL)
    · intro A' W' hW' hK' hL'
      exact ih (f + 1) (by omega) A' W' hW' (wa_K_t hK hK') hL'
    · rintro x ⟨he, hx⟩
      have := ok.2.1 _ _ _ he
      exact ⟨he, by omega⟩
theorem xs_le {post : SX → Prop} {d : Nat} {Ins : sa_C → List sa_C → Nat → Prop} (ok : sy_ok nS nG nN nR T E F) (hed : xr_Ed E a_edges) (hd : d < 2) (hI : ∀ c, E c.1 c.2.1 c.2.2 = true → Ins c [] 0) (hp : ∀ (A' : Nat → Int32) (W' : sa_C → Nat), wa_R 24 d A' W' → wa_K 24 d a_weights A' → sa_LI 1000000 Ins (fun c => E c.1 c.2.1 c.2.2 = true) W' → post (f_unreached, nI nS, nI nG, nI nN, nI nR, f_hereState, f_hereHeight, f_toSolved, f_fromSolved, f_toCount, f_fromCount, f_traceSize, f_workState, f_workHeight, a_ruleUsed, a_ruleFrom, a_ruleSymbol, a_ruleTo, a_ruleTop, a_ruleBelow, a_edges, a_finals, a_hereStack, A', a_traceRules, a_traceStates, a_traceHeights, a_traceStacks, a_workStack, a_vector, a_nextVector, a_marked, a_nextMarked)) : wpX_loadEdges post (f_unreached, nI nS, nI nG, nI nN, nI nR, f_hereState, f_hereHeight, f_toSolved, f_fromSolved, f_toCount, f_fromCount, f_traceSize, f_workState, f_workHeight, a_ruleUsed, a_ruleFrom, a_ruleSymbol, a_ruleTo, a_ruleTop, a_ruleBelow, a_edges, a_finals, a_hereStack, a_weights, a_traceRules, a_traceStates, a_traceHeights, a_traceStacks, a_workStack, a_vector, a_nextVector, a_marked, a_nextMarked) (nI (d + 1)) := by
  have hL : ∀ k i, i + k = 2880 → ∀ (A : Nat → Int32), (∀ j, j < i → A (d * 2880 + j) = nI 1000000) → wa_K 24 d a_weights A → wX_loadEdges_10 post (nI (d + 1)) (nI (d * 2880)) f_unreached (nI nS) (nI nG) (nI nN) (nI nR) f_hereState f_hereHeight f_toSolved f_fromSolved f_toCount f_fromCount f_traceSize f_workState f_workHeight (k + 1) (nI i) a_ruleUsed a_ruleFrom a_ruleSymbol a_ruleTo a_ruleTop a_ruleBelow a_edges a_finals a_hereStack A a_traceRules a_traceStates a_traceHeights a_traceStacks a_workStack a_vector a_nextVector a_marked a_nextMarked := by
    intro k
    induction k with
    | zero =>
      intro i hi A hA hK
      refine pk_le 2880 i (fun _ => ⟨nN + 1, ?_⟩) (fun z => absurd z (by omega))
      refine xs_35 ok hed hd hI ?_ nN 0 (by omega) A (fun _ => 1000000) ?_ wa_K_r (sa_ld0 (by omega) ?_)
      · intro A' W' hW' hK' hL'
        exact hp A' W' hW' (wa_K_t hK hK') hL'
      · intro f g t hf hg ht
        have e : ((d * 24 + f) * 5 + g) * 24 + t = d * 2880 + ((f * 5 + g) * 24 + t) := by omega
        rw [e]
        exact hA _ (by omega)
      · rintro c ⟨_, hc⟩
        omega
    | succ k ih =>
      intro i hi A hA hK
      have e : nI (d * 2880) + nI i = nI (d * 2880 + i) := nI_add _ _
      refine pk_le 2880 i (fun z => absurd z (by omega)) (fun _ => ?_)
      rw [e, nI_clamp (by omega)]
      refine ⟨vp_in_nI (by omega) (by omega), nm_e (nm_r (nI_1 i) (ih (i + 1) (by omega) _ ?_ ?_))⟩
      · intro j hj
        by_cases e2 : j = i
        · subst e2; exact pk_us
        · rw [pk_un (by omega)]
          exact hA j (by omega)
      · refine wa_K_t hK ?_
        intro j hj
        rw [pk_un]
        omega
  have e0 : (nI (d + 1) - 1) * 2880 = nI (d * 2880) := by
    show (nI (d + 1) - 1) * nI 2880 = _
    rw [nI_pred, pk_mul]
  exact nm_r e0 ⟨2881, hL 2880 0 (by omega) a_weights (fun j hj => absurd hj (Nat.not_lt_zero j)) wa_K_r⟩
theorem xs_lm {post : SX → Prop} {W : sa_C → Nat} (ok : sy_ok nS nG nN nR T E F) (hru : xr_Ru T a_ruleUsed a_ruleFrom a_ruleSymbol a_ruleTo a_ruleTop a_ruleBelow) (hW : wa_R 24 1 a_weights W) (hL : sa_LI 1000000 (sy_In (sy_XFl T E) (sy_XFr T)) (fun c => E c.1 c.2.1 c.2.2 = true) W) (hp : ∀ (A' : Nat → Int32) (W' : sa_C → Nat), wa_R 24 1 A' W' → wa_K 24 1 a_weights A' → sa_LI 1000000 (sy_In (sy_XFl T E) (sy_XFr T)) (sy_XFl T E) W' → post (f_unreached, nI nS, nI nG, nI nN, nI nR, f_hereState, f_hereHeight, f_toSolved, f_fromSolved, f_toCount, f_fromCount, f_traceSize, f_workState, f_workHeight, a_ruleUsed, a_ruleFrom, a_ruleSymbol, a_ruleTo, a_ruleTop, a_ruleBelow, a_edges, a_finals, a_hereStack, A', a_traceRules, a_traceStates, a_traceHeights, a_traceStacks, a_workStack, a_vector, a_nextVector, a_marked, a_nextMarked)) : wpX_loadMiddleNodes post (f_unreached, nI nS, nI nG, nI nN, nI nR, f_hereState, f_hereHeight, f_toSolved, f_fromSolved, f_toCount, f_fromCount, f_traceSize, f_workState, f_workHeight, a_ruleUsed, a_ruleFrom, a_ruleSymbol, a_ruleTo, a_ruleTop, a_ruleBelow, a_edges, a_finals, a_hereStack, a_weights, a_traceRules, a_traceStates, a_traceHeights, a_traceStacks, a_workStack, a_vector, a_nextVector, a_marked, a_nextMarked) := by
  have hS : nS ≤ 4 := ok.2.2.2.2.1
  have hG : nG ≤ 4 := ok.2.2.2.2.2.2.1
  have hR : nR ≤ 12 := ok.2.2.2.2.2.2.2.2.2.2
  have hM : ∀ k r, r + k = nR → ∀ (A : Nat → Int32) (W : sa_C → Nat), wa_R 24 1 A W → wa_K 24 1 a_weights A → sa_LI 1000000 (sy_In (sy_XFl T E) (sy_XFr T)) (fun c => E c.1 c.2.1 c.2.2 = true ∨ ∃ r' p g q a b, r' < r ∧ T r' = some (p, g, q, [a, b]) ∧ c = (q, a, sy_mid q a)) W → wX_loadMiddleNodes_2 post (k + 1) (nI r) f_unreached (nI nS) (nI nG) (nI nN) (nI nR) f_hereState f_hereHeight f_toSolved f_fromSolved f_toCount f_fromCount f_traceSize f_workState f_workHeight a_ruleUsed a_ruleFrom a_ruleSymbol a_ruleTo a_ruleTop a_ruleBelow a_edges a_finals a_hereStack A a_traceRules a_traceStates a_traceHeights a_traceStacks a_workStack a_vector a_nextVector a_marked a_nextMarked := by
    intro k
    induction k with
    | zero =>
      intro r hr A W hW hK hL
      refine pk_le nR r (fun _ => hp A W hW hK (sa_ldm ?_ hL)) (fun z => absurd z (by omega))
      rintro x (he | ⟨r', p, g, q, a, b, hT, e⟩)
      · exact Or.inl he
      · have := ok.1 _ _ _ _ _ hT
        exact Or.inr ⟨r', p, g, q, a, b, by omega, hT, e⟩
    | succ k ih =>
      intro r hr A W hW hK hL
      have hcl : (nI r).toNatClampNeg = r := nI_clamp (by omega)
      have hin : vp_in (nI r) 12 := vp_in_nI (by omega) (by omega)
      refine pk_le nR r (fun z => absurd z (by omega)) (fun _ => ?_)
      refine ⟨hin, ?_⟩
      rw [hcl]
      cases hT : T r with
      | none =>
        rw [(hru r (by omega)).1 hT]
        refine br_t rfl (nm_r (nI_1 r) (ih (r + 1) (by omega) A W hW hK (sa_ldm ?_ hL)))
        rintro x (he | ⟨r', p, g, q, a, b, hlt, hT', e⟩)
        · exact Or.inl he
        · by_cases e2 : r' = r
          · subst e2
            rw [hT] at hT'
            exact nomatch hT'
          · exact Or.inr ⟨r', p, g, q, a, b, by omega, hT', e⟩
      | some c =>
        obtain ⟨p, g, q, u⟩ := c
        have h1 := ok.1 _ _ _ _ _ hT
        have hx := (hru r (by omega)).2 _ _ _ _ hT
        rw [hx.1]
        refine br_f (by decide) ⟨hin, ?_⟩
        rw [hx.2.2.2.2.2, hx.2.2.2.1, hx.2.2.2.2.1]
        rcases h1.2.2.2.2.2 with e | ⟨a, e, ha⟩ | ⟨a, b, e, ha, ha2, hb, hb2⟩
        · subst e
          refine br_t rfl (nm_r (nI_1 r) (ih (r + 1) (by omega) A W hW hK (sa_ldm ?_ hL)))
          rintro x (he | ⟨r', p', g', q', a', b', hlt, hT', e⟩)
          · exact Or.inl he
          · by_cases e2 : r' = r
            · subst e2
              rw [hT] at hT'
              injection hT' with hT'
              injection hT' with _ hT'
              injection hT' with _ hT'
              injection hT' with _ hT'
              exact nomatch hT'
            · exact Or.inr ⟨r', p', g', q', a', b', by omega, hT', e⟩
        · subst e
          refine br_t rfl (nm_r (nI_1 r) (ih (r + 1) (by omega) A W hW hK (sa_ldm ?_ hL)))
          rintro x (he | ⟨r', p', g', q', a', b', hlt, hT', e⟩)
          · exact Or.inl he
          · by_cases e2 : r' = r
            · subst e2
              rw [hT] at hT'
              injection hT' with hT'
              injection hT' with _ hT'
              injection hT' with _ hT'
              injection hT' with _ hT'
              exact absurd (congrArg List.length hT') (by simp)
            · exact Or.inr ⟨r', p', g', q', a', b', by omega, hT', e⟩
        · subst e
          refine br_f (nI_ne0 (show 0 < b by omega) (show b < 2 ^ 31 by omega)) ⟨hin, hin, ?_⟩
          unfold wpX_middleNode
          dsimp only
          have em : ((8 + nI q * 4) + nI (st_tp [a, b])) - 1 = nI (sy_mid q a) := by
            show ((nI 8 + nI q * nI 4) + nI a) - nI 1 = nI (sy_mid q a)
            rw [pk_mul, nI_add, nI_add, pk_sub (by omega)]
            rfl
          rw [em]
          refine ⟨hin, hin, ?_⟩
          refine xs_ld1 (d := 1) (S' := fun c => E c.1 c.2.1 c.2.2 = true ∨ ∃ r' p g q a b, r' < r + 1 ∧ T r' = some (p, g, q, [a, b]) ∧ c = (q, a, sy_mid q a)) (by omega) (by omega) (by show a < 5; omega) (by unfold sy_mid; omega) hW hL (Or.inl ⟨rfl, rfl, Or.inr ⟨r, p, g, q, a, b, hT, rfl⟩⟩) ?_ ?_
          · rintro x (he | ⟨r', p', g', q', a', b', hlt, hT', e⟩)
            · exact Or.inl (Or.inl he)
            · by_cases e2 : r' = r
              · subst e2
                rw [hT] at hT'
                injection hT' with hT'
                injection hT' with _ hT'
                injection hT' with _ hT'
                injection hT' with e3 hT'
                injection hT' with e4 _
                subst e3 e4
                exact Or.inr e
              · exact Or.inl (Or.inr ⟨r', p', g', q', a', b', by omega, hT', e⟩)
          · intro x A' W' hW' hK' hL'
            exact nm_r (nI_1 r) (ih (r + 1) (by omega) A' W' hW' (wa_K_t hK hK') hL')
  refine ⟨nR + 1, hM nR 0 (by omega) a_weights W hW wa_K_r (sa_ldm ?_ hL)⟩
  rintro x (he | ⟨r', p, g, q, a, b, z, _⟩)
  · exact he
  · omega
end
end
section
/-! X: rounds -/
section
variable {nS nG nN nR : Nat} {f_unreached f_hereState f_hereHeight f_toSolved f_fromSolved f_toCount f_fromCount f_traceSize f_workState f_workHeight : Int32} {a_ruleUsed a_ruleFrom a_ruleSymbol a_ruleTo a_ruleTop a_ruleBelow a_edges a_finals a_hereStack a_weights a_traceRules a_traceStates a_traceHeights a_traceStacks a_workStack a_vector a_nextVector a_marked a_nextMarked : Nat → Int32}
variable {T : sy_T} {E : sy_E} {F : sy_F}
/-- the rules' part done before r -/
def sy_Db (Ld : sa_C → Prop) (Ru : Nat → sa_C → List sa_C → Nat → Prop) (r : Nat) (x : sa_C) (ys : List sa_C) (j : Nat) : Prop := sa_LD Ld x ys j ∨ ∃ r', r' < r ∧ Ru r' x ys j
theorem sy_Db_s {Ld : sa_C → Prop} {Ru : Nat → sa_C → List sa_C → Nat → Prop} {r : Nat} {x : sa_C} {ys : List sa_C} {j : Nat} (h : sy_Db Ld Ru (r + 1) x ys j) : sy_Db Ld Ru r x ys j ∨ Ru r x ys j := by
  rcases h with h | ⟨r', hr, h⟩
  · exact Or.inl (Or.inl h)
  · by_cases e : r' = r
    · subst e; exact Or.inr h
    · exact Or.inl (Or.inr ⟨r', by omega, h⟩)
theorem xs_34 {post : SX → Prop} {J18 : (Int32 → Int32 → Int32 → Int32 → Int32 → Int32 → Int32 → Int32 → Int32 → Int32 → Int32 → Int32 → Int32 → Int32 → Int32 → Int32 → (Nat → Int32) → (Nat → Int32) → (Nat → Int32) → (Nat → Int32) → (Nat → Int32) → (Nat → Int32) → (Nat → Int32) → (Nat → Int32) → (Nat → Int32) → (Nat → Int32) → (Nat → Int32) → (Nat → Int32) → (Nat → Int32) → (Nat → Int32) → (Nat → Int32) → (Nat → Int32) → (Nat → Int32) → (Nat → Int32) → (Nat → Int32) → Prop)} {d k : Nat} {x3 : Int32} {Ld : sa_C → Prop} {Ru : Nat → sa_C → List sa_C → Nat → Prop} {W0 : sa_C → Nat} (ok : sy_ok nS nG nN nR T E F) (hru : xr_Ru T a_ruleUsed a_ruleFrom a_ruleSymbol a_ruleTo a_ruleTop a_ruleBelow) (hd : d < 2) (hn : ∀ r, T r = none → ∀ x ys j, ¬ Ru r x ys j)
    (hrule : ∀ (post' : Int32 → SX → Prop) (r p g q : Nat) (u : List Nat) (A : Nat → Int32) (W : sa_C → Nat) (D : sa_C → List sa_C → Nat → Prop) (ch : Bool), T r = some (p, g, q, u) → wa_R 24 d A W → sa_RI 1000000 sy_XW (sy_In Ld Ru) W0 k D W ch → (∀ (b : Bool) (A' : Nat → Int32) (W' : sa_C → Nat), wa_R 24 d A' W' → wa_K 24 d A A' → sa_RI 1000000 sy_XW (sy_In Ld Ru) W0 k (fun a b c => D a b c ∨ Ru r a b c) W' (ch || b) → post' (st_b b) (f_unreached, nI nS, nI nG, nI nN, nI nR, f_hereState, f_hereHeight, f_toSolved, f_fromSolved, f_toCount, f_fromCount, f_traceSize, f_workState, f_workHeight, a_ruleUsed, a_ruleFrom, a_ruleSymbol, a_ruleTo, a_ruleTop, a_ruleBelow, a_edges, a_finals, a_hereStack, A', a_traceRules, a_traceStates, a_traceHeights, a_traceStacks, a_workStack, a_vector, a_nextVector, a_marked, a_nextMarked)) → (d = 0 → wpX_relaxBackward post' (f_unreached, nI nS, nI nG, nI nN, nI nR, f_hereState, f_hereHeight, f_toSolved, f_fromSolved, f_toCount, f_fromCount, f_traceSize, f_workState, f_workHeight, a_ruleUsed, a_ruleFrom, a_ruleSymbol, a_ruleTo, a_ruleTop, a_ruleBelow, a_edges, a_finals, a_hereStack, A, a_traceRules, a_traceStates, a_traceHeights, a_traceStacks, a_workStack, a_vector, a_nextVector, a_marked, a_nextMarked) (nI r)) ∧ (d = 1 → wpX_relaxForward post' (f_unreached, nI nS, nI nG, nI nN, nI nR, f_hereState, f_hereHeight, f_toSolved, f_fromSolved, f_toCount, f_fromCount, f_traceSize, f_workState, f_workHeight, a_ruleUsed, a_ruleFrom, a_ruleSymbol, a_ruleTo, a_ruleTop, a_ruleBelow, a_edges, a_finals, a_hereStack, A, a_traceRules, a_traceStates, a_traceHeights, a_traceStacks, a_workStack, a_vector, a_nextVector, a_marked, a_nextMarked) (nI r)))
    (hJ : ∀ (b : Bool) (A' : Nat → Int32) (W' : sa_C → Nat), wa_R 24 d A' W' → wa_K 24 d a_weights A' → sa_RI 1000000 sy_XW (sy_In Ld Ru) W0 k (sy_Db Ld Ru nR) W' b → J18 (st_b b) (x3 + 1) f_unreached (nI nS) (nI nG) (nI nN) (nI nR) f_hereState f_hereHeight f_toSolved f_fromSolved f_toCount f_fromCount f_traceSize f_workState f_workHeight a_ruleUsed a_ruleFrom a_ruleSymbol a_ruleTo a_ruleTop a_ruleBelow a_edges a_finals a_hereStack A' a_traceRules a_traceStates a_traceHeights a_traceStacks a_workStack a_vector a_nextVector a_marked a_nextMarked) : ∀ k' r, r + k' = nR → ∀ (b : Bool) (A : Nat → Int32) (W : sa_C → Nat), wa_R 24 d A W → wa_K 24 d a_weights A → sa_RI 1000000 sy_XW (sy_In Ld Ru) W0 k (sy_Db Ld Ru r) W b → wX_saturate_34 post J18 (nI (d + 1)) x3 (k' + 1) (st_b b) (nI r) f_unreached (nI nS) (nI nG) (nI nN) (nI nR) f_hereState f_hereHeight f_toSolved f_fromSolved f_toCount f_fromCount f_traceSize f_workState f_workHeight a_ruleUsed a_ruleFrom a_ruleSymbol a_ruleTo a_ruleTop a_ruleBelow a_edges a_finals a_hereStack A a_traceRules a_traceStates a_traceHeights a_traceStacks a_workStack a_vector a_nextVector a_marked a_nextMarked := by
  have hR : nR ≤ 12 := ok.2.2.2.2.2.2.2.2.2.2
  intro k'
  induction k' with
  | zero =>
    intro r hr b A W hW hK R
    have e : r = nR := by omega
    subst e
    exact pk_le r r (fun _ => nm_e (hJ b A W hW hK R)) (fun z => absurd z (by omega))
  | succ k' ih =>
    intro r hr b A W hW hK R
    have hcl : (nI r).toNatClampNeg = r := nI_clamp (by omega)
    have hin : vp_in (nI r) 12 := vp_in_nI (by omega) (by omega)
    refine pk_le nR r (fun z => absurd z (by omega)) (fun _ => ⟨hin, ?_⟩)
    rw [hcl]
    cases hT : T r with
    | none =>
      rw [(hru r (by omega)).1 hT]
      refine br_t rfl (nm_r (nI_1 r) (ih (r + 1) (by omega) b A W hW hK (sa_mono ?_ R)))
      intro x ys j h
      rcases sy_Db_s h with h | h
      · exact h
      · exact absurd h (hn r hT x ys j)
    | some c =>
      obtain ⟨p, g, q, u⟩ := c
      rw [((hru r (by omega)).2 _ _ _ _ hT).1]
      refine br_f (by decide) ?_
      have hc : ∀ (b' : Bool) (A' : Nat → Int32) (W' : sa_C → Nat), wa_R 24 d A' W' → wa_K 24 d A A' → sa_RI 1000000 sy_XW (sy_In Ld Ru) W0 k (fun x ys j => sy_Db Ld Ru r x ys j ∨ Ru r x ys j) W' (b || b') → wX_saturate_77 post J18 (wX_saturate_34 post J18 (nI (d + 1)) x3 (k' + 1)) (nI (d + 1)) (st_b b) x3 (nI r) (st_b b') f_unreached (nI nS) (nI nG) (nI nN) (nI nR) f_hereState f_hereHeight f_toSolved f_fromSolved f_toCount f_fromCount f_traceSize f_workState f_workHeight a_ruleUsed a_ruleFrom a_ruleSymbol a_ruleTo a_ruleTop a_ruleBelow a_edges a_finals a_hereStack A' a_traceRules a_traceStates a_traceHeights a_traceStacks a_workStack a_vector a_nextVector a_marked a_nextMarked := by
        intro b' A' W' hW' hK' R'
        have hn2 := ih (r + 1) (by omega) (b || b') A' W' hW' (wa_K_t hK hK') (sa_mono (fun x ys j h => sy_Db_s h) R')
        cases b' with
        | false =>
          rw [Bool.or_false] at hn2
          exact br_t rfl (nm_r (nI_1 r) hn2)
        | true =>
          rw [Bool.or_true] at hn2
          exact br_f (by decide) (nm_r (nI_1 r) hn2)
      refine pk_eq (d + 1) 1 (fun e => ?_) (fun e => ?_)
      · exact (hrule _ r p g q u A W _ b hT hW R hc).1 (by omega)
      · exact (hrule _ r p g q u A W _ b hT hW R hc).2 (by omega)
theorem xs_18 {post : SX → Prop} {d : Nat} {Ld : sa_C → Prop} {Ru : Nat → sa_C → List sa_C → Nat → Prop} (ok : sy_ok nS nG nN nR T E F) (hru : xr_Ru T a_ruleUsed a_ruleFrom a_ruleSymbol a_ruleTo a_ruleTop a_ruleBelow) (hd : d < 2) (hn : ∀ r, T r = none → ∀ x ys j, ¬ Ru r x ys j) (hI : sa_OK (sy_In Ld Ru) sy_XW)
    (hrule : ∀ (k : Nat) (W0 : sa_C → Nat), k ≤ 256 → sa_St 1000000 (sy_In Ld Ru) k W0 → ∀ (post' : Int32 → SX → Prop) (r p g q : Nat) (u : List Nat) (A : Nat → Int32) (W : sa_C → Nat) (D : sa_C → List sa_C → Nat → Prop) (ch : Bool), T r = some (p, g, q, u) → wa_R 24 d A W → sa_RI 1000000 sy_XW (sy_In Ld Ru) W0 k D W ch → (∀ (b : Bool) (A' : Nat → Int32) (W' : sa_C → Nat), wa_R 24 d A' W' → wa_K 24 d A A' → sa_RI 1000000 sy_XW (sy_In Ld Ru) W0 k (fun a b c => D a b c ∨ Ru r a b c) W' (ch || b) → post' (st_b b) (f_unreached, nI nS, nI nG, nI nN, nI nR, f_hereState, f_hereHeight, f_toSolved, f_fromSolved, f_toCount, f_fromCount, f_traceSize, f_workState, f_workHeight, a_ruleUsed, a_ruleFrom, a_ruleSymbol, a_ruleTo, a_ruleTop, a_ruleBelow, a_edges, a_finals, a_hereStack, A', a_traceRules, a_traceStates, a_traceHeights, a_traceStacks, a_workStack, a_vector, a_nextVector, a_marked, a_nextMarked)) → (d = 0 → wpX_relaxBackward post' (f_unreached, nI nS, nI nG, nI nN, nI nR, f_hereState, f_hereHeight, f_toSolved, f_fromSolved, f_toCount, f_fromCount, f_traceSize, f_workState, f_workHeight, a_ruleUsed, a_ruleFrom, a_ruleSymbol, a_ruleTo, a_ruleTop, a_ruleBelow, a_edges, a_finals, a_hereStack, A, a_traceRules, a_traceStates, a_traceHeights, a_traceStacks, a_workStack, a_vector, a_nextVector, a_marked, a_nextMarked) (nI r)) ∧ (d = 1 → wpX_relaxForward post' (f_unreached, nI nS, nI nG, nI nN, nI nR, f_hereState, f_hereHeight, f_toSolved, f_fromSolved, f_toCount, f_fromCount, f_traceSize, f_workState, f_workHeight, a_ruleUsed, a_ruleFrom, a_ruleSymbol, a_ruleTo, a_ruleTop, a_ruleBelow, a_edges, a_finals, a_hereStack, A, a_traceRules, a_traceStates, a_traceHeights, a_traceStacks, a_workStack, a_vector, a_nextVector, a_marked, a_nextMarked) (nI r)))
    (hp : ∀ (A' : Nat → Int32) (W' : sa_C → Nat), wa_R 24 d A' W' → wa_K 24 d a_weights A' → sa_Fx 1000000 (sy_In Ld Ru) W' → post (f_unreached, nI nS, nI nG, nI nN, nI nR, f_hereState, f_hereHeight, f_toSolved, f_fromSolved, f_toCount, f_fromCount, f_traceSize, f_workState, f_workHeight, a_ruleUsed, a_ruleFrom, a_ruleSymbol, a_ruleTo, a_ruleTop, a_ruleBelow, a_edges, a_finals, a_hereStack, A', a_traceRules, a_traceStates, a_traceHeights, a_traceStacks, a_workStack, a_vector, a_nextVector, a_marked, a_nextMarked)) : ∀ n i, 4000 - i < n → i ≤ 4000 → ∀ (b : Bool) (A : Nat → Int32) (W : sa_C → Nat), wa_R 24 d A W → wa_K 24 d a_weights A → ((b = false ∧ sa_Fx 1000000 (sy_In Ld Ru) W) ∨ (b = true ∧ ∃ m, m + i < 4000 ∧ sa_BI 1000000 (sy_In Ld Ru) Ld sy_XL W m)) → wX_saturate_18 post (nI (d + 1)) n (st_b b) (nI i) f_unreached (nI nS) (nI nG) (nI nN) (nI nR) f_hereState f_hereHeight f_toSolved f_fromSolved f_toCount f_fromCount f_traceSize f_workState f_workHeight a_ruleUsed a_ruleFrom a_ruleSymbol a_ruleTo a_ruleTop a_ruleBelow a_edges a_finals a_hereStack A a_traceRules a_traceStates a_traceHeights a_traceStacks a_workStack a_vector a_nextVector a_marked a_nextMarked := by
  intro n
  induction n with
  | zero => intro i hi; exact absurd hi (Nat.not_lt_zero _)
  | succ n ih =>
    intro i hi hi2 b A W hW hK hb
    rcases hb with ⟨rfl, hF⟩ | ⟨rfl, m, hm, hBI⟩
    · exact br_c (fun _ => hp A W hW hK hF) (fun _ => br_t rfl (hp A W hW hK hF))
    · obtain ⟨h1, h2, h3, k, hk, hs, hc⟩ := hBI
      refine pk_le 4000 i (fun z => absurd z (by omega)) (fun _ => br_f (by decide) ⟨nR + 1, ?_⟩)
      refine xs_34 (W0 := W) ok hru hd hn (hrule k W hk hs) ?_ nR 0 (by omega) false A W hW wa_K_r (sa_mono ?_ (sa_begin (Wr := sy_XW) (k := k) (fun c hc => Or.inl ⟨rfl, rfl, hc⟩) h1 h2 h3))
      · intro b' A' W' hW' hK' R'
        have R2 : sa_RI 1000000 sy_XW (sy_In Ld Ru) W k (sy_In Ld Ru) W' b' := by
          refine sa_mono ?_ R'
          rintro x ys j (h | ⟨r, h⟩)
          · exact Or.inl h
          · cases hT : T r with
            | none => exact absurd h (hn r hT x ys j)
            | some c =>
              obtain ⟨p, g, q, u⟩ := c
              exact Or.inr ⟨r, (ok.1 _ _ _ _ _ hT).1, h⟩
        have he := sa_end (by omega) hI sy_XL_in hk hc h1 h3 R2
        rw [nI_1 i]
        refine ih (i + 1) (by omega) (by omega) b' A' W' hW' (wa_K_t hK hK') ?_
        cases b' with
        | false => exact Or.inl ⟨rfl, he.1 rfl⟩
        | true =>
          have h4 := he.2 rfl
          exact Or.inr ⟨rfl, m - 1, by omega, h4.2⟩
      · rintro x ys j (h | ⟨r', z, _⟩)
        · exact h
        · omega
/-- the table of a way -/
def sy_XI (d nN : Nat) (T : sy_T) (E : sy_E) : sa_C → List sa_C → Nat → Prop := match d with
  | 0 => sy_In (sy_XTl E) (sy_XTr nN T)
  | _ + 1 => sy_In (sy_XFl T E) (sy_XFr T)
theorem sa_LI_BI {B : Nat} {Ins : sa_C → List sa_C → Nat → Prop} {Ld : sa_C → Prop} {cells : List sa_C} {W : sa_C → Nat} (h : sa_LI B Ins Ld W) : sa_BI B Ins Ld cells W (256 + cells.length) := by
  refine ⟨h.1, h.2.1, h.2.2, 0, by omega, fun x ys j _ z => absurd z (Nat.not_lt_zero _), ?_⟩
  have := sa_cn_len B W cells
  omega
theorem xs_sat {post : SX → Prop} {d : Nat} (ok : sy_ok nS nG nN nR T E F) (hru : xr_Ru T a_ruleUsed a_ruleFrom a_ruleSymbol a_ruleTo a_ruleTop a_ruleBelow) (hed : xr_Ed E a_edges) (hd : d < 2) (hp : ∀ (A' : Nat → Int32) (W' : sa_C → Nat), wa_R 24 d A' W' → wa_K 24 d a_weights A' → sa_Fx 1000000 (sy_XI d nN T E) W' → post (f_unreached, nI nS, nI nG, nI nN, nI nR, f_hereState, f_hereHeight, f_toSolved, f_fromSolved, f_toCount, f_fromCount, f_traceSize, f_workState, f_workHeight, a_ruleUsed, a_ruleFrom, a_ruleSymbol, a_ruleTo, a_ruleTop, a_ruleBelow, a_edges, a_finals, a_hereStack, A', a_traceRules, a_traceStates, a_traceHeights, a_traceStacks, a_workStack, a_vector, a_nextVector, a_marked, a_nextMarked)) : wpX_saturate post (f_unreached, nI nS, nI nG, nI nN, nI nR, f_hereState, f_hereHeight, f_toSolved, f_fromSolved, f_toCount, f_fromCount, f_traceSize, f_workState, f_workHeight, a_ruleUsed, a_ruleFrom, a_ruleSymbol, a_ruleTo, a_ruleTop, a_ruleBelow, a_edges, a_finals, a_hereStack, a_weights, a_traceRules, a_traceStates, a_traceHeights, a_traceStacks, a_workStack, a_vector, a_nextVector, a_marked, a_nextMarked) (nI (d + 1)) := by
  have hlen := sy_XL_len
  unfold wpX_saturate
  match d, hd, hp with
  | 0, hd, hp =>
    refine xs_le (Ins := sy_In (sy_XTl E) (sy_XTr nN T)) ok hed (by omega) (fun c hc => Or.inl ⟨rfl, rfl, hc⟩) ?_
    intro A W hW hK hL
    refine br_f (by decide) ⟨4001, ?_⟩
    refine xs_18 (d := 0) (Ld := sy_XTl E) (Ru := sy_XTr nN T) ok hru (by omega) ?_ (sy_XT_ok ok) ?_ hp 4001 0 (by omega) (by omega) true A W hW hK (Or.inr ⟨rfl, 256 + sy_XL.length, by omega, sa_LI_BI hL⟩)
    · rintro r hT x ys j ⟨p, g, q, u, hT', _⟩
      rw [hT] at hT'
      exact nomatch hT'
    · intro k W0 hk hs post' r p g q u A W D ch hT hW R hq
      exact ⟨fun _ => xs_rb ok hru hT hk hs hW R hq, fun z => absurd z (by omega)⟩
  | 1, hd, hp =>
    refine xs_le (d := 1) (Ins := sy_In (sy_XFl T E) (sy_XFr T)) ok hed (by omega) (fun c hc => Or.inl ⟨rfl, rfl, Or.inl hc⟩) ?_
    intro A W hW hK hL
    refine br_t (show nI (1 + 1) = 2 from rfl) ?_
    refine xs_lm ok hru hW hL ?_
    intro A2 W2 hW2 hK2 hL2
    refine ⟨4001, ?_⟩
    refine xs_18 (d := 1) (Ld := sy_XFl T E) (Ru := sy_XFr T) ok hru (by omega) ?_ (sy_XF_ok ok) ?_ hp 4001 0 (by omega) (by omega) true A2 W2 hW2 (wa_K_t hK hK2) (Or.inr ⟨rfl, 256 + sy_XL.length, by omega, sa_LI_BI hL2⟩)
    · rintro r hT x ys j ⟨p, g, q, u, hT', _⟩
      rw [hT] at hT'
      exact nomatch hT'
    · intro k W0 hk hs post' r p g q u A W D ch hT hW R hq
      exact ⟨fun z => absurd z (by omega), fun _ => xs_rf ok hru hT hk hs hW R hq⟩
end
end
section
/-! X: measuring -/
theorem nI_h1 (n : Nat) : nI n + (-1) = nI n - 1 := (Int32.sub_eq_add_neg ..).symm
theorem nI_h0 : nI 0 - 1 < 0 := by decide
section
variable {nS nG nN nR : Nat} {f_unreached f_hereState f_hereHeight f_toSolved f_fromSolved f_toCount f_fromCount f_traceSize f_workState f_workHeight : Int32} {a_ruleUsed a_ruleFrom a_ruleSymbol a_ruleTo a_ruleTop a_ruleBelow a_edges a_finals a_hereStack a_weights a_traceRules a_traceStates a_traceHeights a_traceStacks a_workStack a_vector a_nextVector a_marked a_nextMarked : Nat → Int32}
variable {T : sy_T} {E : sy_E} {F : sy_F}
theorem xm_111 {post : SX → Prop} {N : Nat → Int32} (h : ∀ (V : Nat → Int32), (∀ t, t < 24 → V t = N t) → post (f_unreached, nI nS, nI nG, nI nN, nI nR, f_hereState, f_hereHeight, f_toSolved, f_fromSolved, f_toCount, f_fromCount, f_traceSize, f_workState, f_workHeight, a_ruleUsed, a_ruleFrom, a_ruleSymbol, a_ruleTo, a_ruleTop, a_ruleBelow, a_edges, a_finals, a_hereStack, a_weights, a_traceRules, a_traceStates, a_traceHeights, a_traceStacks, a_workStack, V, N, a_marked, a_nextMarked)) : ∀ k t, t + k = 24 → ∀ V : Nat → Int32, (∀ t', t' < t → V t' = N t') → wX_advanceVector_111 post f_unreached (nI nS) (nI nG) (nI nN) (nI nR) f_hereState f_hereHeight f_toSolved f_fromSolved f_toCount f_fromCount f_traceSize f_workState f_workHeight (k + 1) (nI t) a_ruleUsed a_ruleFrom a_ruleSymbol a_ruleTo a_ruleTop a_ruleBelow a_edges a_finals a_hereStack a_weights a_traceRules a_traceStates a_traceHeights a_traceStacks a_workStack V N a_marked a_nextMarked := by
  intro k
  induction k with
  | zero =>
    intro t ht V hV
    exact pk_le 24 t (fun _ => h V (fun t' ht' => hV t' (by omega))) (fun z => absurd z (by omega))
  | succ k ih =>
    intro t ht V hV
    have hcl : (nI t).toNatClampNeg = t := nI_clamp (by omega)
    have hin : vp_in (nI t) 24 := vp_in_nI (by omega) (by omega)
    refine pk_le 24 t (fun z => absurd z (by omega)) (fun _ => ⟨hin, hin, ?_⟩)
    rw [hcl]
    refine nm_e (nm_r (nI_1 t) (ih (t + 1) (by omega) _ ?_))
    intro t' ht'
    by_cases e : t' = t
    · subst e; exact pk_us
    · rw [pk_un e]; exact hV t' (by omega)
theorem xm_44 {post : SX → Prop} {J24 : (Int32 → (Nat → Int32) → (Nat → Int32) → (Nat → Int32) → (Nat → Int32) → (Nat → Int32) → (Nat → Int32) → (Nat → Int32) → (Nat → Int32) → (Nat → Int32) → (Nat → Int32) → (Nat → Int32) → (Nat → Int32) → (Nat → Int32) → (Nat → Int32) → (Nat → Int32) → (Nat → Int32) → (Nat → Int32) → (Nat → Int32) → (Nat → Int32) → Prop)} {d g s : Nat} {W : sa_C → Nat} {v : Nat → Nat} (hd : d < 2) (hg : g < 5) (hs : s < 24) (hW : wa_R 24 d a_weights W) (hR : sa_Rg 1000000 W) (hv : a_vector s = nI (v s)) (hvB : v s ≤ 1000000) (hJ : ∀ N : Nat → Int32, (∀ t, t < 24 → N t = nI (wc_mn 1000000 (fun s => wc_pl 1000000 (v s) (W (s, g, t))) (s + 1))) → J24 (nI (s + 1)) a_ruleUsed a_ruleFrom a_ruleSymbol a_ruleTo a_ruleTop a_ruleBelow a_edges a_finals a_hereStack a_weights a_traceRules a_traceStates a_traceHeights a_traceStacks a_workStack a_vector N a_marked a_nextMarked) : ∀ k t, t + k = 24 → ∀ N : Nat → Int32, (∀ t', t' < t → N t' = nI (wc_mn 1000000 (fun s => wc_pl 1000000 (v s) (W (s, g, t'))) (s + 1))) → (∀ t', t ≤ t' → t' < 24 → N t' = nI (wc_mn 1000000 (fun s => wc_pl 1000000 (v s) (W (s, g, t'))) s)) → wX_advanceVector_44 post J24 (nI (d + 1)) (nI g) (nI s) f_unreached (nI nS) (nI nG) (nI nN) (nI nR) f_hereState f_hereHeight f_toSolved f_fromSolved f_toCount f_fromCount f_traceSize f_workState f_workHeight (k + 1) (nI t) a_ruleUsed a_ruleFrom a_ruleSymbol a_ruleTo a_ruleTop a_ruleBelow a_edges a_finals a_hereStack a_weights a_traceRules a_traceStates a_traceHeights a_traceStacks a_workStack a_vector N a_marked a_nextMarked := by
  intro k
  induction k with
  | zero =>
    intro t ht N h1 h2
    exact pk_le 24 t (fun _ => nm_r (nI_1 s) (hJ N (fun t' ht' => h1 t' (by omega)))) (fun z => absurd z (by omega))
  | succ k ih =>
    intro t ht N h1 h2
    have hcl : (nI t).toNatClampNeg = t := nI_clamp (by omega)
    have hin : vp_in (nI t) 24 := vp_in_nI (by omega) (by omega)
    have hcs : (nI s).toNatClampNeg = s := nI_clamp (by omega)
    have hins : vp_in (nI s) 24 := vp_in_nI (by omega) (by omega)
    have hwr := hR (s, g, t)
    have hmB := wc_mn_B 1000000 (fun s => wc_pl 1000000 (v s) (W (s, g, t))) s
    have hpB : wc_pl 1000000 (v s) (W (s, g, t)) ≤ 1000000 := wc_pl_le (by omega)
    refine pk_le 24 t (fun z => absurd z (by omega)) (fun _ => ?_)
    refine xw_of hd hs hg (by omega) (hW s g t hs hg (by omega)) ⟨hins, ?_⟩
    rw [hcs, hv]
    refine xw_plus _ _ hvB (by omega) ⟨hin, ?_⟩
    rw [hcl, h2 t (by omega) (by omega)]
    refine pk_le (wc_mn 1000000 (fun s => wc_pl 1000000 (v s) (W (s, g, t))) s) (wc_pl 1000000 (v s) (W (s, g, t))) (fun h3 => nm_r (nI_1 t) (ih (t + 1) (by omega) N ?_ ?_)) (fun h3 => ⟨hin, nm_e (nm_r (nI_1 t) (ih (t + 1) (by omega) _ ?_ ?_))⟩)
    · intro t' ht'
      by_cases e : t' = t
      · subst e
        rw [h2 t' (by omega) (by omega), wc_mn_k h3]
      · exact h1 t' (by omega)
    · intro t' ht' ht2
      exact h2 t' (by omega) ht2
    · intro t' ht'
      by_cases e : t' = t
      · subst e
        rw [pk_us, wc_mn_t h3]
      · rw [pk_un e]; exact h1 t' (by omega)
    · intro t' ht' ht2
      rw [pk_un (by omega)]
      exact h2 t' (by omega) ht2
theorem xm_24 {post : SX → Prop} {d g : Nat} {W : sa_C → Nat} {v : Nat → Nat} (hd : d < 2) (hg : g < 5) (hW : wa_R 24 d a_weights W) (hR : sa_Rg 1000000 W) (hv : ∀ t, t < 24 → a_vector t = nI (v t)) (hvB : ∀ t, t < 24 → v t ≤ 1000000) (h : ∀ (V N : Nat → Int32), (∀ t, t < 24 → V t = nI (ms_st 1000000 24 W g v t)) → post (f_unreached, nI nS, nI nG, nI nN, nI nR, f_hereState, f_hereHeight, f_toSolved, f_fromSolved, f_toCount, f_fromCount, f_traceSize, f_workState, f_workHeight, a_ruleUsed, a_ruleFrom, a_ruleSymbol, a_ruleTo, a_ruleTop, a_ruleBelow, a_edges, a_finals, a_hereStack, a_weights, a_traceRules, a_traceStates, a_traceHeights, a_traceStacks, a_workStack, V, N, a_marked, a_nextMarked)) : ∀ k s, s + k = 24 → ∀ N : Nat → Int32, (∀ t, t < 24 → N t = nI (wc_mn 1000000 (fun s => wc_pl 1000000 (v s) (W (s, g, t))) s)) → wX_advanceVector_24 post (nI (d + 1)) (nI g) f_unreached (nI nS) (nI nG) (nI nN) (nI nR) f_hereState f_hereHeight f_toSolved f_fromSolved f_toCount f_fromCount f_traceSize f_workState f_workHeight (k + 1) (nI s) a_ruleUsed a_ruleFrom a_ruleSymbol a_ruleTo a_ruleTop a_ruleBelow a_edges a_finals a_hereStack a_weights a_traceRules a_traceStates a_traceHeights a_traceStacks a_workStack a_vector N a_marked a_nextMarked := by
  intro k
  induction k with
  | zero =>
    intro s hs N hN
    have e : s = 24 := by omega
    subst e
    refine pk_le 24 24 (fun _ => ⟨25, ?_⟩) (fun z => absurd z (by omega))
    refine xm_111 ?_ 24 0 (by omega) a_vector (fun t' z => absurd z (Nat.not_lt_zero _))
    intro V hV
    exact h V N (fun t ht => (hV t ht).trans (hN t ht))
  | succ k ih =>
    intro s hs N hN
    have hcs : (nI s).toNatClampNeg = s := nI_clamp (by omega)
    have hins : vp_in (nI s) 24 := vp_in_nI (by omega) (by omega)
    have hb := hvB s (by omega)
    refine pk_le 24 s (fun z => absurd z (by omega)) (fun _ => ⟨hins, ?_⟩)
    rw [hcs, hv s (by omega)]
    refine pk_le 1000000 (v s) (fun h1 => nm_r (nI_1 s) (ih (s + 1) (by omega) N ?_)) (fun h1 => ⟨25, ?_⟩)
    · intro t ht
      have e : v s = 1000000 := by omega
      have h2 : wc_mn 1000000 (fun s => wc_pl 1000000 (v s) (W (s, g, t))) s ≤ wc_pl 1000000 (v s) (W (s, g, t)) := by
        rw [e, wc_pl_B]
        exact wc_mn_B _ _ _
      rw [hN t ht]
      exact congrArg nI (wc_mn_k h2).symm
    · exact xm_44 hd hg (by omega) hW hR (hv s (by omega)) hb (fun N' hN' => ih (s + 1) (by omega) N' hN') 24 0 (by omega) N (fun t' z => absurd z (Nat.not_lt_zero _)) (fun t' _ ht' => hN t' ht')
theorem xm_av {post : SX → Prop} {d g : Nat} {W : sa_C → Nat} {v : Nat → Nat} (hd : d < 2) (hg : g < 5) (hW : wa_R 24 d a_weights W) (hR : sa_Rg 1000000 W) (hv : ∀ t, t < 24 → a_vector t = nI (v t)) (hvB : ∀ t, t < 24 → v t ≤ 1000000) (h : ∀ (V N : Nat → Int32), (∀ t, t < 24 → V t = nI (ms_st 1000000 24 W g v t)) → post (f_unreached, nI nS, nI nG, nI nN, nI nR, f_hereState, f_hereHeight, f_toSolved, f_fromSolved, f_toCount, f_fromCount, f_traceSize, f_workState, f_workHeight, a_ruleUsed, a_ruleFrom, a_ruleSymbol, a_ruleTo, a_ruleTop, a_ruleBelow, a_edges, a_finals, a_hereStack, a_weights, a_traceRules, a_traceStates, a_traceHeights, a_traceStacks, a_workStack, V, N, a_marked, a_nextMarked)) : wpX_advanceVector post (f_unreached, nI nS, nI nG, nI nN, nI nR, f_hereState, f_hereHeight, f_toSolved, f_fromSolved, f_toCount, f_fromCount, f_traceSize, f_workState, f_workHeight, a_ruleUsed, a_ruleFrom, a_ruleSymbol, a_ruleTo, a_ruleTop, a_ruleBelow, a_edges, a_finals, a_hereStack, a_weights, a_traceRules, a_traceStates, a_traceHeights, a_traceStacks, a_workStack, a_vector, a_nextVector, a_marked, a_nextMarked) (nI (d + 1)) (nI g) := by
  have hL : ∀ k t, t + k = 24 → ∀ N : Nat → Int32, (∀ t', t' < t → N t' = nI 1000000) → wX_advanceVector_2 post (nI (d + 1)) (nI g) f_unreached (nI nS) (nI nG) (nI nN) (nI nR) f_hereState f_hereHeight f_toSolved f_fromSolved f_toCount f_fromCount f_traceSize f_workState f_workHeight (k + 1) (nI t) a_ruleUsed a_ruleFrom a_ruleSymbol a_ruleTo a_ruleTop a_ruleBelow a_edges a_finals a_hereStack a_weights a_traceRules a_traceStates a_traceHeights a_traceStacks a_workStack a_vector N a_marked a_nextMarked := by
    intro k
    induction k with
    | zero =>
      intro t ht N hN
      refine pk_le 24 t (fun _ => ⟨25, ?_⟩) (fun z => absurd z (by omega))
      exact xm_24 hd hg hW hR hv hvB h 24 0 (by omega) N (fun t' ht' => hN t' (by omega))
    | succ k ih =>
      intro t ht N hN
      have hcl : (nI t).toNatClampNeg = t := nI_clamp (by omega)
      refine pk_le 24 t (fun z => absurd z (by omega)) (fun _ => ⟨vp_in_nI (by omega) (by omega), ?_⟩)
      rw [hcl]
      refine nm_e (nm_r (nI_1 t) (ih (t + 1) (by omega) _ ?_))
      intro t' ht'
      by_cases e : t' = t
      · subst e; exact pk_us
      · rw [pk_un e]; exact hN t' (by omega)
  exact ⟨25, hL 24 0 (by omega) a_nextVector (fun t' z => absurd z (Nat.not_lt_zero _))⟩
theorem xm_74 {post : Int32 → SX → Prop} {v : Nat → Nat} (hfi : xr_Fi F a_finals) (hv : ∀ t, t < 24 → a_vector t = nI (v t)) (hvB : ∀ t, t < 24 → v t ≤ 1000000) (h : post (nI (wc_mn 1000000 (ms_fn 1000000 F v) 24)) (f_unreached, nI nS, nI nG, nI nN, nI nR, f_hereState, f_hereHeight, f_toSolved, f_fromSolved, f_toCount, f_fromCount, f_traceSize, f_workState, f_workHeight, a_ruleUsed, a_ruleFrom, a_ruleSymbol, a_ruleTo, a_ruleTop, a_ruleBelow, a_edges, a_finals, a_hereStack, a_weights, a_traceRules, a_traceStates, a_traceHeights, a_traceStacks, a_workStack, a_vector, a_nextVector, a_marked, a_nextMarked)) : ∀ k t, t + k = 24 → wX_measure_74 post f_unreached (nI nS) (nI nG) (nI nN) (nI nR) f_hereState f_hereHeight f_toSolved f_fromSolved f_toCount f_fromCount f_traceSize f_workState f_workHeight a_ruleUsed a_ruleFrom a_ruleSymbol a_ruleTo a_ruleTop a_ruleBelow a_edges a_finals a_hereStack a_weights a_traceRules a_traceStates a_traceHeights a_traceStacks a_workStack a_vector a_nextVector a_marked a_nextMarked (k + 1) (nI (wc_mn 1000000 (ms_fn 1000000 F v) t)) (nI t) := by
  intro k
  induction k with
  | zero =>
    intro t ht
    have e : t = 24 := by omega
    subst e
    exact pk_le 24 24 (fun _ => h) (fun z => absurd z (by omega))
  | succ k ih =>
    intro t ht
    have hcl : (nI t).toNatClampNeg = t := nI_clamp (by omega)
    have hin : vp_in (nI t) 24 := vp_in_nI (by omega) (by omega)
    have hmB := wc_mn_B 1000000 (ms_fn 1000000 F v) t
    have hb := hvB t (by omega)
    refine pk_le 24 t (fun z => absurd z (by omega)) (fun _ => ⟨hin, ?_⟩)
    rw [hcl, hfi t (by omega), hv t (by omega)]
    have hn := ih (t + 1) (by omega)
    cases hF : F t with
    | false =>
      have e : wc_mn 1000000 (ms_fn 1000000 F v) (t + 1) = wc_mn 1000000 (ms_fn 1000000 F v) t := wc_mn_k (by unfold ms_fn; rw [hF]; exact hmB)
      rw [e] at hn
      exact br_t rfl (nm_r (nI_1 t) hn)
    | true =>
      have e0 : ms_fn 1000000 F v t = v t := by unfold ms_fn; rw [hF]; rfl
      refine br_f (by decide) ⟨hin, ?_⟩
      refine pk_le (wc_mn 1000000 (ms_fn 1000000 F v) t) (v t) (fun h3 => nm_r (nI_1 t) ?_) (fun h3 => ⟨hin, nm_e (nm_r (nI_1 t) ?_)⟩)
      · rw [wc_mn_k (by rw [e0]; exact h3)] at hn
        exact hn
      · rw [wc_mn_t (by rw [e0]; exact h3), e0] at hn
        exact hn
theorem xm_48 {post : Int32 → SX → Prop} {d : Nat} {W : sa_C → Nat} (hd : d < 2) (hW : wa_R 24 d a_weights W) (hR : sa_Rg 1000000 W) (hfi : xr_Fi F a_finals) : ∀ (w : List Nat) (v : Nat → Nat) (V N : Nat → Int32), (∀ a, a ∈ w → a < 5) → w.length ≤ 32 → st_Stk a_workStack 0 w → (∀ t, t < 24 → V t = nI (v t)) → (∀ t, t < 24 → v t ≤ 1000000) → (∀ (V' N' : Nat → Int32), post (nI (wc_mn 1000000 (ms_fn 1000000 F (ms_rd 1000000 24 W w v)) 24)) (f_unreached, nI nS, nI nG, nI nN, nI nR, f_hereState, f_hereHeight, f_toSolved, f_fromSolved, f_toCount, f_fromCount, f_traceSize, f_workState, f_workHeight, a_ruleUsed, a_ruleFrom, a_ruleSymbol, a_ruleTo, a_ruleTop, a_ruleBelow, a_edges, a_finals, a_hereStack, a_weights, a_traceRules, a_traceStates, a_traceHeights, a_traceStacks, a_workStack, V', N', a_marked, a_nextMarked)) → wX_measure_48 post (nI (d + 1)) (w.length + 1) (nI w.length - 1) f_unreached (nI nS) (nI nG) (nI nN) (nI nR) f_hereState f_hereHeight f_toSolved f_fromSolved f_toCount f_fromCount f_traceSize f_workState f_workHeight a_ruleUsed a_ruleFrom a_ruleSymbol a_ruleTo a_ruleTop a_ruleBelow a_edges a_finals a_hereStack a_weights a_traceRules a_traceStates a_traceHeights a_traceStacks a_workStack V N a_marked a_nextMarked
  := by
  intro w
  induction w with
  | nil =>
    intro v V N _ _ _ hV hvB h
    refine br_t nI_h0 ⟨25, ?_⟩
    exact xm_74 hfi hV hvB (h V N) 24 0 (by omega)
  | cons a w ih =>
    intro v V N hs hl hk hV hvB h
    have hl' : w.length < 32 := by simp only [List.length_cons] at hl; omega
    have hcl : (nI w.length).toNatClampNeg = w.length := nI_clamp (by omega)
    have hk1 : a_workStack w.length = nI a := by have := hk.1; rw [Nat.zero_add] at this; exact this
    rw [List.length_cons, nI_pred]
    refine br_f (nI_pos (by omega)) ⟨vp_in_nI hl' (by omega), ?_⟩
    rw [hcl, hk1]
    refine xm_av hd (hs a (List.mem_cons_self ..)) hW hR hV hvB ?_
    intro V' N' hV'
    refine nm_r (nI_h1 w.length) ?_
    exact ih _ V' N' (fun b hb => hs b (List.mem_cons_of_mem _ hb)) (by omega) hk.2 hV' (fun t _ => wc_mn_B _ _ _) h
theorem xm_me {post : Int32 → SX → Prop} {d p : Nat} {w : List Nat} {W : sa_C → Nat} (hd : d < 2) (hW : wa_R 24 d a_weights W) (hR : sa_Rg 1000000 W) (hfi : xr_Fi F a_finals) (hp : p < 24) (hs : ∀ a, a ∈ w → a < 5) (hl : w.length ≤ 32) (hk : st_Stk a_workStack 0 w) (h : ∀ (V N : Nat → Int32), post (nI (ms_X W F p w)) (f_unreached, nI nS, nI nG, nI nN, nI nR, f_hereState, f_hereHeight, f_toSolved, f_fromSolved, f_toCount, f_fromCount, f_traceSize, nI p, nI w.length, a_ruleUsed, a_ruleFrom, a_ruleSymbol, a_ruleTo, a_ruleTop, a_ruleBelow, a_edges, a_finals, a_hereStack, a_weights, a_traceRules, a_traceStates, a_traceHeights, a_traceStacks, a_workStack, V, N, a_marked, a_nextMarked)) : wpX_measure post (f_unreached, nI nS, nI nG, nI nN, nI nR, f_hereState, f_hereHeight, f_toSolved, f_fromSolved, f_toCount, f_fromCount, f_traceSize, nI p, nI w.length, a_ruleUsed, a_ruleFrom, a_ruleSymbol, a_ruleTo, a_ruleTop, a_ruleBelow, a_edges, a_finals, a_hereStack, a_weights, a_traceRules, a_traceStates, a_traceHeights, a_traceStacks, a_workStack, a_vector, a_nextVector, a_marked, a_nextMarked) (nI (d + 1)) := by
  have hL : ∀ k t, t + k = 24 → ∀ V : Nat → Int32, (∀ t', t' < t → V t' = nI (W (p, 0, t'))) → wX_measure_2 post (nI (d + 1)) f_unreached (nI nS) (nI nG) (nI nN) (nI nR) f_hereState f_hereHeight f_toSolved f_fromSolved f_toCount f_fromCount f_traceSize (nI p) (nI w.length) (k + 1) (nI t) a_ruleUsed a_ruleFrom a_ruleSymbol a_ruleTo a_ruleTop a_ruleBelow a_edges a_finals a_hereStack a_weights a_traceRules a_traceStates a_traceHeights a_traceStacks a_workStack V a_nextVector a_marked a_nextMarked := by
    intro k
    induction k with
    | zero =>
      intro t ht V hV
      have hcl : (nI p).toNatClampNeg = p := nI_clamp (by omega)
      refine pk_le 24 t (fun _ => ⟨vp_in_nI (by omega) (by omega), ?_⟩) (fun z => absurd z (by omega))
      rw [hcl]
      refine nm_e (nm_e ⟨w.length + 1, ?_⟩)
      refine xm_48 hd hW hR hfi w (ms_v0 W p) _ _ hs hl hk ?_ ?_ h
      · intro t' ht'
        unfold ms_v0
        by_cases e : t' = p
        · subst e
          rw [if_pos rfl, pk_us]; rfl
        · rw [if_neg e, pk_un e]
          exact hV t' (by omega)
      · intro t' ht'
        unfold ms_v0
        have := hR (p, 0, t')
        split <;> omega
    | succ k ih =>
      intro t ht V hV
      have hcl : (nI t).toNatClampNeg = t := nI_clamp (by omega)
      refine pk_le 24 t (fun z => absurd z (by omega)) (fun _ => ?_)
      refine xw_of (g := 0) hd hp (by omega) (by omega) (hW p 0 t hp (by omega) (by omega)) ⟨vp_in_nI (by omega) (by omega), ?_⟩
      rw [hcl]
      refine nm_e (nm_r (nI_1 t) (ih (t + 1) (by omega) _ ?_))
      intro t' ht'
      by_cases e : t' = t
      · subst e; exact pk_us
      · rw [pk_un e]; exact hV t' (by omega)
  exact ⟨25, hL 24 0 (by omega) a_vector (fun t' z => absurd z (Nat.not_lt_zero _))⟩
end
end
section
/-! X: questions -/
def sy_fw : Nat → Bool
  | 0 => true
  | _ + 1 => false
noncomputable def cn_b (P : Prop) : Nat := @ite Nat P (Classical.propDecidable P) 1 0
theorem cn_b_t {P : Prop} (h : P) : cn_b P = 1 := @if_pos P (Classical.propDecidable P) h _ _ _
theorem cn_b_f {P : Prop} (h : ¬ P) : cn_b P = 0 := @if_neg P (Classical.propDecidable P) h _ _ _
def cn_g (f : Nat → Nat) : Nat → Nat
  | 0 => 0
  | g + 1 => cn_g f g + f g
def cn_p (f : Nat → Nat → Nat) (nG : Nat) : Nat → Nat
  | 0 => 0
  | p + 1 => cn_p f nG p + cn_g (f p) (nG + 1)
def cn_w (g : Nat) : List Nat := if g = 0 then [] else [g]
noncomputable def cn_f (d : Nat) (T : sy_T) (E : sy_E) (F : sy_F) (p g : Nat) : Nat := cn_b (∃ n, tr_V (sy_fw d) T E F (p, cn_w g) n)
noncomputable def cn_T (d nS nG : Nat) (T : sy_T) (E : sy_E) (F : sy_F) : Nat := cn_p (cn_f d T E F) nG nS
theorem cn_w_in {g nG : Nat} (h : g ≤ nG) : ∀ a, a ∈ cn_w g → 1 ≤ a ∧ a ≤ nG := by
  intro a ha
  unfold cn_w at ha
  split at ha
  · exact absurd ha List.not_mem_nil
  · rw [List.mem_singleton.mp ha]; omega
theorem cn_w_len (g : Nat) : (cn_w g).length ≤ 1 := by
  unfold cn_w
  split
  · exact Nat.zero_le _
  · exact Nat.le_refl _
def ms_an (B v : Nat) : Int32 := if v < B then nI v else -1
theorem ms_an_eq {v w : Nat} {P : Nat → Prop} (p : wc_Rp 1000000 v P) (q : wc_Rp 1000 w P) : ms_an 1000 w = ms_an 1000000 v := by
  unfold ms_an
  rcases wc_uq (by omega) (by omega) p q with ⟨h, e⟩ | ⟨e1, e2⟩
  · rw [if_pos (by omega), if_pos (by omega), e]
  · rw [if_neg (by omega), if_neg (by omega)]
section
variable {nS nG nN nR : Nat} {T : sy_T} {E : sy_E} {F : sy_F}
theorem xq_Rp {d p : Nat} {w : List Nat} {W : sa_C → Nat} (ok : sy_ok nS nG nN nR T E F) (hc : tr_ok nS nG (p, w)) (hF : sa_Fx 1000000 (sy_XI d nN T E) W) : wc_Rp 1000000 (ms_X W F p w) (tr_V (sy_fw d) T E F (p, w)) := by
  have hS : nS ≤ 4 := ok.2.2.2.2.1
  have hN : nN ≤ 8 := ok.2.2.2.2.2.2.2.2.1
  have hp : p < nS := hc.1
  have hf : ∀ f, F f = true → f < 24 := fun f h => by have := ok.2.2.1 f h; omega
  match d, hF with
  | 0, hF => exact wc_Rp_iff (fun n => sy_XT ok hp w n) (ms_X_Rp w hF (fun c n h => by have := (sy_XT_rg ok c n h).1; omega) hf (by omega))
  | _ + 1, hF => exact wc_Rp_iff (fun n => sy_XF ok hp w (fun a ha => (hc.2 a ha).1) n) (ms_X_Rp w hF (fun c n h => sy_XF_rg ok c n h) hf (by omega))
end
section
variable {nS nG nN nR : Nat} {f_unreached f_hereState f_hereHeight f_toSolved f_fromSolved f_toCount f_fromCount f_traceSize f_workState f_workHeight : Int32} {a_ruleUsed a_ruleFrom a_ruleSymbol a_ruleTo a_ruleTop a_ruleBelow a_edges a_finals a_hereStack a_weights a_traceRules a_traceStates a_traceHeights a_traceStacks a_workStack a_vector a_nextVector a_marked a_nextMarked : Nat → Int32}
variable {T : sy_T} {E : sy_E} {F : sy_F}
theorem xq_52 {post : Int32 → SX → Prop} {J4 J15 : (Int32 → Int32 → Int32 → Int32 → Int32 → Int32 → Int32 → Int32 → Int32 → Int32 → Int32 → Int32 → Int32 → Int32 → Int32 → Int32 → (Nat → Int32) → (Nat → Int32) → (Nat → Int32) → (Nat → Int32) → (Nat → Int32) → (Nat → Int32) → (Nat → Int32) → (Nat → Int32) → (Nat → Int32) → (Nat → Int32) → (Nat → Int32) → (Nat → Int32) → (Nat → Int32) → (Nat → Int32) → (Nat → Int32) → (Nat → Int32) → (Nat → Int32) → (Nat → Int32) → (Nat → Int32) → Prop)} {d p g c : Nat} {W : sa_C → Nat} (ok : sy_ok nS nG nN nR T E F) (hd : d < 2) (hW : wa_R 24 d a_weights W) (hF : sa_Fx 1000000 (sy_XI d nN T E) W) (hfi : xr_Fi F a_finals) (hp : p < nS) (hg : g ≤ nG) (hk : st_Stk a_workStack 0 (cn_w g)) (h : ∀ (V N : Nat → Int32), J15 (nI (c + cn_f d T E F p g)) (nI (g + 1)) f_unreached (nI nS) (nI nG) (nI nN) (nI nR) f_hereState f_hereHeight f_toSolved f_fromSolved f_toCount f_fromCount f_traceSize (nI p) (nI (cn_w g).length) a_ruleUsed a_ruleFrom a_ruleSymbol a_ruleTo a_ruleTop a_ruleBelow a_edges a_finals a_hereStack a_weights a_traceRules a_traceStates a_traceHeights a_traceStacks a_workStack V N a_marked a_nextMarked) : wX_countSmall_52 post J4 J15 (nI (d + 1)) (nI c) (nI p) (nI g) f_unreached (nI nS) (nI nG) (nI nN) (nI nR) f_hereState f_hereHeight f_toSolved f_fromSolved f_toCount f_fromCount f_traceSize (nI p) (nI (cn_w g).length) a_ruleUsed a_ruleFrom a_ruleSymbol a_ruleTo a_ruleTop a_ruleBelow a_edges a_finals a_hereStack a_weights a_traceRules a_traceStates a_traceHeights a_traceStacks a_workStack a_vector a_nextVector a_marked a_nextMarked := by
  have hS : nS ≤ 4 := ok.2.2.2.2.1
  have hG : nG ≤ 4 := ok.2.2.2.2.2.2.1
  have hw := cn_w_in hg
  have hl := cn_w_len g
  unfold wX_countSmall_52
  have hRp := xq_Rp ok (⟨hp, hw⟩ : tr_ok nS nG (p, cn_w g)) hF
  have hfin := wc_fin_iff (by omega) hRp
  have hle : ms_X W F p (cn_w g) ≤ 1000000 := by have := hRp.1; omega
  refine xm_me hd hW (fun c => (hF c).1) hfi (by omega) (fun a ha => by have := hw a ha; omega) (by omega) hk ?_
  intro V N
  refine pk_le 1000000 (ms_X W F p (cn_w g)) (fun h1 => nm_r (nI_1 g) ?_) (fun h1 => nm_r (nI_1 c) (nm_r (nI_1 g) ?_))
  · have e : cn_f d T E F p g = 0 := cn_b_f (fun z => by have := hfin.mpr z; omega)
    have := h V N
    rw [e] at this
    exact this
  · have e : cn_f d T E F p g = 1 := cn_b_t (hfin.mp h1)
    have := h V N
    rw [e] at this
    exact this
theorem xq_15 {post : Int32 → SX → Prop} {J4 : (Int32 → Int32 → Int32 → Int32 → Int32 → Int32 → Int32 → Int32 → Int32 → Int32 → Int32 → Int32 → Int32 → Int32 → Int32 → Int32 → (Nat → Int32) → (Nat → Int32) → (Nat → Int32) → (Nat → Int32) → (Nat → Int32) → (Nat → Int32) → (Nat → Int32) → (Nat → Int32) → (Nat → Int32) → (Nat → Int32) → (Nat → Int32) → (Nat → Int32) → (Nat → Int32) → (Nat → Int32) → (Nat → Int32) → (Nat → Int32) → (Nat → Int32) → (Nat → Int32) → (Nat → Int32) → Prop)} {d p c : Nat} {W : sa_C → Nat} (ok : sy_ok nS nG nN nR T E F) (hd : d < 2) (hW : wa_R 24 d a_weights W) (hF : sa_Fx 1000000 (sy_XI d nN T E) W) (hfi : xr_Fi F a_finals) (hp : p < nS) (hJ : ∀ (f1 f2 : Int32) (S V N : Nat → Int32), J4 (nI (c + cn_g (cn_f d T E F p) (nG + 1))) (nI (p + 1)) f_unreached (nI nS) (nI nG) (nI nN) (nI nR) f_hereState f_hereHeight f_toSolved f_fromSolved f_toCount f_fromCount f_traceSize f1 f2 a_ruleUsed a_ruleFrom a_ruleSymbol a_ruleTo a_ruleTop a_ruleBelow a_edges a_finals a_hereStack a_weights a_traceRules a_traceStates a_traceHeights a_traceStacks S V N a_marked a_nextMarked) : ∀ k g, g + k = nG + 1 → ∀ (f1 f2 : Int32) (S V N : Nat → Int32), wX_countSmall_15 post J4 (nI (d + 1)) (nI p) (k + 1) (nI (c + cn_g (cn_f d T E F p) g)) (nI g) f_unreached (nI nS) (nI nG) (nI nN) (nI nR) f_hereState f_hereHeight f_toSolved f_fromSolved f_toCount f_fromCount f_traceSize f1 f2 a_ruleUsed a_ruleFrom a_ruleSymbol a_ruleTo a_ruleTop a_ruleBelow a_edges a_finals a_hereStack a_weights a_traceRules a_traceStates a_traceHeights a_traceStacks S V N a_marked a_nextMarked := by
  have hG : nG ≤ 4 := ok.2.2.2.2.2.2.1
  intro k
  induction k with
  | zero =>
    intro g hg f1 f2 S V N
    have e : g = nG + 1 := by omega
    subst e
    exact pk_lt nG (nG + 1) (fun _ => nm_r (nI_1 p) (hJ f1 f2 S V N)) (fun z => absurd z (by omega))
  | succ k ih =>
    intro g hg f1 f2 S V N
    refine pk_lt nG g (fun z => absurd z (by omega)) (fun _ => nm_e ?_)
    have hnext : ∀ (f1 f2 : Int32) (S V N : Nat → Int32), wX_countSmall_15 post J4 (nI (d + 1)) (nI p) (k + 1) (nI (c + cn_g (cn_f d T E F p) g + cn_f d T E F p g)) (nI (g + 1)) f_unreached (nI nS) (nI nG) (nI nN) (nI nR) f_hereState f_hereHeight f_toSolved f_fromSolved f_toCount f_fromCount f_traceSize f1 f2 a_ruleUsed a_ruleFrom a_ruleSymbol a_ruleTo a_ruleTop a_ruleBelow a_edges a_finals a_hereStack a_weights a_traceRules a_traceStates a_traceHeights a_traceStacks S V N a_marked a_nextMarked := by
      intro f1 f2 S V N
      rw [Nat.add_assoc]
      exact ih (g + 1) (by omega) f1 f2 S V N
    refine pk_eq g 0 (fun e => ?_) (fun e => ?_)
    · subst e
      exact xq_52 (g := 0) ok hd hW hF hfi hp (by omega) trivial (fun V N => hnext _ _ _ _ _)
    · have ew : cn_w g = [g] := if_neg e
      have hk : st_Stk (upd S 0 (nI g)) 0 (cn_w g) := by
        rw [ew]
        exact ⟨pk_us, trivial⟩
      have := xq_52 (post := post) (J4 := J4) (J15 := wX_countSmall_15 post J4 (nI (d + 1)) (nI p) (k + 1)) (c := c + cn_g (cn_f d T E F p) g) (a_workStack := upd S 0 (nI g)) (a_vector := V) (a_nextVector := N) ok hd hW hF hfi hp (by omega) hk (fun V N => hnext _ _ _ _ _)
      rw [ew] at this
      exact this
theorem xq_cs {post : Int32 → SX → Prop} {d : Nat} {W : sa_C → Nat} (ok : sy_ok nS nG nN nR T E F) (hd : d < 2) (hW : wa_R 24 d a_weights W) (hF : sa_Fx 1000000 (sy_XI d nN T E) W) (hfi : xr_Fi F a_finals) (h : ∀ (f1 f2 : Int32) (S V N : Nat → Int32), post (nI (cn_T d nS nG T E F)) (f_unreached, nI nS, nI nG, nI nN, nI nR, f_hereState, f_hereHeight, f_toSolved, f_fromSolved, f_toCount, f_fromCount, f_traceSize, f1, f2, a_ruleUsed, a_ruleFrom, a_ruleSymbol, a_ruleTo, a_ruleTop, a_ruleBelow, a_edges, a_finals, a_hereStack, a_weights, a_traceRules, a_traceStates, a_traceHeights, a_traceStacks, S, V, N, a_marked, a_nextMarked)) : wpX_countSmall post (f_unreached, nI nS, nI nG, nI nN, nI nR, f_hereState, f_hereHeight, f_toSolved, f_fromSolved, f_toCount, f_fromCount, f_traceSize, f_workState, f_workHeight, a_ruleUsed, a_ruleFrom, a_ruleSymbol, a_ruleTo, a_ruleTop, a_ruleBelow, a_edges, a_finals, a_hereStack, a_weights, a_traceRules, a_traceStates, a_traceHeights, a_traceStacks, a_workStack, a_vector, a_nextVector, a_marked, a_nextMarked) (nI (d + 1)) := by
  have hS : nS ≤ 4 := ok.2.2.2.2.1
  have hL : ∀ k p, p + k = nS → ∀ (f1 f2 : Int32) (S V N : Nat → Int32), wX_countSmall_4 post (nI (d + 1)) (k + 1) (nI (cn_p (cn_f d T E F) nG p)) (nI p) f_unreached (nI nS) (nI nG) (nI nN) (nI nR) f_hereState f_hereHeight f_toSolved f_fromSolved f_toCount f_fromCount f_traceSize f1 f2 a_ruleUsed a_ruleFrom a_ruleSymbol a_ruleTo a_ruleTop a_ruleBelow a_edges a_finals a_hereStack a_weights a_traceRules a_traceStates a_traceHeights a_traceStacks S V N a_marked a_nextMarked := by
    intro k
    induction k with
    | zero =>
      intro p hp f1 f2 S V N
      have e : p = nS := by omega
      subst e
      exact pk_le p p (fun _ => h f1 f2 S V N) (fun z => absurd z (by omega))
    | succ k ih =>
      intro p hp f1 f2 S V N
      refine pk_le nS p (fun z => absurd z (by omega)) (fun _ => ⟨nG + 2, ?_⟩)
      exact xq_15 (c := cn_p (cn_f d T E F) nG p) ok hd hW hF hfi (by omega) (fun f1 f2 S V N => ih (p + 1) (by omega) f1 f2 S V N) (nG + 1) 0 (by omega) f1 f2 S V N
  exact ⟨nS + 1, hL nS 0 (by omega) f_workState f_workHeight a_workStack a_vector a_nextVector⟩
/-- a way is solved, or not -/
def xr_So (nS nG nN : Nat) (T : sy_T) (E : sy_E) (F : sy_F) (d : Nat) (b : Bool) (sv ct : Int32) (A : Nat → Int32) : Prop := sv = st_b b ∧ (b = true → ∃ W, wa_R 24 d A W ∧ sa_Fx 1000000 (sy_XI d nN T E) W ∧ ct = nI (cn_T d nS nG T E F))
theorem xq_sol0 {post : Int32 → SX → Prop} {b : Bool} (ok : sy_ok nS nG nN nR T E F) (hru : xr_Ru T a_ruleUsed a_ruleFrom a_ruleSymbol a_ruleTo a_ruleTop a_ruleBelow) (hed : xr_Ed E a_edges) (hfi : xr_Fi F a_finals) (hso : xr_So nS nG nN T E F 0 b f_toSolved f_toCount a_weights) (h : ∀ (f1 f2 c : Int32) (A S V N : Nat → Int32), wa_K 24 0 a_weights A → xr_So nS nG nN T E F 0 true 1 c A → post (nI (cn_T 0 nS nG T E F)) (f_unreached, nI nS, nI nG, nI nN, nI nR, f_hereState, f_hereHeight, 1, f_fromSolved, c, f_fromCount, f_traceSize, f1, f2, a_ruleUsed, a_ruleFrom, a_ruleSymbol, a_ruleTo, a_ruleTop, a_ruleBelow, a_edges, a_finals, a_hereStack, A, a_traceRules, a_traceStates, a_traceHeights, a_traceStacks, S, V, N, a_marked, a_nextMarked)) : wpX_solve post (f_unreached, nI nS, nI nG, nI nN, nI nR, f_hereState, f_hereHeight, f_toSolved, f_fromSolved, f_toCount, f_fromCount, f_traceSize, f_workState, f_workHeight, a_ruleUsed, a_ruleFrom, a_ruleSymbol, a_ruleTo, a_ruleTop, a_ruleBelow, a_edges, a_finals, a_hereStack, a_weights, a_traceRules, a_traceStates, a_traceHeights, a_traceStacks, a_workStack, a_vector, a_nextVector, a_marked, a_nextMarked) 1 := by
  obtain ⟨hb, hs⟩ := hso
  subst hb
  unfold wpX_solve
  refine br_t rfl ?_
  cases b with
  | false =>
    refine br_t rfl ?_
    refine xs_sat (d := 0) ok hru hed (by omega) ?_
    intro A W hW hK hF
    refine xq_cs (d := 0) ok (by omega) hW hF hfi ?_
    intro f1 f2 S V N
    exact h f1 f2 _ A S V N hK ⟨rfl, fun _ => ⟨W, hW, hF, rfl⟩⟩
  | true =>
    obtain ⟨W, hW, hF, hc⟩ := hs rfl
    refine br_f (by decide) ?_
    have := h f_workState f_workHeight f_toCount a_weights a_workStack a_vector a_nextVector wa_K_r ⟨rfl, fun _ => ⟨W, hW, hF, hc⟩⟩
    rw [hc] at this ⊢
    exact this
theorem xq_sol1 {post : Int32 → SX → Prop} {b : Bool} (ok : sy_ok nS nG nN nR T E F) (hru : xr_Ru T a_ruleUsed a_ruleFrom a_ruleSymbol a_ruleTo a_ruleTop a_ruleBelow) (hed : xr_Ed E a_edges) (hfi : xr_Fi F a_finals) (hso : xr_So nS nG nN T E F 1 b f_fromSolved f_fromCount a_weights) (h : ∀ (f1 f2 c : Int32) (A S V N : Nat → Int32), wa_K 24 1 a_weights A → xr_So nS nG nN T E F 1 true 1 c A → post (nI (cn_T 1 nS nG T E F)) (f_unreached, nI nS, nI nG, nI nN, nI nR, f_hereState, f_hereHeight, f_toSolved, 1, f_toCount, c, f_traceSize, f1, f2, a_ruleUsed, a_ruleFrom, a_ruleSymbol, a_ruleTo, a_ruleTop, a_ruleBelow, a_edges, a_finals, a_hereStack, A, a_traceRules, a_traceStates, a_traceHeights, a_traceStacks, S, V, N, a_marked, a_nextMarked)) : wpX_solve post (f_unreached, nI nS, nI nG, nI nN, nI nR, f_hereState, f_hereHeight, f_toSolved, f_fromSolved, f_toCount, f_fromCount, f_traceSize, f_workState, f_workHeight, a_ruleUsed, a_ruleFrom, a_ruleSymbol, a_ruleTo, a_ruleTop, a_ruleBelow, a_edges, a_finals, a_hereStack, a_weights, a_traceRules, a_traceStates, a_traceHeights, a_traceStacks, a_workStack, a_vector, a_nextVector, a_marked, a_nextMarked) 2 := by
  obtain ⟨hb, hs⟩ := hso
  subst hb
  unfold wpX_solve
  refine br_f (by decide) (br_t rfl ?_)
  cases b with
  | false =>
    refine br_t rfl ?_
    refine xs_sat (d := 1) ok hru hed (by omega) ?_
    intro A W hW hK hF
    refine xq_cs (d := 1) ok (by omega) hW hF hfi ?_
    intro f1 f2 S V N
    exact h f1 f2 _ A S V N hK ⟨rfl, fun _ => ⟨W, hW, hF, rfl⟩⟩
  | true =>
    obtain ⟨W, hW, hF, hc⟩ := hs rfl
    refine br_f (by decide) ?_
    have := h f_workState f_workHeight f_fromCount a_weights a_workStack a_vector a_nextVector wa_K_r ⟨rfl, fun _ => ⟨W, hW, hF, hc⟩⟩
    rw [hc] at this ⊢
    exact this
theorem xq_lh {post : SX → Prop} {p : Nat} {w : List Nat} (hl : w.length ≤ 12) (hk : st_Stk a_hereStack 0 w) (h : ∀ S : Nat → Int32, st_Stk S 0 w → post (f_unreached, nI nS, nI nG, nI nN, nI nR, nI p, nI w.length, f_toSolved, f_fromSolved, f_toCount, f_fromCount, f_traceSize, nI p, nI w.length, a_ruleUsed, a_ruleFrom, a_ruleSymbol, a_ruleTo, a_ruleTop, a_ruleBelow, a_edges, a_finals, a_hereStack, a_weights, a_traceRules, a_traceStates, a_traceHeights, a_traceStacks, S, a_vector, a_nextVector, a_marked, a_nextMarked)) : wpX_loadHere post (f_unreached, nI nS, nI nG, nI nN, nI nR, nI p, nI w.length, f_toSolved, f_fromSolved, f_toCount, f_fromCount, f_traceSize, f_workState, f_workHeight, a_ruleUsed, a_ruleFrom, a_ruleSymbol, a_ruleTo, a_ruleTop, a_ruleBelow, a_edges, a_finals, a_hereStack, a_weights, a_traceRules, a_traceStates, a_traceHeights, a_traceStacks, a_workStack, a_vector, a_nextVector, a_marked, a_nextMarked) := by
  have hL : ∀ k i, i + k = w.length → ∀ S : Nat → Int32, (∀ j, j < i → S j = a_hereStack j) → wX_loadHere_18 post f_unreached (nI nS) (nI nG) (nI nN) (nI nR) (nI p) (nI w.length) f_toSolved f_fromSolved f_toCount f_fromCount f_traceSize (nI p) (nI w.length) (k + 1) (nI i) a_ruleUsed a_ruleFrom a_ruleSymbol a_ruleTo a_ruleTop a_ruleBelow a_edges a_finals a_hereStack a_weights a_traceRules a_traceStates a_traceHeights a_traceStacks S a_vector a_nextVector a_marked a_nextMarked := by
    intro k
    induction k with
    | zero =>
      intro i hi S hS
      refine pk_le w.length i (fun _ => h S (st_stk_cg (fun j hj => ?_) hk)) (fun z => absurd z (by omega))
      rw [Nat.zero_add]
      exact hS j (by omega)
    | succ k ih =>
      intro i hi S hS
      have hcl : (nI i).toNatClampNeg = i := nI_clamp (by omega)
      refine pk_le w.length i (fun z => absurd z (by omega)) (fun _ => ⟨vp_in_nI (by omega) (by omega), vp_in_nI (by omega) (by omega), ?_⟩)
      rw [hcl]
      refine nm_e (nm_r (nI_1 i) (ih (i + 1) (by omega) _ ?_))
      intro j hj
      by_cases e : j = i
      · subst e; exact pk_us
      · rw [pk_un e]; exact hS j (by omega)
  exact ⟨w.length + 1, hL w.length 0 (by omega) a_workStack (fun j z => absurd z (Nat.not_lt_zero _))⟩
/-- measuring the current configuration -/
theorem xq_hm {post : Int32 → SX → Prop} {d p : Nat} {w : List Nat} {W : sa_C → Nat} (ok : sy_ok nS nG nN nR T E F) (hd : d < 2) (hW : wa_R 24 d a_weights W) (hF : sa_Fx 1000000 (sy_XI d nN T E) W) (hfi : xr_Fi F a_finals) (hc : tr_ok nS nG (p, w)) (hl : w.length ≤ 12) (hk : st_Stk a_hereStack 0 w) (h : ∀ S V N : Nat → Int32, post (nI (ms_X W F p w)) (f_unreached, nI nS, nI nG, nI nN, nI nR, nI p, nI w.length, f_toSolved, f_fromSolved, f_toCount, f_fromCount, f_traceSize, nI p, nI w.length, a_ruleUsed, a_ruleFrom, a_ruleSymbol, a_ruleTo, a_ruleTop, a_ruleBelow, a_edges, a_finals, a_hereStack, a_weights, a_traceRules, a_traceStates, a_traceHeights, a_traceStacks, S, V, N, a_marked, a_nextMarked)) : wpX_loadHere (fun u => wpX_measure post u (nI (d + 1))) (f_unreached, nI nS, nI nG, nI nN, nI nR, nI p, nI w.length, f_toSolved, f_fromSolved, f_toCount, f_fromCount, f_traceSize, f_workState, f_workHeight, a_ruleUsed, a_ruleFrom, a_ruleSymbol, a_ruleTo, a_ruleTop, a_ruleBelow, a_edges, a_finals, a_hereStack, a_weights, a_traceRules, a_traceStates, a_traceHeights, a_traceStacks, a_workStack, a_vector, a_nextVector, a_marked, a_nextMarked) := by
  have hS : nS ≤ 4 := ok.2.2.2.2.1
  have hG : nG ≤ 4 := ok.2.2.2.2.2.2.1
  have hp : p < nS := hc.1
  refine xq_lh hl hk ?_
  intro S hS
  exact xm_me hd hW (fun c => (hF c).1) hfi (by omega) (fun a ha => by have := hc.2 a ha; omega) (by omega) hS (fun V N => h S V N)
end
end
section
/-! X: traces -/
def xt_Row (St H K : Nat → Int32) (i : Nat) (c : tr_C) : Prop := St i = nI c.1 ∧ H i = nI c.2.length ∧ st_Stk K (i * 32) c.2
section
variable {nS nG nN nR : Nat} {f_unreached f_hereState f_hereHeight f_toSolved f_fromSolved f_toCount f_fromCount f_traceSize f_workState f_workHeight : Int32} {a_ruleUsed a_ruleFrom a_ruleSymbol a_ruleTo a_ruleTop a_ruleBelow a_edges a_finals a_hereStack a_weights a_traceRules a_traceStates a_traceHeights a_traceStacks a_workStack a_vector a_nextVector a_marked a_nextMarked : Nat → Int32}
variable {T : sy_T} {E : sy_E} {F : sy_F}
theorem xt_save {post : SX → Prop} {at_ : Nat} {c : tr_C} (ha : at_ ≤ 20) (hl : c.2.length ≤ 32) (hk : st_Stk a_workStack 0 c.2) (h : ∀ St H K : Nat → Int32, xt_Row St H K at_ c → (∀ i c', i ≠ at_ → c'.2.length ≤ 32 → xt_Row a_traceStates a_traceHeights a_traceStacks i c' → xt_Row St H K i c') → post (f_unreached, nI nS, nI nG, nI nN, nI nR, f_hereState, f_hereHeight, f_toSolved, f_fromSolved, f_toCount, f_fromCount, f_traceSize, nI c.1, nI c.2.length, a_ruleUsed, a_ruleFrom, a_ruleSymbol, a_ruleTo, a_ruleTop, a_ruleBelow, a_edges, a_finals, a_hereStack, a_weights, a_traceRules, St, H, K, a_workStack, a_vector, a_nextVector, a_marked, a_nextMarked)) : wpX_saveTrace post (f_unreached, nI nS, nI nG, nI nN, nI nR, f_hereState, f_hereHeight, f_toSolved, f_fromSolved, f_toCount, f_fromCount, f_traceSize, nI c.1, nI c.2.length, a_ruleUsed, a_ruleFrom, a_ruleSymbol, a_ruleTo, a_ruleTop, a_ruleBelow, a_edges, a_finals, a_hereStack, a_weights, a_traceRules, a_traceStates, a_traceHeights, a_traceStacks, a_workStack, a_vector, a_nextVector, a_marked, a_nextMarked) (nI at_) := by
  have hcl : (nI at_).toNatClampNeg = at_ := nI_clamp (by omega)
  have hin : vp_in (nI at_) 21 := vp_in_nI (by omega) (by omega)
  have hL : ∀ k i, i + k = c.2.length → ∀ K : Nat → Int32, (∀ j, j < i → K (at_ * 32 + j) = a_workStack j) → (∀ j, (j < at_ * 32 ∨ at_ * 32 + 32 ≤ j) → K j = a_traceStacks j) → wX_saveTrace_22 post (nI at_) f_unreached (nI nS) (nI nG) (nI nN) (nI nR) f_hereState f_hereHeight f_toSolved f_fromSolved f_toCount f_fromCount f_traceSize (nI c.1) (nI c.2.length) (k + 1) (nI i) a_ruleUsed a_ruleFrom a_ruleSymbol a_ruleTo a_ruleTop a_ruleBelow a_edges a_finals a_hereStack a_weights a_traceRules (upd a_traceStates at_ (nI c.1)) (upd a_traceHeights at_ (nI c.2.length)) K a_workStack a_vector a_nextVector a_marked a_nextMarked := by
    intro k
    induction k with
    | zero =>
      intro i hi K h1 h2
      refine pk_le c.2.length i (fun _ => h _ _ K ⟨pk_us, pk_us, st_stk_cg (fun j hj => ?_) hk⟩ ?_) (fun z => absurd z (by omega))
      · rw [Nat.zero_add]
        exact h1 j (by omega)
      · rintro i' c' hne hl' ⟨r1, r2, r3⟩
        refine ⟨by rw [pk_un hne]; exact r1, by rw [pk_un hne]; exact r2, st_stk_cg (fun j hj => h2 _ ?_) r3⟩
        omega
    | succ k ih =>
      intro i hi K h1 h2
      have hci : (nI i).toNatClampNeg = i := nI_clamp (by omega)
      have e : nI at_ * 32 + nI i = nI (at_ * 32 + i) := by
        show nI at_ * nI 32 + nI i = _
        rw [pk_mul, nI_add]
      refine pk_le c.2.length i (fun z => absurd z (by omega)) (fun _ => ?_)
      rw [e, nI_clamp (by omega), hci]
      refine ⟨vp_in_nI (by omega) (by omega), vp_in_nI (by omega) (by omega), nm_e (nm_r (nI_1 i) (ih (i + 1) (by omega) _ ?_ ?_))⟩
      · intro j hj
        by_cases e2 : j = i
        · subst e2; exact pk_us
        · rw [pk_un (by omega)]; exact h1 j (by omega)
      · intro j hj
        rw [pk_un (by omega)]
        exact h2 j hj
  refine ⟨hin, nm_r (by rw [hcl]) ⟨hin, nm_r (by rw [hcl]) ⟨c.2.length + 1, ?_⟩⟩⟩
  exact hL c.2.length 0 (by omega) a_traceStacks (fun j z => absurd z (Nat.not_lt_zero _)) (fun _ _ => rfl)
theorem xt_load {post : SX → Prop} {at_ : Nat} {c : tr_C} (ha : at_ ≤ 20) (hl : c.2.length ≤ 32) (hr : xt_Row a_traceStates a_traceHeights a_traceStacks at_ c) (h : ∀ S : Nat → Int32, st_Stk S 0 c.2 → post (f_unreached, nI nS, nI nG, nI nN, nI nR, f_hereState, f_hereHeight, f_toSolved, f_fromSolved, f_toCount, f_fromCount, f_traceSize, nI c.1, nI c.2.length, a_ruleUsed, a_ruleFrom, a_ruleSymbol, a_ruleTo, a_ruleTop, a_ruleBelow, a_edges, a_finals, a_hereStack, a_weights, a_traceRules, a_traceStates, a_traceHeights, a_traceStacks, S, a_vector, a_nextVector, a_marked, a_nextMarked)) : wpX_loadTrace post (f_unreached, nI nS, nI nG, nI nN, nI nR, f_hereState, f_hereHeight, f_toSolved, f_fromSolved, f_toCount, f_fromCount, f_traceSize, f_workState, f_workHeight, a_ruleUsed, a_ruleFrom, a_ruleSymbol, a_ruleTo, a_ruleTop, a_ruleBelow, a_edges, a_finals, a_hereStack, a_weights, a_traceRules, a_traceStates, a_traceHeights, a_traceStacks, a_workStack, a_vector, a_nextVector, a_marked, a_nextMarked) (nI at_) := by
  have hcl : (nI at_).toNatClampNeg = at_ := nI_clamp (by omega)
  have hin : vp_in (nI at_) 21 := vp_in_nI (by omega) (by omega)
  have hL : ∀ k i, i + k = c.2.length → ∀ S : Nat → Int32, (∀ j, j < i → S j = a_traceStacks (at_ * 32 + j)) → wX_loadTrace_22 post (nI at_) f_unreached (nI nS) (nI nG) (nI nN) (nI nR) f_hereState f_hereHeight f_toSolved f_fromSolved f_toCount f_fromCount f_traceSize (nI c.1) (nI c.2.length) (k + 1) (nI i) a_ruleUsed a_ruleFrom a_ruleSymbol a_ruleTo a_ruleTop a_ruleBelow a_edges a_finals a_hereStack a_weights a_traceRules a_traceStates a_traceHeights a_traceStacks S a_vector a_nextVector a_marked a_nextMarked := by
    intro k
    induction k with
    | zero =>
      intro i hi S h1
      refine pk_le c.2.length i (fun _ => h S (st_stk_cg (fun j hj => ?_) hr.2.2)) (fun z => absurd z (by omega))
      rw [Nat.zero_add]
      exact h1 j (by omega)
    | succ k ih =>
      intro i hi S h1
      have hci : (nI i).toNatClampNeg = i := nI_clamp (by omega)
      have e : nI at_ * 32 + nI i = nI (at_ * 32 + i) := by
        show nI at_ * nI 32 + nI i = _
        rw [pk_mul, nI_add]
      refine pk_le c.2.length i (fun z => absurd z (by omega)) (fun _ => ?_)
      rw [e, hci, nI_clamp (show at_ * 32 + i < 2 ^ 31 by omega)]
      refine ⟨vp_in_nI (by omega) (by omega), vp_in_nI (by omega) (by omega), nm_e (nm_r (nI_1 i) (ih (i + 1) (by omega) _ ?_))⟩
      intro j hj
      by_cases e2 : j = i
      · subst e2; exact pk_us
      · rw [pk_un e2]; exact h1 j (by omega)
  refine ⟨hin, nm_r (e' := nI c.1) (by rw [hcl]; exact hr.1) ⟨hin, nm_r (e' := nI c.2.length) (by rw [hcl]; exact hr.2.1) ⟨c.2.length + 1, ?_⟩⟩⟩
  exact hL c.2.length 0 (by omega) a_workStack (fun j z => absurd z (Nat.not_lt_zero _))
theorem xt_sf {post : Int32 → SX → Prop} {r : Nat} {c : tr_C} (ok : sy_ok nS nG nN nR T E F) (hru : xr_Ru T a_ruleUsed a_ruleFrom a_ruleSymbol a_ruleTo a_ruleTop a_ruleBelow) (hr : r < nR) (hc : tr_ok nS nG c) (hl : c.2.length < 32) (hk : st_Stk a_workStack 0 c.2) (h1 : ∀ (c' : tr_C) (S : Nat → Int32), tr_Ft true T r c c' → st_Stk S 0 c'.2 → post 1 (f_unreached, nI nS, nI nG, nI nN, nI nR, f_hereState, f_hereHeight, f_toSolved, f_fromSolved, f_toCount, f_fromCount, f_traceSize, nI c'.1, nI c'.2.length, a_ruleUsed, a_ruleFrom, a_ruleSymbol, a_ruleTo, a_ruleTop, a_ruleBelow, a_edges, a_finals, a_hereStack, a_weights, a_traceRules, a_traceStates, a_traceHeights, a_traceStacks, S, a_vector, a_nextVector, a_marked, a_nextMarked)) (h0 : (∀ c', ¬ tr_Ft true T r c c') → post 0 (f_unreached, nI nS, nI nG, nI nN, nI nR, f_hereState, f_hereHeight, f_toSolved, f_fromSolved, f_toCount, f_fromCount, f_traceSize, nI c.1, nI c.2.length, a_ruleUsed, a_ruleFrom, a_ruleSymbol, a_ruleTo, a_ruleTop, a_ruleBelow, a_edges, a_finals, a_hereStack, a_weights, a_traceRules, a_traceStates, a_traceHeights, a_traceStacks, a_workStack, a_vector, a_nextVector, a_marked, a_nextMarked)) : wpX_stepForward post (f_unreached, nI nS, nI nG, nI nN, nI nR, f_hereState, f_hereHeight, f_toSolved, f_fromSolved, f_toCount, f_fromCount, f_traceSize, nI c.1, nI c.2.length, a_ruleUsed, a_ruleFrom, a_ruleSymbol, a_ruleTo, a_ruleTop, a_ruleBelow, a_edges, a_finals, a_hereStack, a_weights, a_traceRules, a_traceStates, a_traceHeights, a_traceStacks, a_workStack, a_vector, a_nextVector, a_marked, a_nextMarked) (nI r) := by
  have hS : nS ≤ 4 := ok.2.2.2.2.1
  have hG : nG ≤ 4 := ok.2.2.2.2.2.2.1
  have hR : nR ≤ 12 := ok.2.2.2.2.2.2.2.2.2.2
  have hcl : (nI r).toNatClampNeg = r := nI_clamp (by omega)
  have hin : vp_in (nI r) 12 := vp_in_nI (by omega) (by omega)
  obtain ⟨p, w⟩ := c
  have hp : p < nS := hc.1
  unfold wpX_stepForward
  dsimp only
  rw [hcl]
  refine ⟨hin, ?_⟩
  cases hT : T r with
  | none =>
    rw [(hru r (by omega)).1 hT]
    refine br_t rfl (h0 ?_)
    rintro c' ⟨g, u, v, hT', _⟩
    rw [hT] at hT'
    exact nomatch hT'
  | some t =>
    obtain ⟨p', g, q, u⟩ := t
    have ho := ok.1 _ _ _ _ _ hT
    have hx := (hru r (by omega)).2 _ _ _ _ hT
    rw [hx.1, hx.2.1, hx.2.2.1, hx.2.2.2.2.1, hx.2.2.2.2.2]
    refine br_f (by decide) ?_
    have hno : ∀ c', tr_Ft true T r (p, w) c' → p' = p ∧ ∃ v, w = g :: v := by
      rintro c' ⟨g', u', v, hT', hw, _⟩
      rw [hT] at hT'
      injection hT' with e
      injection e with e1 e
      injection e with e2 _
      dsimp only at hw e1
      subst e2
      exact ⟨e1, v, hw⟩
    cases w with
    | nil =>
      refine br_t (show nI 0 ≤ 0 by decide) (h0 ?_)
      intro c' hf
      obtain ⟨_, v, z⟩ := hno c' hf
      exact nomatch z
    | cons x v =>
      have hxs := hc.2 x (List.mem_cons_self ..)
      have hl' : v.length + 1 < 32 := hl
      refine br_f (nI_nle (show 0 < v.length + 1 by omega) (show v.length + 1 < 2 ^ 31 by omega)) ⟨hin, ?_⟩
      refine pk_eq p p' (fun e => ?_) (fun e => h0 (fun c' hf => e (hno c' hf).1.symm))
      subst e
      have e1 : nI (x :: v).length - 1 = nI v.length := nI_pred v.length
      have hk1 : a_workStack v.length = nI x := by have := hk.1; rw [Nat.zero_add] at this; exact this
      rw [e1, nI_clamp (show v.length < 2 ^ 31 by omega), hk1]
      have hin2 : vp_in (nI v.length) 32 := vp_in_nI (by omega) (by omega)
      refine ⟨hin2, hin, ?_⟩
      refine pk_eq x g (fun e => ?_) (fun e => h0 (fun c' hf => ?_))
      · subst e
        refine ⟨hin, ?_⟩
        have hft : tr_Ft true T r (p, x :: v) (q, u ++ v) := ⟨x, u, v, hT, rfl, rfl⟩
        have hend : ∀ S : Nat → Int32, st_Stk S 0 (u ++ v) → wX_stepForward_157 post (nI r) f_unreached (nI nS) (nI nG) (nI nN) (nI nR) f_hereState f_hereHeight f_toSolved f_fromSolved f_toCount f_fromCount f_traceSize (nI p) (nI (u ++ v).length) a_ruleUsed a_ruleFrom a_ruleSymbol a_ruleTo a_ruleTop a_ruleBelow a_edges a_finals a_hereStack a_weights a_traceRules a_traceStates a_traceHeights a_traceStacks S a_vector a_nextVector a_marked a_nextMarked := by
          intro S hs
          exact ⟨hin, nm_r (e' := nI q) (by rw [hcl]; exact hx.2.2.2.1) (h1 (q, u ++ v) S hft hs)⟩
        rcases ho.2.2.2.2.2 with e | ⟨a, e, ha⟩ | ⟨a, b, e, ha, ha2, hb, hb2⟩
        · subst e
          exact br_t rfl ⟨hin, br_t rfl (nm_e (hend a_workStack hk.2))⟩
        · subst e
          refine br_t rfl ⟨hin, br_f (nI_ne0 (show 0 < a by omega) (show a < 2 ^ 31 by omega)) ⟨hin, hin2, nm_e ?_⟩⟩
          exact hend _ (st_stk_push (Nat.zero_add _).symm hk.2)
        · subst e
          refine br_f (nI_ne0 (show 0 < b by omega) (show b < 2 ^ 31 by omega)) ?_
          refine pk_lt (v.length + 1) 32 (fun _ => ⟨hin, hin2, nm_e ⟨hin, vp_in_nI (by omega) (by omega), ?_⟩⟩) (fun z => absurd z (by omega))
          refine nm_e (nm_r (nI_1 (v.length + 1)) ?_)
          refine hend _ ?_
          have hb1 : st_Stk (upd a_workStack v.length (nI b)) 0 (b :: v) := st_stk_push (Nat.zero_add _).symm hk.2
          have ec : (nI (x :: v).length).toNatClampNeg = v.length + 1 := nI_clamp (show v.length + 1 < 2 ^ 31 by omega)
          rw [ec]
          exact st_stk_push (a := a) (by rw [Nat.zero_add]; rfl) hb1
      · obtain ⟨_, v', hv⟩ := hno c' hf
        injection hv with hv _
        exact e hv
theorem xt_sb {post : Int32 → SX → Prop} {r : Nat} {c : tr_C} (ok : sy_ok nS nG nN nR T E F) (hru : xr_Ru T a_ruleUsed a_ruleFrom a_ruleSymbol a_ruleTo a_ruleTop a_ruleBelow) (hr : r < nR) (hc : tr_ok nS nG c) (hl : c.2.length < 32) (hk : st_Stk a_workStack 0 c.2) (h1 : ∀ (c' : tr_C) (S : Nat → Int32), tr_Ft false T r c c' → st_Stk S 0 c'.2 → post 1 (f_unreached, nI nS, nI nG, nI nN, nI nR, f_hereState, f_hereHeight, f_toSolved, f_fromSolved, f_toCount, f_fromCount, f_traceSize, nI c'.1, nI c'.2.length, a_ruleUsed, a_ruleFrom, a_ruleSymbol, a_ruleTo, a_ruleTop, a_ruleBelow, a_edges, a_finals, a_hereStack, a_weights, a_traceRules, a_traceStates, a_traceHeights, a_traceStacks, S, a_vector, a_nextVector, a_marked, a_nextMarked)) (h0 : (∀ c', ¬ tr_Ft false T r c c') → post 0 (f_unreached, nI nS, nI nG, nI nN, nI nR, f_hereState, f_hereHeight, f_toSolved, f_fromSolved, f_toCount, f_fromCount, f_traceSize, nI c.1, nI c.2.length, a_ruleUsed, a_ruleFrom, a_ruleSymbol, a_ruleTo, a_ruleTop, a_ruleBelow, a_edges, a_finals, a_hereStack, a_weights, a_traceRules, a_traceStates, a_traceHeights, a_traceStacks, a_workStack, a_vector, a_nextVector, a_marked, a_nextMarked)) : wpX_stepBackward post (f_unreached, nI nS, nI nG, nI nN, nI nR, f_hereState, f_hereHeight, f_toSolved, f_fromSolved, f_toCount, f_fromCount, f_traceSize, nI c.1, nI c.2.length, a_ruleUsed, a_ruleFrom, a_ruleSymbol, a_ruleTo, a_ruleTop, a_ruleBelow, a_edges, a_finals, a_hereStack, a_weights, a_traceRules, a_traceStates, a_traceHeights, a_traceStacks, a_workStack, a_vector, a_nextVector, a_marked, a_nextMarked) (nI r) := by
  have hS : nS ≤ 4 := ok.2.2.2.2.1
  have hG : nG ≤ 4 := ok.2.2.2.2.2.2.1
  have hR : nR ≤ 12 := ok.2.2.2.2.2.2.2.2.2.2
  have hcl : (nI r).toNatClampNeg = r := nI_clamp (by omega)
  have hin : vp_in (nI r) 12 := vp_in_nI (by omega) (by omega)
  obtain ⟨q0, w⟩ := c
  have hp : q0 < nS := hc.1
  have hl : w.length < 32 := hl
  unfold wpX_stepBackward
  dsimp only
  rw [hcl]
  refine ⟨hin, ?_⟩
  cases hT : T r with
  | none =>
    rw [(hru r (by omega)).1 hT]
    refine br_t rfl (h0 ?_)
    rintro c' ⟨g, u, v, hT', _⟩
    rw [hT] at hT'
    exact nomatch hT'
  | some t =>
    obtain ⟨p, g, q, u⟩ := t
    have ho := ok.1 _ _ _ _ _ hT
    have hx := (hru r (by omega)).2 _ _ _ _ hT
    rw [hx.1, hx.2.2.2.1, hx.2.2.2.2.1, hx.2.2.2.2.2]
    refine br_f (by decide) ⟨hin, ?_⟩
    have hno : ∀ c', tr_Ft false T r (q0, w) c' → q = q0 ∧ ∃ v, w = u ++ v := by
      rintro c' ⟨g', u', v, hT', hw, _⟩
      rw [hT] at hT'
      injection hT' with e
      injection e with _ e
      injection e with _ e
      injection e with e1 e2
      dsimp only at hw e1
      subst e2
      exact ⟨e1, v, hw⟩
    refine pk_eq q0 q (fun e => ?_) (fun e => h0 (fun c' hf => e (hno c' hf).1.symm))
    subst e
    refine ⟨hin, ?_⟩
    have hend : ∀ v : List Nat, w = u ++ v → v.length < 32 → st_Stk a_workStack 0 v → wX_stepBackward_136 post (nI r) f_unreached (nI nS) (nI nG) (nI nN) (nI nR) f_hereState f_hereHeight f_toSolved f_fromSolved f_toCount f_fromCount f_traceSize (nI q0) (nI (v.length + 1)) a_ruleUsed a_ruleFrom a_ruleSymbol a_ruleTo a_ruleTop a_ruleBelow a_edges a_finals a_hereStack a_weights a_traceRules a_traceStates a_traceHeights a_traceStacks a_workStack a_vector a_nextVector a_marked a_nextMarked := by
      intro v hw hv hs
      have hft : tr_Ft false T r (q0, w) (p, g :: v) := ⟨g, u, v, hT, hw, rfl⟩
      unfold wX_stepBackward_136
      rw [nI_pred, hcl, nI_clamp (show v.length < 2 ^ 31 by omega), hx.2.2.1, hx.2.1]
      refine ⟨hin, vp_in_nI (by omega) (by omega), nm_e ⟨hin, nm_e ?_⟩⟩
      exact h1 (p, g :: v) _ hft (st_stk_push (Nat.zero_add _).symm hs)
    rcases ho.2.2.2.2.2 with e | ⟨a, e, ha⟩ | ⟨a, b, e, ha, ha2, hb, hb2⟩
    · subst e
      exact br_t rfl (pk_lt w.length 32 (fun _ => nm_r (nI_1 w.length) (hend w rfl hl hk)) (fun z => absurd z (by omega)))
    · subst e
      refine br_f (nI_ne0 (show 0 < a by omega) (show a < 2 ^ 31 by omega)) ?_
      cases w with
      | nil =>
        refine br_t (show nI 0 < 1 by decide) (h0 ?_)
        intro c' hf
        obtain ⟨_, v, z⟩ := hno c' hf
        exact nomatch z
      | cons x v =>
        have hxs := hc.2 x (List.mem_cons_self ..)
        have hl' : v.length + 1 < 32 := hl
        have hk1 : a_workStack v.length = nI x := by have := hk.1; rw [Nat.zero_add] at this; exact this
        refine pk_lt (v.length + 1) 1 (fun z => absurd z (by omega)) (fun _ => ?_)
        have e1 : nI (x :: v).length - 1 = nI v.length := nI_pred v.length
        rw [e1, nI_clamp (show v.length < 2 ^ 31 by omega), hk1]
        refine ⟨vp_in_nI (by omega) (by omega), hin, ?_⟩
        refine pk_eq x a (fun e => ?_) (fun e => h0 (fun c' hf => ?_)) rfl rfl (by omega) (by omega)
        · subst e
          exact ⟨hin, br_t rfl (hend v rfl (by omega) hk.2)⟩
        · obtain ⟨_, v', hv⟩ := hno c' hf
          injection hv with hv _
          exact e hv
    · subst e
      refine br_f (nI_ne0 (show 0 < a by omega) (show a < 2 ^ 31 by omega)) ?_
      cases w with
      | nil =>
        refine br_t (show nI 0 < 1 by decide) (h0 ?_)
        intro c' hf
        obtain ⟨_, v, z⟩ := hno c' hf
        exact nomatch z
      | cons x v =>
        have hxs := hc.2 x (List.mem_cons_self ..)
        have hl' : v.length + 1 < 32 := hl
        have hk1 : a_workStack v.length = nI x := by have := hk.1; rw [Nat.zero_add] at this; exact this
        refine pk_lt (v.length + 1) 1 (fun z => absurd z (by omega)) (fun _ => ?_)
        have e1 : nI (x :: v).length - 1 = nI v.length := nI_pred v.length
        rw [e1, nI_clamp (show v.length < 2 ^ 31 by omega), hk1]
        refine ⟨vp_in_nI (by omega) (by omega), hin, ?_⟩
        refine pk_eq x a (fun e => ?_) (fun e => h0 (fun c' hf => ?_)) rfl rfl (by omega) (by omega)
        · subst e
          refine ⟨hin, br_f (nI_ne0 (show 0 < b by omega) (show b < 2 ^ 31 by omega)) ?_⟩
          cases v with
          | nil =>
            refine br_t (show nI 1 < 2 by decide) (h0 ?_)
            intro c' hf
            obtain ⟨_, v, z⟩ := hno c' hf
            injection z with _ z
            exact nomatch z
          | cons y v =>
            have hys := hc.2 y (List.mem_cons_of_mem _ (List.mem_cons_self ..))
            have hl2 : v.length + 1 + 1 < 32 := hl
            have hk2 : a_workStack v.length = nI y := by have := hk.2.1; rw [Nat.zero_add] at this; exact this
            have e2 : nI (x :: y :: v).length - 2 = nI v.length := by
              show nI (v.length + 2) - nI 2 = nI v.length
              rw [pk_sub (by omega)]
              rfl
            refine pk_lt (v.length + 1 + 1) 2 (fun z => absurd z (by omega)) (fun _ => ?_)
            rw [e2, nI_clamp (show v.length < 2 ^ 31 by omega), hk2]
            refine ⟨vp_in_nI (by omega) (by omega), hin, ?_⟩
            refine pk_eq y b (fun e => ?_) (fun e => h0 (fun c' hf => ?_)) rfl rfl (by omega) (by omega)
            · subst e
              exact nm_e (hend v rfl (by omega) hk.2.2)
            · obtain ⟨_, v', hv⟩ := hno c' hf
              injection hv with _ hv
              injection hv with hv _
              exact e hv
        · obtain ⟨_, v', hv⟩ := hno c' hf
          injection hv with hv _
          exact e hv
end
end
section
/-! X: the trace's loops -/
section
variable {nS nG nN nR : Nat} {f_unreached f_hereState f_hereHeight f_toSolved f_fromSolved f_toCount f_fromCount f_traceSize f_workState f_workHeight : Int32} {a_ruleUsed a_ruleFrom a_ruleSymbol a_ruleTo a_ruleTop a_ruleBelow a_edges a_finals a_hereStack a_weights a_traceRules a_traceStates a_traceHeights a_traceStacks a_workStack a_vector a_nextVector a_marked a_nextMarked : Nat → Int32}
variable {T : sy_T} {E : sy_E} {F : sy_F}
theorem xt_21 {post : SX → Prop} {J11 : (Int32 → Int32 → Int32 → Int32 → Int32 → Int32 → Int32 → Int32 → Int32 → Int32 → Int32 → Int32 → Int32 → Int32 → Int32 → (Nat → Int32) → (Nat → Int32) → (Nat → Int32) → (Nat → Int32) → (Nat → Int32) → (Nat → Int32) → (Nat → Int32) → (Nat → Int32) → (Nat → Int32) → (Nat → Int32) → (Nat → Int32) → (Nat → Int32) → (Nat → Int32) → (Nat → Int32) → (Nat → Int32) → (Nat → Int32) → (Nat → Int32) → (Nat → Int32) → (Nat → Int32) → Prop)} {len i rs : Nat} {c c' : tr_C} {W : sa_C → Nat} (ok : sy_ok nS nG nN nR T E F) (hru : xr_Ru T a_ruleUsed a_ruleFrom a_ruleSymbol a_ruleTo a_ruleTop a_ruleBelow) (hfi : xr_Fi F a_finals) (hW : wa_R 24 0 a_weights W) (hF : sa_Fx 1000000 (sy_XI 0 nN T E) W) (hlen : len ≤ 20) (hi : i < len) (hc : tr_ok nS nG c) (hl : c.2.length < 32) (hrow : xt_Row a_traceStates a_traceHeights a_traceStacks i c) (hnx : tr_Nx true T E F (len - 1 - i) c rs c')
    (hJ : ∀ (f1 f2 : Int32) (S V N St H K : Nat → Int32), xt_Row St H K (i + 1) c' → (∀ i' c'', i' ≠ i + 1 → c''.2.length ≤ 32 → xt_Row a_traceStates a_traceHeights a_traceStacks i' c'' → xt_Row St H K i' c'') → J11 (nI (i + 1)) f_unreached (nI nS) (nI nG) (nI nN) (nI nR) f_hereState f_hereHeight f_toSolved f_fromSolved f_toCount f_fromCount f_traceSize f1 f2 a_ruleUsed a_ruleFrom a_ruleSymbol a_ruleTo a_ruleTop a_ruleBelow a_edges a_finals a_hereStack a_weights (upd a_traceRules i (nI rs)) St H K S V N a_marked a_nextMarked) : ∀ k r, r + k = nR → r ≤ rs → ∀ (f1 f2 : Int32) (S V N : Nat → Int32), wX_traceForward_21 post J11 (nI len) (nI i) (k + 1) 0 (nI r) f_unreached (nI nS) (nI nG) (nI nN) (nI nR) f_hereState f_hereHeight f_toSolved f_fromSolved f_toCount f_fromCount f_traceSize f1 f2 a_ruleUsed a_ruleFrom a_ruleSymbol a_ruleTo a_ruleTop a_ruleBelow a_edges a_finals a_hereStack a_weights a_traceRules a_traceStates a_traceHeights a_traceStacks S V N a_marked a_nextMarked := by
  have hS : nS ≤ 4 := ok.2.2.2.2.1
  have hG : nG ≤ 4 := ok.2.2.2.2.2.2.1
  have hR : nR ≤ 12 := ok.2.2.2.2.2.2.2.2.2.2
  have hrs := (tr_Ft_ok ok hnx.1 hc).2.2
  intro k
  induction k with
  | zero => intro r hr hr2; omega
  | succ k ih =>
    intro r hr hr2 f1 f2 S V N
    refine pk_le nR r (fun z => absurd z (by omega)) (fun _ => br_t rfl ?_)
    refine xt_load (by omega) (by omega) hrow ?_
    intro S1 hS1
    refine xt_sf ok hru (by omega) hc hl hS1 ?_ ?_
    · intro c2 S2 hft hs2
      have hok2 := tr_Ft_ok ok hft hc
      refine br_f (by decide) ?_
      have hp2 : c2.1 < nS := hok2.1.1
      have hRp := xq_Rp (d := 0) (p := c2.1) (w := c2.2) ok hok2.1 hF
      have hle : ms_X W F c2.1 c2.2 ≤ 1000000 := by have := hRp.1; omega
      have hls := wc_Ls_iff (k := len - 1 - i) (by omega) (by omega) hRp
      refine xm_me (d := 0) (by omega) hW (fun c => (hF c).1) hfi (by omega) (fun a ha => by have := hok2.1.2 a ha; omega) (by omega) hs2 ?_
      intro V2 N2
      have ek : (nI len - 1) - nI i = nI (len - 1 - i) := by
        show nI len - nI 1 - nI i = _
        rw [pk_sub (by omega), pk_sub (by omega)]
      rw [ek]
      refine pk_eq (ms_X W F c2.1 c2.2) (len - 1 - i) (fun e => ?_) (fun e => ?_)
      · have hls2 := hls.mp e
        have er : r = rs := by
          by_cases h : r = rs
          · exact h
          · exact absurd hls2 (hnx.2.2 r c2 (by omega) hft)
        subst er
        have ec := tr_Ft_fn hft hnx.1
        subst ec
        have hci : (nI i).toNatClampNeg = i := nI_clamp (by omega)
        refine ⟨vp_in_nI (by omega) (by omega), nm_r (e' := upd a_traceRules i (nI r)) (by rw [hci]) ?_⟩
        rw [nI_1 i]
        refine xt_save (by omega) (by omega) hs2 ?_
        intro St H K hrow2 hkeep
        refine nm_r (nI_1 r) ?_
        exact pk_le nR (r + 1) (fun _ => nm_r (nI_1 i) (hJ _ _ _ _ _ St H K hrow2 hkeep)) (fun _ => br_f (by decide) (nm_r (nI_1 i) (hJ _ _ _ _ _ St H K hrow2 hkeep)))
      · refine nm_r (nI_1 r) (ih (r + 1) (by omega) ?_ _ _ _ _ _)
        by_cases h : r = rs
        · exfalso
          subst h
          have ec := tr_Ft_fn hft hnx.1
          subst ec
          exact e (hls.mpr hnx.2.1)
        · omega
    · intro hno
      refine br_t rfl (nm_r (nI_1 r) (ih (r + 1) (by omega) ?_ _ _ _ _ _))
      by_cases h : r = rs
      · exfalso
        subst h
        exact hno c' hnx.1
      · omega
theorem xt_11 {post : SX → Prop} {len : Nat} {C : Nat → tr_C} {R : Nat → Nat} {W : sa_C → Nat} (ok : sy_ok nS nG nN nR T E F) (hru : xr_Ru T a_ruleUsed a_ruleFrom a_ruleSymbol a_ruleTo a_ruleTop a_ruleBelow) (hfi : xr_Fi F a_finals) (hW : wa_R 24 0 a_weights W) (hF : sa_Fx 1000000 (sy_XI 0 nN T E) W) (hlen : len ≤ 20) (hC : ∀ i, i ≤ len → tr_ok nS nG (C i) ∧ (C i).2.length ≤ 12 + i) (hnx : ∀ i, i < len → tr_Nx true T E F (len - 1 - i) (C i) (R i) (C (i + 1)))
    (hp : ∀ (f1 f2 : Int32) (S V N TR St H K : Nat → Int32), (∀ j, j ≤ len → xt_Row St H K j (C j)) → (∀ j, j < len → TR j = nI (R j)) → post (f_unreached, nI nS, nI nG, nI nN, nI nR, f_hereState, f_hereHeight, f_toSolved, f_fromSolved, f_toCount, f_fromCount, f_traceSize, f1, f2, a_ruleUsed, a_ruleFrom, a_ruleSymbol, a_ruleTo, a_ruleTop, a_ruleBelow, a_edges, a_finals, a_hereStack, a_weights, TR, St, H, K, S, V, N, a_marked, a_nextMarked)) : ∀ k i, i + k = len → ∀ (f1 f2 : Int32) (S V N TR St H K : Nat → Int32), (∀ j, j ≤ i → xt_Row St H K j (C j)) → (∀ j, j < i → TR j = nI (R j)) → wX_traceForward_11 post (nI len) (k + 1) (nI i) f_unreached (nI nS) (nI nG) (nI nN) (nI nR) f_hereState f_hereHeight f_toSolved f_fromSolved f_toCount f_fromCount f_traceSize f1 f2 a_ruleUsed a_ruleFrom a_ruleSymbol a_ruleTo a_ruleTop a_ruleBelow a_edges a_finals a_hereStack a_weights TR St H K S V N a_marked a_nextMarked := by
  intro k
  induction k with
  | zero =>
    intro i hi f1 f2 S V N TR St H K h1 h2
    have e : i = len := by omega
    subst e
    exact pk_le i i (fun _ => hp f1 f2 S V N TR St H K h1 h2) (fun z => absurd z (by omega))
  | succ k ih =>
    intro i hi f1 f2 S V N TR St H K h1 h2
    have hci := hC i (by omega)
    refine pk_le len i (fun z => absurd z (by omega)) (fun _ => ⟨nR + 1, ?_⟩)
    refine xt_21 ok hru hfi hW hF hlen (by omega) hci.1 (by omega) (h1 i (Nat.le_refl _)) (hnx i (by omega)) ?_ nR 0 (by omega) (by omega) f1 f2 S V N
    intro f1 f2 S V N St' H' K' hr hkeep
    refine ih (i + 1) (by omega) f1 f2 S V N _ St' H' K' ?_ ?_
    · intro j hj
      by_cases e : j = i + 1
      · subst e; exact hr
      · exact hkeep j (C j) e (by have := hC j (by omega); omega) (h1 j (by omega))
    · intro j hj
      by_cases e : j = i
      · subst e; exact pk_us
      · rw [pk_un e]; exact h2 j (by omega)
theorem xt_22 {post : SX → Prop} {J13 : (Int32 → Int32 → Int32 → Int32 → Int32 → Int32 → Int32 → Int32 → Int32 → Int32 → Int32 → Int32 → Int32 → Int32 → Int32 → (Nat → Int32) → (Nat → Int32) → (Nat → Int32) → (Nat → Int32) → (Nat → Int32) → (Nat → Int32) → (Nat → Int32) → (Nat → Int32) → (Nat → Int32) → (Nat → Int32) → (Nat → Int32) → (Nat → Int32) → (Nat → Int32) → (Nat → Int32) → (Nat → Int32) → (Nat → Int32) → (Nat → Int32) → (Nat → Int32) → (Nat → Int32) → Prop)} {i rs : Nat} {c c' : tr_C} {W : sa_C → Nat} (ok : sy_ok nS nG nN nR T E F) (hru : xr_Ru T a_ruleUsed a_ruleFrom a_ruleSymbol a_ruleTo a_ruleTop a_ruleBelow) (hfi : xr_Fi F a_finals) (hW : wa_R 24 1 a_weights W) (hF : sa_Fx 1000000 (sy_XI 1 nN T E) W) (hi : i < 20) (hc : tr_ok nS nG c) (hl : c.2.length < 32) (hrow : xt_Row a_traceStates a_traceHeights a_traceStacks (i + 1) c) (hnx : tr_Nx false T E F i c rs c')
    (hJ : ∀ (f1 f2 : Int32) (S V N St H K : Nat → Int32), xt_Row St H K i c' → (∀ i' c'', i' ≠ i → c''.2.length ≤ 32 → xt_Row a_traceStates a_traceHeights a_traceStacks i' c'' → xt_Row St H K i' c'') → J13 (nI i - 1) f_unreached (nI nS) (nI nG) (nI nN) (nI nR) f_hereState f_hereHeight f_toSolved f_fromSolved f_toCount f_fromCount f_traceSize f1 f2 a_ruleUsed a_ruleFrom a_ruleSymbol a_ruleTo a_ruleTop a_ruleBelow a_edges a_finals a_hereStack a_weights (upd a_traceRules i (nI rs)) St H K S V N a_marked a_nextMarked) : ∀ k r, r + k = nR → r ≤ rs → ∀ (f1 f2 : Int32) (S V N : Nat → Int32), wX_traceBackward_22 post J13 (nI i) (k + 1) 0 (nI r) f_unreached (nI nS) (nI nG) (nI nN) (nI nR) f_hereState f_hereHeight f_toSolved f_fromSolved f_toCount f_fromCount f_traceSize f1 f2 a_ruleUsed a_ruleFrom a_ruleSymbol a_ruleTo a_ruleTop a_ruleBelow a_edges a_finals a_hereStack a_weights a_traceRules a_traceStates a_traceHeights a_traceStacks S V N a_marked a_nextMarked := by
  have hS : nS ≤ 4 := ok.2.2.2.2.1
  have hG : nG ≤ 4 := ok.2.2.2.2.2.2.1
  have hR : nR ≤ 12 := ok.2.2.2.2.2.2.2.2.2.2
  have hrs := (tr_Ft_ok ok hnx.1 hc).2.2
  intro k
  induction k with
  | zero => intro r hr hr2; omega
  | succ k ih =>
    intro r hr hr2 f1 f2 S V N
    refine pk_le nR r (fun z => absurd z (by omega)) (fun _ => br_t rfl ?_)
    rw [nI_1 i]
    refine xt_load (by omega) (by omega) hrow ?_
    intro S1 hS1
    refine xt_sb ok hru (by omega) hc hl hS1 ?_ ?_
    · intro c2 S2 hft hs2
      have hok2 := tr_Ft_ok ok hft hc
      refine br_f (by decide) ?_
      have hp2 : c2.1 < nS := hok2.1.1
      have hRp := xq_Rp (d := 1) (p := c2.1) (w := c2.2) ok hok2.1 hF
      have hle : ms_X W F c2.1 c2.2 ≤ 1000000 := by have := hRp.1; omega
      have hls := wc_Ls_iff (k := i) (by omega) (by omega) hRp
      refine xm_me (d := 1) (by omega) hW (fun c => (hF c).1) hfi (by omega) (fun a ha => by have := hok2.1.2 a ha; omega) (by omega) hs2 ?_
      intro V2 N2
      refine pk_eq (ms_X W F c2.1 c2.2) i (fun e => ?_) (fun e => ?_)
      · have hls2 := hls.mp e
        have er : r = rs := by
          by_cases h : r = rs
          · exact h
          · exact absurd hls2 (hnx.2.2 r c2 (by omega) hft)
        subst er
        have ec := tr_Ft_fn hft hnx.1
        subst ec
        have hci : (nI i).toNatClampNeg = i := nI_clamp (by omega)
        refine ⟨vp_in_nI (by omega) (by omega), nm_r (e' := upd a_traceRules i (nI r)) (by rw [hci]) ?_⟩
        refine xt_save (by omega) (by omega) hs2 ?_
        intro St H K hrow2 hkeep
        refine nm_r (nI_1 r) ?_
        exact pk_le nR (r + 1) (fun _ => nm_r (nI_h1 i) (hJ _ _ _ _ _ St H K hrow2 hkeep)) (fun _ => br_f (by decide) (nm_r (nI_h1 i) (hJ _ _ _ _ _ St H K hrow2 hkeep)))
      · refine nm_r (nI_1 r) (ih (r + 1) (by omega) ?_ _ _ _ _ _)
        by_cases h : r = rs
        · exfalso
          subst h
          have ec := tr_Ft_fn hft hnx.1
          subst ec
          exact e (hls.mpr hnx.2.1)
        · omega
    · intro hno
      refine br_t rfl (nm_r (nI_1 r) (ih (r + 1) (by omega) ?_ _ _ _ _ _))
      by_cases h : r = rs
      · exfalso
        subst h
        exact hno c' hnx.1
      · omega
theorem xt_13 {post : SX → Prop} {len : Nat} {C : Nat → tr_C} {R : Nat → Nat} {W : sa_C → Nat} (ok : sy_ok nS nG nN nR T E F) (hru : xr_Ru T a_ruleUsed a_ruleFrom a_ruleSymbol a_ruleTo a_ruleTop a_ruleBelow) (hfi : xr_Fi F a_finals) (hW : wa_R 24 1 a_weights W) (hF : sa_Fx 1000000 (sy_XI 1 nN T E) W) (hlen : len ≤ 20) (hC : ∀ i, i ≤ len → tr_ok nS nG (C i) ∧ (C i).2.length ≤ 12 + i) (hnx : ∀ i, i < len → tr_Nx false T E F (len - 1 - i) (C i) (R i) (C (i + 1)))
    (hp : ∀ (f1 f2 : Int32) (S V N TR St H K : Nat → Int32), (∀ j, j ≤ len → xt_Row St H K j (C (len - j))) → (∀ j, j < len → TR j = nI (R (len - 1 - j))) → post (f_unreached, nI nS, nI nG, nI nN, nI nR, f_hereState, f_hereHeight, f_toSolved, f_fromSolved, f_toCount, f_fromCount, f_traceSize, f1, f2, a_ruleUsed, a_ruleFrom, a_ruleSymbol, a_ruleTo, a_ruleTop, a_ruleBelow, a_edges, a_finals, a_hereStack, a_weights, TR, St, H, K, S, V, N, a_marked, a_nextMarked)) : ∀ m, m ≤ len → ∀ (f1 f2 : Int32) (S V N TR St H K : Nat → Int32), (∀ j, m ≤ j → j ≤ len → xt_Row St H K j (C (len - j))) → (∀ j, m ≤ j → j < len → TR j = nI (R (len - 1 - j))) → wX_traceBackward_13 post (m + 1) (nI m - 1) f_unreached (nI nS) (nI nG) (nI nN) (nI nR) f_hereState f_hereHeight f_toSolved f_fromSolved f_toCount f_fromCount f_traceSize f1 f2 a_ruleUsed a_ruleFrom a_ruleSymbol a_ruleTo a_ruleTop a_ruleBelow a_edges a_finals a_hereStack a_weights TR St H K S V N a_marked a_nextMarked := by
  intro m
  induction m with
  | zero =>
    intro hm f1 f2 S V N TR St H K h1 h2
    exact br_t nI_h0 (hp f1 f2 S V N TR St H K (fun j hj => h1 j (Nat.zero_le _) hj) (fun j hj => h2 j (Nat.zero_le _) hj))
  | succ k ih =>
    intro hm f1 f2 S V N TR St H K h1 h2
    have hci := hC (len - (k + 1)) (by omega)
    have hx := hnx (len - (k + 1)) (by omega)
    have e1 : len - 1 - (len - (k + 1)) = k := by omega
    have e2 : len - (k + 1) + 1 = len - k := by omega
    rw [e1, e2] at hx
    rw [nI_pred]
    refine br_f (nI_pos (by omega)) ⟨nR + 1, ?_⟩
    refine xt_22 ok hru hfi hW hF (by omega) hci.1 (by omega) (h1 (k + 1) (Nat.le_refl _) (by omega)) hx ?_ nR 0 (by omega) (by omega) f1 f2 S V N
    intro f1 f2 S V N St' H' K' hr hkeep
    refine ih (by omega) f1 f2 S V N _ St' H' K' ?_ ?_
    · intro j hj hj2
      by_cases e : j = k
      · subst e; exact hr
      · exact hkeep j (C (len - j)) e (by have := hC (len - j) (by omega); omega) (h1 j (by omega) hj2)
    · intro j hj hj2
      by_cases e : j = k
      · subst e
        rw [pk_us]
        exact congrArg (fun x => nI (R x)) (by omega)
      · rw [pk_un e]; exact h2 j (by omega) hj2
theorem xt_tf {post : SX → Prop} {len p : Nat} {w : List Nat} {C : Nat → tr_C} {R : Nat → Nat} {W : sa_C → Nat} (ok : sy_ok nS nG nN nR T E F) (hru : xr_Ru T a_ruleUsed a_ruleFrom a_ruleSymbol a_ruleTo a_ruleTop a_ruleBelow) (hfi : xr_Fi F a_finals) (hW : wa_R 24 0 a_weights W) (hF : sa_Fx 1000000 (sy_XI 0 nN T E) W) (hlen : len ≤ 20) (hC0 : C 0 = (p, w)) (hl : w.length ≤ 12) (hk : st_Stk a_hereStack 0 w) (hC : ∀ i, i ≤ len → tr_ok nS nG (C i) ∧ (C i).2.length ≤ 12 + i) (hnx : ∀ i, i < len → tr_Nx true T E F (len - 1 - i) (C i) (R i) (C (i + 1)))
    (hp : ∀ (f1 f2 : Int32) (S V N TR St H K : Nat → Int32), (∀ j, j ≤ len → xt_Row St H K j (C j)) → (∀ j, j < len → TR j = nI (R j)) → post (f_unreached, nI nS, nI nG, nI nN, nI nR, nI p, nI w.length, f_toSolved, f_fromSolved, f_toCount, f_fromCount, f_traceSize, f1, f2, a_ruleUsed, a_ruleFrom, a_ruleSymbol, a_ruleTo, a_ruleTop, a_ruleBelow, a_edges, a_finals, a_hereStack, a_weights, TR, St, H, K, S, V, N, a_marked, a_nextMarked)) : wpX_traceForward post (f_unreached, nI nS, nI nG, nI nN, nI nR, nI p, nI w.length, f_toSolved, f_fromSolved, f_toCount, f_fromCount, f_traceSize, f_workState, f_workHeight, a_ruleUsed, a_ruleFrom, a_ruleSymbol, a_ruleTo, a_ruleTop, a_ruleBelow, a_edges, a_finals, a_hereStack, a_weights, a_traceRules, a_traceStates, a_traceHeights, a_traceStacks, a_workStack, a_vector, a_nextVector, a_marked, a_nextMarked) (nI len) := by
  unfold wpX_traceForward
  refine xq_lh hl hk ?_
  intro S hS
  refine xt_save (at_ := 0) (c := (p, w)) (by omega) (by show w.length ≤ 32; omega) hS ?_
  intro St H K hr hkeep
  refine ⟨len + 1, ?_⟩
  refine xt_11 ok hru hfi hW hF hlen hC hnx hp len 0 (by omega) _ _ _ _ _ _ St H K ?_ (fun j z => absurd z (Nat.not_lt_zero _))
  intro j hj
  have e : j = 0 := by omega
  subst e
  rw [hC0]
  exact hr
theorem xt_tb {post : SX → Prop} {len p : Nat} {w : List Nat} {C : Nat → tr_C} {R : Nat → Nat} {W : sa_C → Nat} (ok : sy_ok nS nG nN nR T E F) (hru : xr_Ru T a_ruleUsed a_ruleFrom a_ruleSymbol a_ruleTo a_ruleTop a_ruleBelow) (hfi : xr_Fi F a_finals) (hW : wa_R 24 1 a_weights W) (hF : sa_Fx 1000000 (sy_XI 1 nN T E) W) (hlen : len ≤ 20) (hC0 : C 0 = (p, w)) (hl : w.length ≤ 12) (hk : st_Stk a_hereStack 0 w) (hC : ∀ i, i ≤ len → tr_ok nS nG (C i) ∧ (C i).2.length ≤ 12 + i) (hnx : ∀ i, i < len → tr_Nx false T E F (len - 1 - i) (C i) (R i) (C (i + 1)))
    (hp : ∀ (f1 f2 : Int32) (S V N TR St H K : Nat → Int32), (∀ j, j ≤ len → xt_Row St H K j (C (len - j))) → (∀ j, j < len → TR j = nI (R (len - 1 - j))) → post (f_unreached, nI nS, nI nG, nI nN, nI nR, nI p, nI w.length, f_toSolved, f_fromSolved, f_toCount, f_fromCount, f_traceSize, f1, f2, a_ruleUsed, a_ruleFrom, a_ruleSymbol, a_ruleTo, a_ruleTop, a_ruleBelow, a_edges, a_finals, a_hereStack, a_weights, TR, St, H, K, S, V, N, a_marked, a_nextMarked)) : wpX_traceBackward post (f_unreached, nI nS, nI nG, nI nN, nI nR, nI p, nI w.length, f_toSolved, f_fromSolved, f_toCount, f_fromCount, f_traceSize, f_workState, f_workHeight, a_ruleUsed, a_ruleFrom, a_ruleSymbol, a_ruleTo, a_ruleTop, a_ruleBelow, a_edges, a_finals, a_hereStack, a_weights, a_traceRules, a_traceStates, a_traceHeights, a_traceStacks, a_workStack, a_vector, a_nextVector, a_marked, a_nextMarked) (nI len) := by
  unfold wpX_traceBackward
  refine xq_lh hl hk ?_
  intro S hS
  refine xt_save (c := (p, w)) (by omega) (by show w.length ≤ 32; omega) hS ?_
  intro St H K hr hkeep
  refine nm_e ⟨len + 1, ?_⟩
  refine xt_13 ok hru hfi hW hF hlen hC hnx hp len (Nat.le_refl _) _ _ _ _ _ _ St H K ?_ (fun j z z2 => absurd z2 (by omega))
  intro j hj hj2
  have e : j = len := by omega
  subst e
  rw [Nat.sub_self, hC0]
  exact hr
end
end
section
/-! Y: sums, words, improvements, a rule within a round -/
theorem nI_nm1 {n : Nat} (h : n < 2 ^ 31) : ¬ nI n = -1 := by
  intro e
  have h1 := nI_pos h
  rw [e] at h1
  exact h1 (by decide)
def yw_1 : List Nat → Int32
  | [] => -1
  | a :: _ => nI a
def yw_2 : List Nat → Int32
  | [_, b] => nI b
  | _ => -1
theorem yw_l2 {u : List Nat} (h : u.length ≤ 2) : u = [] ∨ (∃ b, u = [b]) ∨ (∃ b c, u = [b, c]) := by
  match u, h with
  | [], _ => exact Or.inl rfl
  | [b], _ => exact Or.inr (Or.inl ⟨b, rfl⟩)
  | [b, c], _ => exact Or.inr (Or.inr ⟨b, c, rfl⟩)
  | _ :: _ :: _ :: _, h => exact absurd h (by simp)
section
variable {nS nG nN nR : Nat} {g_traceLen g_changed : Int32} {b_used b_ruleP b_ruleG b_ruleQ b_ruleU b_edge b_fin b_solved b_weight b_reach b_rowState b_rowHeight b_rowStack b_traceRules : Nat → Int32}
variable {T : sy_T} {E : sy_E} {F : sy_F}
theorem yw_add {post : Int32 → Prop} (a b : Nat) (ha : a ≤ 1000) (hb : b ≤ 1000) (h : post (nI (wc_pl 1000 a b))) : wpY_add post (nI nS, nI nG, nI nN, nI nR, g_traceLen, g_changed, b_used, b_ruleP, b_ruleG, b_ruleQ, b_ruleU, b_edge, b_fin, b_solved, b_weight, b_reach, b_rowState, b_rowHeight, b_rowStack, b_traceRules) (nI a) (nI b) := by
  unfold wc_pl at h
  unfold wpY_add
  dsimp only
  rw [nI_add]
  refine pk_le 1000 a (fun h1 => ?_) (fun h1 => pk_lt b 1000 (fun h2 => pk_le (a + b) 256 (fun h3 => ?_) (fun h3 => ?_)) (fun h2 => ?_))
  · rw [if_pos h1] at h; exact h
  · rw [if_neg (by omega), if_pos h2, if_pos h3] at h; exact h
  · rw [if_neg (by omega), if_pos h2, if_neg (by omega)] at h; exact h
  · rw [if_neg (by omega), if_neg (by omega)] at h; exact h
theorem yw_cell {post : Int32 → Prop} {d f g t : Nat} (h : post (nI (((d * 21 + f) * 5 + g) * 21 + t))) : wpY_cell post (nI nS, nI nG, nI nN, nI nR, g_traceLen, g_changed, b_used, b_ruleP, b_ruleG, b_ruleQ, b_ruleU, b_edge, b_fin, b_solved, b_weight, b_reach, b_rowState, b_rowHeight, b_rowStack, b_traceRules) (nI (d + 1)) (nI f) (nI g) (nI t) := by
  unfold wpY_cell
  dsimp only
  rw [show (((((((nI (d + 1) - 1) * 21) + nI f) * 5) + nI g) * 21) + nI t) = nI (((d * 21 + f) * 5 + g) * 21 + t) from ix_w 21 d f g t]
  exact h
theorem yw_ww {post : Int32 → Prop} {d y t : Nat} {u : List Nat} {W : sa_C → Nat} (hW : wa_R 21 d b_weight W) (hR : sa_Rg 1000 W) (hd : d < 2) (hy : y < 21) (hu : u.length ≤ 2) (hu5 : ∀ a, a ∈ u → a < 5) (ht : t < 21) (h : post (nI (sy_bst 1000 21 W y u t))) : wpY_wordWeight post (nI nS, nI nG, nI nN, nI nR, g_traceLen, g_changed, b_used, b_ruleP, b_ruleG, b_ruleQ, b_ruleU, b_edge, b_fin, b_solved, b_weight, b_reach, b_rowState, b_rowHeight, b_rowStack, b_traceRules) (nI (d + 1)) (nI y) (yw_1 u) (yw_2 u) (nI t) := by
  rcases yw_l2 hu with rfl | ⟨b, rfl⟩ | ⟨b, c, rfl⟩
  · refine br_t rfl (pk_eq y t (fun e => ?_) (fun e => ?_))
    · subst e
      have h' : post (nI (if y = y then 0 else 1000)) := h
      rw [if_pos rfl] at h'
      exact h'
    · have h' : post (nI (if y = t then 0 else 1000)) := h
      rw [if_neg e] at h'
      exact h'
  · have hb : b < 5 := hu5 b (List.mem_cons_self ..)
    refine br_f (nI_nm1 (show b < 2 ^ 31 by omega)) (br_t rfl ?_)
    refine yw_cell ⟨vp_in_nI (by omega) (by omega), ?_⟩
    rw [nI_clamp (by omega), hW y b t hy hb ht]
    exact h
  · have hb : b < 5 := hu5 b (List.mem_cons_self ..)
    have hc : c < 5 := hu5 c (List.mem_cons_of_mem _ (List.mem_cons_self ..))
    have hL : ∀ k m, m + k = 21 → wY_wordWeight_48 post (nI (d + 1)) (nI y) (nI b) (nI c) (nI t) (nI nS) (nI nG) (nI nN) (nI nR) g_traceLen g_changed b_used b_ruleP b_ruleG b_ruleQ b_ruleU b_edge b_fin b_solved b_weight b_reach b_rowState b_rowHeight b_rowStack b_traceRules (k + 1) (nI (wc_mn 1000 (fun m => wc_pl 1000 (W (y, b, m)) (W (m, c, t))) m)) (nI m) := by
      intro k
      induction k with
      | zero =>
        intro m hm
        have e : m = 21 := by omega
        subst e
        exact pk_le 21 21 (fun _ => h) (fun z => absurd z (by omega))
      | succ k ih =>
        intro m hm
        have hmB := wc_mn_B 1000 (fun m => wc_pl 1000 (W (y, b, m)) (W (m, c, t))) m
        have h1 := hR (y, b, m)
        have h2 := hR (m, c, t)
        have hpl : wc_pl 1000 (W (y, b, m)) (W (m, c, t)) ≤ 1000 := wc_pl_le (by omega)
        refine pk_le 21 m (fun z => absurd z (by omega)) (fun _ => ?_)
        refine yw_cell (yw_cell ⟨vp_in_nI (by omega) (by omega), vp_in_nI (by omega) (by omega), ?_⟩)
        rw [nI_clamp (by omega), nI_clamp (by omega), hW y b m hy hb (by omega), hW m c t (by omega) hc ht]
        refine yw_add _ _ (by omega) (by omega) ?_
        refine pk_le (wc_mn 1000 (fun m => wc_pl 1000 (W (y, b, m)) (W (m, c, t))) m) (wc_pl 1000 (W (y, b, m)) (W (m, c, t))) (fun h4 => nm_r (nI_1 m) ?_) (fun h4 => nm_r (nI_1 m) ?_)
        · have e := @wc_mn_k 1000 (fun m => wc_pl 1000 (W (y, b, m)) (W (m, c, t))) m h4
          have := ih (m + 1) (by omega)
          rw [e] at this
          exact this
        · have e := @wc_mn_t 1000 (fun m => wc_pl 1000 (W (y, b, m)) (W (m, c, t))) m h4
          have := ih (m + 1) (by omega)
          rw [e] at this
          exact this
    exact br_f (nI_nm1 (show b < 2 ^ 31 by omega)) (br_f (nI_nm1 (show c < 2 ^ 31 by omega)) ⟨22, hL 21 0 (by omega)⟩)
theorem yw_im {post : SY → Prop} {d x a y j k : Nat} {u : List Nat} {W W0 : sa_C → Nat} {Ins D : sa_C → List sa_C → Nat → Prop} {ch : Bool} (hd : d < 2) (hx : x < 21) (ha : a < 5) (hy : y < 21) (hu : u.length ≤ 2) (hu5 : ∀ a, a ∈ u → a < 5) (hj : j ≤ 1) (hw : ∀ t, t < 21 → sy_YW (x, a, t)) (hIM : ∀ c ys j', sy_IM 21 21 x a y u j c ys j' → Ins c ys j') (hI : sa_OK Ins sy_YW) (hk : k ≤ 256) (hs : sa_St 1000 Ins k W0) (hW : wa_R 21 d b_weight W) (R : sa_RI 1000 sy_YW Ins W0 k D W ch) (h : ∀ (ch' : Bool) (A' : Nat → Int32) (W' : sa_C → Nat), wa_R 21 d A' W' → wa_K 21 d b_weight A' → sa_RI 1000 sy_YW Ins W0 k (fun c ys j' => D c ys j' ∨ sy_IM 21 21 x a y u j c ys j') W' ch' → post (nI nS, nI nG, nI nN, nI nR, g_traceLen, st_b ch', b_used, b_ruleP, b_ruleG, b_ruleQ, b_ruleU, b_edge, b_fin, b_solved, A', b_reach, b_rowState, b_rowHeight, b_rowStack, b_traceRules)) : wpY_improve post (nI nS, nI nG, nI nN, nI nR, g_traceLen, st_b ch, b_used, b_ruleP, b_ruleG, b_ruleQ, b_ruleU, b_edge, b_fin, b_solved, b_weight, b_reach, b_rowState, b_rowHeight, b_rowStack, b_traceRules) (nI (d + 1)) (nI x) (nI a) (nI y) (yw_1 u) (yw_2 u) (nI j) := by
  have hL : ∀ k' t, t + k' = 21 → ∀ (ch : Bool) (A : Nat → Int32) (W : sa_C → Nat), wa_R 21 d A W → wa_K 21 d b_weight A → sa_RI 1000 sy_YW Ins W0 k (fun c ys j' => D c ys j' ∨ (sy_IM 21 21 x a y u j c ys j' ∧ c.2.2 < t)) W ch → wY_improve_3 post (nI (d + 1)) (nI x) (nI a) (nI y) (yw_1 u) (yw_2 u) (nI j) (nI nS) (nI nG) (nI nN) (nI nR) g_traceLen (k' + 1) (nI t) (st_b ch) b_used b_ruleP b_ruleG b_ruleQ b_ruleU b_edge b_fin b_solved A b_reach b_rowState b_rowHeight b_rowStack b_traceRules := by
    intro k'
    induction k' with
    | zero =>
      intro t ht ch A W hW hK R
      refine pk_le 21 t (fun _ => h ch A W hW hK (sa_mono ?_ R)) (fun z => absurd z (by omega))
      rintro c ys j' (hd | hi)
      · exact Or.inl hd
      · refine Or.inr ⟨hi, ?_⟩
        have := (sy_IM_c hi).2.2
        omega
    | succ k' ih =>
      intro t ht ch A W hW hK R
      have hR := R.1
      have hb : sy_bst 1000 21 W y u t ≤ 1000 := sy_bst_r (by omega) hR
      have hwr := hR (x, a, t)
      have hpl : wc_pl 1000 (sy_bst 1000 21 W y u t) j ≤ 1000 := wc_pl_le (by omega)
      have hE : ∀ x' ys j', (sy_IM 21 21 x a y u j x' ys j' ∧ x'.2.2 = t) → x' = (x, a, t) ∧ Ins x' ys j' ∧ wc_pl 1000 (sy_bst 1000 21 W y u t) j ≤ sa_iv 1000 W ys j' := by
        rintro x' ys j' ⟨hi, ht'⟩
        have hc := sy_IM_c hi
        refine ⟨?_, hIM _ _ _ hi, sy_bst_e (by omega) hj hi ht'⟩
        obtain ⟨x1, x2, x3⟩ := x'
        dsimp only at hc ht'
        rw [hc.1, hc.2.1, ht']
      have hD : ∀ (c : sa_C) (ys : List sa_C) (j' : Nat), (D c ys j' ∨ (sy_IM 21 21 x a y u j c ys j' ∧ c.2.2 < t + 1)) → (D c ys j' ∨ (sy_IM 21 21 x a y u j c ys j' ∧ c.2.2 < t)) ∨ (sy_IM 21 21 x a y u j c ys j' ∧ c.2.2 = t) := by
        rintro c ys j' (hd | ⟨hi, hlt⟩)
        · exact Or.inl (Or.inl hd)
        · by_cases e : c.2.2 = t
          · exact Or.inr ⟨hi, e⟩
          · exact Or.inl (Or.inr ⟨hi, by omega⟩)
      refine pk_le 21 t (fun z => absurd z (by omega)) (fun _ => ?_)
      refine yw_ww hW hR hd hy hu hu5 (by omega) ?_
      refine yw_add _ _ hb (by omega) ?_
      refine yw_cell ⟨vp_in_nI (by omega) (by omega), ?_⟩
      rw [nI_clamp (by omega), hW x a t hx ha (by omega)]
      refine pk_le (W (x, a, t)) (wc_pl 1000 (sy_bst 1000 21 W y u t) j) (fun h1 => nm_r (nI_1 t) ?_) (fun h1 => ⟨vp_in_nI (by omega) (by omega), nm_e (nm_r (nI_1 t) ?_)⟩)
      · exact ih (t + 1) (by omega) ch A W hW hK (sa_mono hD (sa_opk R h1 hE))
      · refine ih (t + 1) (by omega) true _ (sa_cu W (x, a, t) (wc_pl 1000 (sy_bst 1000 21 W y u t) j)) (wa_u (Or.inr rfl) ha (by omega) hW) (wa_K_t hK (wa_K_u (Or.inr rfl) hx ha (by omega))) (sa_mono hD (sa_opw (by omega) hI hk hs R h1 (hw t (by omega)) ?_ hE))
        obtain ⟨ys, j', hi, hv'⟩ := sy_bst_i (tb := 21) (by omega) hR hj (by omega) h1
        exact ⟨ys, j', hIM _ _ _ hi, hv'⟩
  refine ⟨22, hL 21 0 (by omega) ch b_weight W hW wa_K_r (sa_mono ?_ R)⟩
  rintro c ys j' (hd | ⟨_, z⟩)
  · exact hd
  · omega
/-- the table of a way -/
def sy_YR (d nG : Nat) (T : sy_T) : Nat → sa_C → List sa_C → Nat → Prop := match d with
  | 0 => sy_YTr T
  | _ + 1 => sy_YFr nG T
def sy_YI (d nG : Nat) (T : sy_T) (E : sy_E) (F : sy_F) : sa_C → List sa_C → Nat → Prop := sy_In (sy_Yl E F) (sy_YR d nG T)
theorem sy_YI_ok {d : Nat} (ok : sy_ok nS nG nN nR T E F) : sa_OK (sy_YI d nG T E F) sy_YW := by
  match d with
  | 0 => exact sy_YT_ok ok
  | _ + 1 => exact sy_YF_ok ok
theorem yw_ur0 {post : SY → Prop} {r p g q k : Nat} {u : List Nat} {W W0 : sa_C → Nat} {D : sa_C → List sa_C → Nat → Prop} {ch : Bool} (ok : sy_ok nS nG nN nR T E F) (hT : T r = some (p, g, q, u)) (hk : k ≤ 256) (hs : sa_St 1000 (sy_YI 0 nG T E F) k W0) (hW : wa_R 21 0 b_weight W) (R : sa_RI 1000 sy_YW (sy_YI 0 nG T E F) W0 k D W ch) (h : ∀ (ch' : Bool) (A' : Nat → Int32) (W' : sa_C → Nat), wa_R 21 0 A' W' → wa_K 21 0 b_weight A' → sa_RI 1000 sy_YW (sy_YI 0 nG T E F) W0 k (fun c ys j' => D c ys j' ∨ sy_YR 0 nG T r c ys j') W' ch' → post (nI nS, nI nG, nI nN, nI nR, g_traceLen, st_b ch', b_used, b_ruleP, b_ruleG, b_ruleQ, b_ruleU, b_edge, b_fin, b_solved, A', b_reach, b_rowState, b_rowHeight, b_rowStack, b_traceRules)) : wY_useRule_75 post 1 (nI r) (nI p) (nI g) (nI q) (yw_1 u) (yw_2 u) (nI nS) (nI nG) (nI nN) (nI nR) g_traceLen (st_b ch) b_used b_ruleP b_ruleG b_ruleQ b_ruleU b_edge b_fin b_solved b_weight b_reach b_rowState b_rowHeight b_rowStack b_traceRules := by
  have h1 := ok.1 _ _ _ _ _ hT
  have hS : nS ≤ 4 := ok.2.2.2.2.1
  have hG : nG ≤ 4 := ok.2.2.2.2.2.2.1
  have hwd := sy_wd_in h1.2.2.2.2.2
  refine br_t rfl ?_
  refine yw_im (d := 0) (j := 1) (by omega) (by omega) (by omega) (by omega) hwd.1 (fun a ha => by have := hwd.2 a ha; omega) (by omega) (fun t ht => ⟨Or.inl (by show p < 4; omega), by show g < 5; omega, ht⟩) (fun c ys j' hi => Or.inr ⟨r, p, g, q, u, hT, hi⟩) (sy_YI_ok ok) hk hs hW R ?_
  intro ch' A' W' hW' hK' R'
  refine h ch' A' W' hW' hK' (sa_mono ?_ R')
  rintro c ys j' (hd | ⟨p', g', q', u', hT', hi⟩)
  · exact Or.inl hd
  · rw [hT] at hT'
    injection hT' with e
    injection e with e1 e
    injection e with e2 e
    injection e with e3 e4
    subst e1 e2 e3 e4
    exact Or.inr hi
theorem yw_ur1 {post : SY → Prop} {r p g q k : Nat} {u : List Nat} {W W0 : sa_C → Nat} {D : sa_C → List sa_C → Nat → Prop} {ch : Bool} (ok : sy_ok nS nG nN nR T E F) (hT : T r = some (p, g, q, u)) (hk : k ≤ 256) (hs : sa_St 1000 (sy_YI 1 nG T E F) k W0) (hW : wa_R 21 1 b_weight W) (R : sa_RI 1000 sy_YW (sy_YI 1 nG T E F) W0 k D W ch) (h : ∀ (ch' : Bool) (A' : Nat → Int32) (W' : sa_C → Nat), wa_R 21 1 A' W' → wa_K 21 1 b_weight A' → sa_RI 1000 sy_YW (sy_YI 1 nG T E F) W0 k (fun c ys j' => D c ys j' ∨ sy_YR 1 nG T r c ys j') W' ch' → post (nI nS, nI nG, nI nN, nI nR, g_traceLen, st_b ch', b_used, b_ruleP, b_ruleG, b_ruleQ, b_ruleU, b_edge, b_fin, b_solved, A', b_reach, b_rowState, b_rowHeight, b_rowStack, b_traceRules)) : wY_useRule_75 post 2 (nI r) (nI p) (nI g) (nI q) (yw_1 u) (yw_2 u) (nI nS) (nI nG) (nI nN) (nI nR) g_traceLen (st_b ch) b_used b_ruleP b_ruleG b_ruleQ b_ruleU b_edge b_fin b_solved b_weight b_reach b_rowState b_rowHeight b_rowStack b_traceRules := by
  have h1 := ok.1 _ _ _ _ _ hT
  have hS : nS ≤ 4 := ok.2.2.2.2.1
  have hG : nG ≤ 4 := ok.2.2.2.2.2.2.1
  have hR : nR ≤ 12 := ok.2.2.2.2.2.2.2.2.2.2
  have hI := sy_YI_ok (d := 1) ok
  have hone : ∀ c ys j', sy_YR 1 nG T r c ys j' → ((u = [] ∧ ∃ e, e ≤ nG ∧ sy_IM 21 21 q e p [g, e] 1 c ys j') ∨ (∃ a, u = [a] ∧ sy_IM 21 21 q a p [g] 1 c ys j') ∨ (∃ a b, u = [a, b] ∧ (sy_IM 21 21 q a (8 + r) [] 0 c ys j' ∨ sy_IM 21 21 (8 + r) b p [g] 1 c ys j'))) := by
    rintro c ys j' ⟨p', g', q', u', hT', hi⟩
    rw [hT] at hT'
    injection hT' with e
    injection e with e1 e
    injection e with e2 e
    injection e with e3 e4
    subst e1 e2 e3 e4
    exact hi
  refine br_f (by decide) ?_
  rcases h1.2.2.2.2.2 with e | ⟨a, e, ha⟩ | ⟨a, b, e, ha, ha2, hb, hb2⟩
  · subst e
    refine br_t rfl ⟨nG + 2, ?_⟩
    have hL : ∀ k' x, x + k' = nG + 1 → ∀ (ch : Bool) (A : Nat → Int32) (W : sa_C → Nat), wa_R 21 1 A W → wa_K 21 1 b_weight A → sa_RI 1000 sy_YW (sy_YI 1 nG T E F) W0 k (fun c ys j' => D c ys j' ∨ (∃ e, e < x ∧ sy_IM 21 21 q e p [g, e] 1 c ys j')) W ch → wY_useRule_109 post 2 (nI p) (nI g) (nI q) (k' + 1) (nI x) (nI nS) (nI nG) (nI nN) (nI nR) g_traceLen (st_b ch) b_used b_ruleP b_ruleG b_ruleQ b_ruleU b_edge b_fin b_solved A b_reach b_rowState b_rowHeight b_rowStack b_traceRules := by
      intro k'
      induction k' with
      | zero =>
        intro x hx ch A W hW hK R
        refine pk_lt nG x (fun _ => h ch A W hW hK (sa_mono ?_ R)) (fun z => absurd z (by omega))
        rintro c ys j' (hd | hi)
        · exact Or.inl hd
        · rcases hone c ys j' hi with ⟨_, e, he, hi⟩ | ⟨a, z, _⟩ | ⟨a, b, z, _⟩
          · exact Or.inr ⟨e, by omega, hi⟩
          · exact nomatch z
          · exact nomatch z
      | succ k' ih =>
        intro x hx ch A W hW hK R
        refine pk_lt nG x (fun z => absurd z (by omega)) (fun _ => ?_)
        refine yw_im (d := 1) (j := 1) (u := [g, x]) (by omega) (by omega) (by omega) (by omega) (by simp) ?_ (by omega) (fun t ht => ⟨Or.inl (by show q < 4; omega), by show x < 5; omega, ht⟩) (fun c ys j' hi => Or.inr ⟨r, p, g, q, [], hT, Or.inl ⟨rfl, x, by omega, hi⟩⟩) hI hk hs hW R ?_
        · intro a ha
          rcases List.mem_cons.mp ha with rfl | ha
          · omega
          · rw [List.mem_singleton.mp ha]; omega
        · intro ch' A' W' hW' hK' R'
          refine nm_r (nI_1 x) (ih (x + 1) (by omega) ch' A' W' hW' (wa_K_t hK hK') (sa_mono ?_ R'))
          rintro c ys j' (hd | ⟨e, he, hi⟩)
          · exact Or.inl (Or.inl hd)
          · by_cases e2 : e = x
            · subst e2; exact Or.inr hi
            · exact Or.inl (Or.inr ⟨e, by omega, hi⟩)
    refine hL (nG + 1) 0 (by omega) ch b_weight W hW wa_K_r (sa_mono ?_ R)
    rintro c ys j' (hd | ⟨e, z, _⟩)
    · exact hd
    · omega
  · subst e
    refine br_f (nI_nm1 (show a < 2 ^ 31 by omega)) (br_t rfl ?_)
    refine yw_im (d := 1) (j := 1) (u := [g]) (by omega) (by omega) (by omega) (by omega) (by simp) (fun x hx => by rw [List.mem_singleton.mp hx]; omega) (by omega) (fun t ht => ⟨Or.inl (by show q < 4; omega), by show a < 5; omega, ht⟩) (fun c ys j' hi => Or.inr ⟨r, p, g, q, [a], hT, Or.inr (Or.inl ⟨a, rfl, hi⟩)⟩) hI hk hs hW R ?_
    intro ch' A' W' hW' hK' R'
    refine h ch' A' W' hW' hK' (sa_mono ?_ R')
    rintro c ys j' (hd | hi)
    · exact Or.inl hd
    · rcases hone c ys j' hi with ⟨z, _⟩ | ⟨a', z, hi⟩ | ⟨a', b', z, _⟩
      · exact nomatch z
      · injection z with z _
        subst z
        exact Or.inr hi
      · exact absurd (congrArg List.length z) (by simp)
  · subst e
    refine br_f (nI_nm1 (show a < 2 ^ 31 by omega)) (br_f (nI_nm1 (show b < 2 ^ 31 by omega)) ?_)
    have e8 : 8 + nI r = nI (8 + r) := nI_add 8 r
    rw [e8]
    refine yw_im (d := 1) (j := 0) (u := []) (by omega) (by omega) (by omega) (by omega) (by simp) (fun x hx => absurd hx List.not_mem_nil) (by omega) (fun t ht => ⟨Or.inl (by show q < 4; omega), by show a < 5; omega, ht⟩) (fun c ys j' hi => Or.inr ⟨r, p, g, q, [a, b], hT, Or.inr (Or.inr ⟨a, b, rfl, Or.inl hi⟩)⟩) hI hk hs hW R ?_
    intro ch' A' W' hW' hK' R'
    refine yw_im (d := 1) (j := 1) (u := [g]) (by omega) (by omega) (by omega) (by omega) (by simp) (fun x hx => by rw [List.mem_singleton.mp hx]; omega) (by omega) (fun t ht => ⟨Or.inr (by show 8 ≤ 8 + r ∧ 8 + r < 20; omega), by show b < 5; omega, ht⟩) (fun c ys j' hi => Or.inr ⟨r, p, g, q, [a, b], hT, Or.inr (Or.inr ⟨a, b, rfl, Or.inr hi⟩)⟩) hI hk hs hW' R' ?_
    intro ch2 A2 W2 hW2 hK2 R2
    refine h ch2 A2 W2 hW2 (wa_K_t hK' hK2) (sa_mono ?_ R2)
    rintro c ys j' (hd | hi)
    · exact Or.inl (Or.inl hd)
    · rcases hone c ys j' hi with ⟨z, _⟩ | ⟨a', z, _⟩ | ⟨a', b', z, hi⟩
      · exact nomatch z
      · exact absurd (congrArg List.length z) (by simp)
      · injection z with z1 z
        injection z with z2 _
        subst z1 z2
        rcases hi with hi | hi
        · exact Or.inl (Or.inr hi)
        · exact Or.inr hi
theorem yw_ur {post : SY → Prop} {d r p g q k : Nat} {u : List Nat} {W W0 : sa_C → Nat} {D : sa_C → List sa_C → Nat → Prop} {ch : Bool} (ok : sy_ok nS nG nN nR T E F) (hru : yr_Ru T b_used b_ruleP b_ruleG b_ruleQ b_ruleU) (hd : d < 2) (hT : T r = some (p, g, q, u)) (hk : k ≤ 256) (hs : sa_St 1000 (sy_YI d nG T E F) k W0) (hW : wa_R 21 d b_weight W) (R : sa_RI 1000 sy_YW (sy_YI d nG T E F) W0 k D W ch) (h : ∀ (ch' : Bool) (A' : Nat → Int32) (W' : sa_C → Nat), wa_R 21 d A' W' → wa_K 21 d b_weight A' → sa_RI 1000 sy_YW (sy_YI d nG T E F) W0 k (fun c ys j' => D c ys j' ∨ sy_YR d nG T r c ys j') W' ch' → post (nI nS, nI nG, nI nN, nI nR, g_traceLen, st_b ch', b_used, b_ruleP, b_ruleG, b_ruleQ, b_ruleU, b_edge, b_fin, b_solved, A', b_reach, b_rowState, b_rowHeight, b_rowStack, b_traceRules)) : wpY_useRule post (nI nS, nI nG, nI nN, nI nR, g_traceLen, st_b ch, b_used, b_ruleP, b_ruleG, b_ruleQ, b_ruleU, b_edge, b_fin, b_solved, b_weight, b_reach, b_rowState, b_rowHeight, b_rowStack, b_traceRules) (nI (d + 1)) (nI r) := by
  have h1 := ok.1 _ _ _ _ _ hT
  have hG : nG ≤ 4 := ok.2.2.2.2.2.2.1
  have hR : nR ≤ 12 := ok.2.2.2.2.2.2.2.2.2.2
  have hr := (hru r (by omega)).2 _ _ _ _ hT
  have hcl : (nI r).toNatClampNeg = r := nI_clamp (by omega)
  have hin : vp_in (nI r) 12 := vp_in_nI (by omega) (by omega)
  have h75 : wY_useRule_75 post (nI (d + 1)) (nI r) (nI p) (nI g) (nI q) (yw_1 u) (yw_2 u) (nI nS) (nI nG) (nI nN) (nI nR) g_traceLen (st_b ch) b_used b_ruleP b_ruleG b_ruleQ b_ruleU b_edge b_fin b_solved b_weight b_reach b_rowState b_rowHeight b_rowStack b_traceRules := by
    match d, hd, hs, hW, R, h with
    | 0, hd, hs, hW, R, h => exact yw_ur0 ok hT hk hs hW R h
    | 1, hd, hs, hW, R, h => exact yw_ur1 ok hT hk hs hW R h
  refine ⟨hin, nm_r (e' := nI p) (by rw [hcl]; exact hr.2.1) ⟨hin, nm_r (e' := nI g) (by rw [hcl]; exact hr.2.2.1) ⟨hin, nm_r (e' := nI q) (by rw [hcl]; exact hr.2.2.2.1) ⟨hin, nm_r (e' := nI (st_cd u)) (by rw [hcl]; exact hr.2.2.2.2) ?_⟩⟩⟩⟩
  rcases h1.2.2.2.2.2 with e | ⟨a, e, ha⟩ | ⟨a, b, e, ha, ha2, hb, hb2⟩
  · subst e
    exact br_t rfl (br_f (by decide) h75)
  · subst e
    refine br_f (nI_ne0 (show 0 < a by omega) (show a < 2 ^ 31 by omega)) ?_
    refine pk_le 10 a (fun z => absurd z (by omega)) (fun _ => ?_)
    exact pk_le 10 a (fun z => absurd z (by omega)) (fun _ => h75)
  · subst e
    refine br_f (nI_ne0 (show 0 < 10 * a + b by omega) (show 10 * a + b < 2 ^ 31 by omega)) ?_
    have ed : nI (10 * a + b) / 10 = nI a := by
      show nI (10 * a + b) / nI 10 = _
      rw [pk_div (by omega) (by omega) (by omega)]
      exact congrArg nI (by omega)
    have em : nI (10 * a + b) - nI (10 * a + b) / 10 * 10 = nI b := by
      show nI (10 * a + b) - nI (10 * a + b) / nI 10 * nI 10 = _
      rw [pk_rem (by omega) (by omega) (by omega)]
      exact congrArg nI (by omega)
    refine pk_le 10 (10 * a + b) (fun _ => ⟨by decide, ?_⟩) (fun z => absurd z (by omega))
    refine pk_le 10 (10 * a + b) (fun _ => ⟨by decide, ?_⟩) (fun z => absurd z (by omega))
    show wY_useRule_75 post (nI (d + 1)) (nI r) (nI p) (nI g) (nI q) (nI (10 * a + b) / 10) (nI (10 * a + b) - nI (10 * a + b) / 10 * 10) (nI nS) (nI nG) (nI nN) (nI nR) g_traceLen (st_b ch) b_used b_ruleP b_ruleG b_ruleQ b_ruleU b_edge b_fin b_solved b_weight b_reach b_rowState b_rowHeight b_rowStack b_traceRules
    rw [em, ed]
    exact h75
end
end
section
/-! Y: ranges -/
section
variable {nS nG nN nR : Nat} {g_traceLen g_changed : Int32} {b_used b_ruleP b_ruleG b_ruleQ b_ruleU b_edge b_fin b_solved b_weight b_reach b_rowState b_rowHeight b_rowStack b_traceRules : Nat → Int32}
variable {T : sy_T} {E : sy_E} {F : sy_F}
theorem yb_st {post : Int32 → Prop} {x : Int32} (hS : nS ≤ 4) (h1 : ∀ n, n < nS → x = nI n → post 1) (h0 : (∀ n, n < nS → ¬ x = nI n) → post 0) : wpY_isState post (nI nS, nI nG, nI nN, nI nR, g_traceLen, g_changed, b_used, b_ruleP, b_ruleG, b_ruleQ, b_ruleU, b_edge, b_fin, b_solved, b_weight, b_reach, b_rowState, b_rowHeight, b_rowStack, b_traceRules) x := by
  refine br_c (fun h => h0 ?_) (fun h => ?_)
  · intro n hn e
    rw [e] at h
    exact nI_pos (by omega) h
  · obtain ⟨j, hj, rfl⟩ := nI_of h
    refine pk_le nS j (fun h2 => h0 ?_) (fun h2 => h1 j h2 rfl)
    intro n hn e
    rw [nI_eq hj (by omega)] at e
    omega
theorem yb_nd {post : Int32 → Prop} {x : Int32} (hN : nN ≤ 8) (h1 : ∀ n, n < nN → x = nI n → post 1) (h0 : (∀ n, n < nN → ¬ x = nI n) → post 0) : wpY_isNode post (nI nS, nI nG, nI nN, nI nR, g_traceLen, g_changed, b_used, b_ruleP, b_ruleG, b_ruleQ, b_ruleU, b_edge, b_fin, b_solved, b_weight, b_reach, b_rowState, b_rowHeight, b_rowStack, b_traceRules) x := by
  refine br_c (fun h => h0 ?_) (fun h => ?_)
  · intro n hn e
    rw [e] at h
    exact nI_pos (by omega) h
  · obtain ⟨j, hj, rfl⟩ := nI_of h
    refine pk_le nN j (fun h2 => h0 ?_) (fun h2 => h1 j h2 rfl)
    intro n hn e
    rw [nI_eq hj (by omega)] at e
    omega
theorem nI_ge1 {x : Int32} (h : ¬ x < 1) : ∃ j : Nat, 1 ≤ j ∧ j < 2 ^ 31 ∧ x = nI j := by
  have h0 : ¬ x < 0 := by
    intro z
    apply h
    rw [Int32.lt_iff_toInt_lt] at z ⊢
    have e0 : (0 : Int32).toInt = 0 := by decide
    have e1 : (1 : Int32).toInt = 1 := by decide
    omega
  obtain ⟨j, hj, rfl⟩ := nI_of h0
  refine ⟨j, ?_, hj, rfl⟩
  by_cases z : j = 0
  · subst z
    exact absurd (show nI 0 < 1 by decide) h
  · omega
theorem yb_sy {post : Int32 → Prop} {x : Int32} (hG : nG ≤ 4) (h1 : ∀ n, 1 ≤ n → n ≤ nG → x = nI n → post 1) (h0 : (∀ n, 1 ≤ n → n ≤ nG → ¬ x = nI n) → post 0) : wpY_isSymbol post (nI nS, nI nG, nI nN, nI nR, g_traceLen, g_changed, b_used, b_ruleP, b_ruleG, b_ruleQ, b_ruleU, b_edge, b_fin, b_solved, b_weight, b_reach, b_rowState, b_rowHeight, b_rowStack, b_traceRules) x := by
  refine br_c (fun h => h0 ?_) (fun h => ?_)
  · intro n hn hn2 e
    rw [e] at h
    exact nI_nlt (b := 1) hn (by omega) h
  · obtain ⟨j, hj1, hj, rfl⟩ := nI_ge1 h
    refine pk_lt nG j (fun h2 => h0 ?_) (fun h2 => h1 j hj1 h2 rfl)
    intro n hn hn2 e
    rw [nI_eq hj (by omega)] at e
    omega
theorem yb_ed {post : Int32 → Prop} {x y z : Int32} (ok : sy_ok nS nG nN nR T E F) (h1 : ∀ f g t, f < nN → 1 ≤ g → g ≤ nG → nS ≤ t → t < nN → x = nI f → y = nI g → z = nI t → post 1) (h0 : (∀ f g t, f < nN → 1 ≤ g → g ≤ nG → nS ≤ t → t < nN → x = nI f → y = nI g → ¬ z = nI t) → post 0) : wpY_isEdge post (nI nS, nI nG, nI nN, nI nR, g_traceLen, g_changed, b_used, b_ruleP, b_ruleG, b_ruleQ, b_ruleU, b_edge, b_fin, b_solved, b_weight, b_reach, b_rowState, b_rowHeight, b_rowStack, b_traceRules) x y z := by
  have hN : nN ≤ 8 := ok.2.2.2.2.2.2.2.2.1
  have hS : nS ≤ 4 := ok.2.2.2.2.1
  have hG : nG ≤ 4 := ok.2.2.2.2.2.2.1
  unfold wpY_isEdge
  refine yb_nd hN (fun f hf ef => br_f (by decide) ?_) (fun hn => br_t rfl (h0 (fun f g t hf _ _ _ _ e => absurd e (hn f hf))))
  refine yb_sy hG (fun g hg hg2 eg => br_f (by decide) ?_) (fun hn => br_t rfl (h0 (fun f g t _ hg hg2 _ _ _ e => absurd e (hn g hg hg2))))
  refine yb_nd hN (fun t ht et => br_f (by decide) ?_) (fun hn => br_t rfl (h0 (fun f g t _ _ _ _ ht _ _ => hn t ht)))
  subst et
  refine pk_lt t nS (fun h2 => h0 ?_) (fun h2 => h1 f g t hf hg hg2 h2 ht ef eg rfl)
  intro f' g' t' _ _ _ h3 h4 _ _ e
  rw [nI_eq (by omega) (by omega)] at e
  omega
theorem ix_e5 {f g t : Nat} : (((nI f * 5) + nI g) * 8) + nI t = nI ((f * 5 + g) * 8 + t) := by
  show (((nI f * nI 5) + nI g) * nI 8) + nI t = _
  rw [pk_mul, nI_add, pk_mul, nI_add]
theorem yb_he {post : Int32 → Prop} {s g t : Nat} (ok : sy_ok nS nG nN nR T E F) (hed : yr_Ed E b_edge) (hs : s < 2 ^ 31) (hg : g < 2 ^ 31) (ht : t < 2 ^ 31) (h : post (st_b (E s g t))) : wpY_hasEdge post (nI nS, nI nG, nI nN, nI nR, g_traceLen, g_changed, b_used, b_ruleP, b_ruleG, b_ruleQ, b_ruleU, b_edge, b_fin, b_solved, b_weight, b_reach, b_rowState, b_rowHeight, b_rowStack, b_traceRules) (nI s) (nI g) (nI t) := by
  have hN : nN ≤ 8 := ok.2.2.2.2.2.2.2.2.1
  have hG : nG ≤ 4 := ok.2.2.2.2.2.2.1
  unfold wpY_hasEdge
  refine yb_ed ok (fun f' g' t' hf hg1 hg2 ht1 ht2 ef eg et => br_f (by decide) ?_) (fun hn => br_t rfl ?_)
  · rw [nI_eq (by omega) (by omega)] at ef eg et
    subst ef eg et
    unfold wpY_edgeCell
    dsimp only
    rw [ix_e5, nI_clamp (by omega), hed s g t (by omega) hg1 (by omega) (by omega)]
    exact ⟨vp_in_nI (by omega) (by omega), st_nrw _, h⟩
  · cases he : E s g t with
    | false => rw [he] at h; exact h
    | true =>
      have h2 := ok.2.1 _ _ _ he
      exact absurd rfl (hn s g t h2.1 h2.2.1 h2.2.2.1 h2.2.2.2.1 h2.2.2.2.2 rfl rfl)
theorem yb_if {post : Int32 → Prop} {s : Nat} (ok : sy_ok nS nG nN nR T E F) (hfi : yr_Fi F b_fin) (hs : s < 2 ^ 31) (h : post (st_b (F s))) : wpY_isFinal post (nI nS, nI nG, nI nN, nI nR, g_traceLen, g_changed, b_used, b_ruleP, b_ruleG, b_ruleQ, b_ruleU, b_edge, b_fin, b_solved, b_weight, b_reach, b_rowState, b_rowHeight, b_rowStack, b_traceRules) (nI s) := by
  have hN : nN ≤ 8 := ok.2.2.2.2.2.2.2.2.1
  unfold wpY_isFinal
  refine yb_nd hN (fun f hf ef => br_f (by decide) ?_) (fun hn => br_t rfl ?_)
  · rw [nI_eq (by omega) (by omega)] at ef
    subst ef
    rw [nI_clamp (by omega), hfi s (by omega)]
    refine ⟨vp_in_nI (by omega) (by omega), ?_⟩
    cases hF : F s with
    | false => rw [hF] at h; exact br_t rfl h
    | true => rw [hF] at h; exact br_f (by decide) h
  · cases hF : F s with
    | false => rw [hF] at h; exact h
    | true => exact absurd rfl (hn s (ok.2.2.1 s hF))
/-- what is loaded, as a table -/
def yl_b (E : sy_E) (F : sy_F) (c : sa_C) : Bool := if c.2.1 = 0 then (if c.2.2 = 20 then F c.1 else false) else E c.1 c.2.1 c.2.2
def yl_W (E : sy_E) (F : sy_F) (c : sa_C) : Nat := if yl_b E F c = true then 0 else 1000
theorem yl_iff (ok : sy_ok nS nG nN nR T E F) (c : sa_C) : yl_b E F c = true ↔ sy_Yl E F c := by
  unfold yl_b sy_Yl
  constructor
  · intro h
    split at h
    · next h0 =>
      split at h
      · next h20 => exact Or.inr ⟨h0, h20, h⟩
      · exact absurd h (by decide)
    · exact Or.inl h
  · rintro (h | ⟨h0, h20, h⟩)
    · have := (ok.2.1 _ _ _ h).2.1
      rw [if_neg (by omega)]
      exact h
    · rw [if_pos h0, if_pos h20]
      exact h
theorem yl_LI {d : Nat} (ok : sy_ok nS nG nN nR T E F) : sa_LI 1000 (sy_YI d nG T E F) (sy_Yl E F) (yl_W E F) := by
  refine ⟨fun c => ?_, fun c hc => ?_, fun c hc => if_pos ((yl_iff ok c).mpr hc)⟩
  · unfold yl_W
    split
    · exact Or.inl (Nat.zero_le _)
    · exact Or.inr rfl
  · unfold yl_W at hc ⊢
    split at hc
    · next h =>
      rw [if_pos h]
      exact ⟨0, sa_d0 (Or.inl ⟨rfl, rfl, (yl_iff ok c).mp h⟩), Nat.le_of_eq (wc_cap_sm (by omega))⟩
    · exact absurd hc (by omega)
/-- cells before (s, g, t) are loaded -/
def yl_R (d : Nat) (E : sy_E) (F : sy_F) (A : Nat → Int32) (s g t : Nat) : Prop := ∀ f' g' t', f' < 21 → g' < 5 → t' < 21 → (f' < s ∨ (f' = s ∧ (g' < g ∨ (g' = g ∧ t' < t)))) → A (((d * 21 + f') * 5 + g') * 21 + t') = nI (yl_W E F (f', g', t'))
theorem yl_60 {post : SY → Prop} {J2 J10 J18 : (Int32 → (Nat → Int32) → (Nat → Int32) → (Nat → Int32) → (Nat → Int32) → (Nat → Int32) → (Nat → Int32) → (Nat → Int32) → (Nat → Int32) → (Nat → Int32) → (Nat → Int32) → (Nat → Int32) → (Nat → Int32) → (Nat → Int32) → (Nat → Int32) → Prop)} {d s g t : Nat} {z : Int32} (hd : d < 2) (hs : s < 21) (hg : g < 5) (ht : t < 21) (hz : z = st_b (yl_b E F (s, g, t))) (hA : yl_R d E F b_weight s g t) (h : ∀ A', yl_R d E F A' s g (t + 1) → wa_K 21 d b_weight A' → J18 (nI (t + 1)) b_used b_ruleP b_ruleG b_ruleQ b_ruleU b_edge b_fin b_solved A' b_reach b_rowState b_rowHeight b_rowStack b_traceRules) : wY_compute_60 post J2 J10 J18 (nI (d + 1)) (nI s) (nI g) (nI t) z (nI nS) (nI nG) (nI nN) (nI nR) g_traceLen g_changed b_used b_ruleP b_ruleG b_ruleQ b_ruleU b_edge b_fin b_solved b_weight b_reach b_rowState b_rowHeight b_rowStack b_traceRules := by
  subst hz
  unfold wY_compute_60
  refine yw_cell ?_
  rw [nI_clamp (by omega)]
  have hin : vp_in (nI (((d * 21 + s) * 5 + g) * 21 + t)) 4410 := vp_in_nI (by omega) (by omega)
  have hnew : ∀ v, v = yl_W E F (s, g, t) → yl_R d E F (upd b_weight (((d * 21 + s) * 5 + g) * 21 + t) (nI v)) s g (t + 1) := by
    intro v hv f' g' t' hf' hg' ht' hlt
    by_cases e : f' = s ∧ g' = g ∧ t' = t
    · obtain ⟨rfl, rfl, rfl⟩ := e
      rw [pk_us, hv]
    · rw [pk_un]
      · exact hA f' g' t' hf' hg' ht' (by omega)
      · intro z
        exact e (wa_inj (Or.inr rfl) hg' hg ht' ht z)
  cases hb : yl_b E F (s, g, t) with
  | false =>
    refine br_t rfl ⟨hin, nm_e (nm_r (nI_1 t) (h _ (hnew 1000 ?_) (wa_K_u (Or.inr rfl) hs hg ht)))⟩
    unfold yl_W
    rw [hb]
    rfl
  | true =>
    refine br_f (by decide) ⟨hin, nm_e (nm_r (nI_1 t) (h _ (hnew 0 ?_) (wa_K_u (Or.inr rfl) hs hg ht)))⟩
    unfold yl_W
    rw [hb]
    rfl
theorem yl_18 {post : SY → Prop} {J2 J10 : (Int32 → (Nat → Int32) → (Nat → Int32) → (Nat → Int32) → (Nat → Int32) → (Nat → Int32) → (Nat → Int32) → (Nat → Int32) → (Nat → Int32) → (Nat → Int32) → (Nat → Int32) → (Nat → Int32) → (Nat → Int32) → (Nat → Int32) → (Nat → Int32) → Prop)} {d s g : Nat} (ok : sy_ok nS nG nN nR T E F) (hed : yr_Ed E b_edge) (hfi : yr_Fi F b_fin) (hd : d < 2) (hs : s < 21) (hg : g < 5) (hJ : ∀ A', yl_R d E F A' s (g + 1) 0 → wa_K 21 d b_weight A' → J10 (nI (g + 1)) b_used b_ruleP b_ruleG b_ruleQ b_ruleU b_edge b_fin b_solved A' b_reach b_rowState b_rowHeight b_rowStack b_traceRules) : ∀ k t, t + k = 21 → ∀ A, yl_R d E F A s g t → wa_K 21 d b_weight A → wY_compute_18 post J2 J10 (nI (d + 1)) (nI s) (nI g) (nI nS) (nI nG) (nI nN) (nI nR) g_traceLen g_changed (k + 1) (nI t) b_used b_ruleP b_ruleG b_ruleQ b_ruleU b_edge b_fin b_solved A b_reach b_rowState b_rowHeight b_rowStack b_traceRules := by
  intro k
  induction k with
  | zero =>
    intro t ht A hA hK
    refine pk_le 21 t (fun _ => nm_r (nI_1 g) (hJ A ?_ hK)) (fun z => absurd z (by omega))
    intro f' g' t' hf' hg' ht' hlt
    exact hA f' g' t' hf' hg' ht' (by omega)
  | succ k ih =>
    intro t ht A hA hK
    refine pk_le 21 t (fun z => absurd z (by omega)) (fun _ => ?_)
    have hnext : ∀ z, z = st_b (yl_b E F (s, g, t)) → wY_compute_60 post J2 J10 (wY_compute_18 post J2 J10 (nI (d + 1)) (nI s) (nI g) (nI nS) (nI nG) (nI nN) (nI nR) g_traceLen g_changed (k + 1)) (nI (d + 1)) (nI s) (nI g) (nI t) z (nI nS) (nI nG) (nI nN) (nI nR) g_traceLen g_changed b_used b_ruleP b_ruleG b_ruleQ b_ruleU b_edge b_fin b_solved A b_reach b_rowState b_rowHeight b_rowStack b_traceRules := by
      intro z hz
      exact yl_60 hd hs hg (by omega) hz hA (fun A' hA' hK' => ih (t + 1) (by omega) A' hA' (wa_K_t hK hK'))
    refine pk_eq g 0 (fun e => ?_) (fun e => ?_)
    · subst e
      refine yb_if ok hfi (by omega) ?_
      cases hF : F s with
      | false =>
        refine br_t rfl (hnext 0 ?_)
        show 0 = st_b (if t = 20 then F s else false)
        rw [hF]
        split <;> rfl
      | true =>
        refine br_f (by decide) (pk_eq t 20 (fun e => hnext 1 ?_) (fun e => hnext 0 ?_))
        · show 1 = st_b (if t = 20 then F s else false)
          rw [if_pos e, hF]
          rfl
        · show 0 = st_b (if t = 20 then F s else false)
          rw [if_neg e]
          rfl
    · refine yb_he ok hed (by omega) (by omega) (by omega) (hnext _ ?_)
      have e2 : yl_b E F (s, g, t) = E s g t := if_neg e
      rw [e2]
theorem yl_10 {post : SY → Prop} {J2 : (Int32 → (Nat → Int32) → (Nat → Int32) → (Nat → Int32) → (Nat → Int32) → (Nat → Int32) → (Nat → Int32) → (Nat → Int32) → (Nat → Int32) → (Nat → Int32) → (Nat → Int32) → (Nat → Int32) → (Nat → Int32) → (Nat → Int32) → (Nat → Int32) → Prop)} {d s : Nat} (ok : sy_ok nS nG nN nR T E F) (hed : yr_Ed E b_edge) (hfi : yr_Fi F b_fin) (hd : d < 2) (hs : s < 21) (hJ : ∀ A', yl_R d E F A' (s + 1) 0 0 → wa_K 21 d b_weight A' → J2 (nI (s + 1)) b_used b_ruleP b_ruleG b_ruleQ b_ruleU b_edge b_fin b_solved A' b_reach b_rowState b_rowHeight b_rowStack b_traceRules) : ∀ k g, g + k = 5 → ∀ A, yl_R d E F A s g 0 → wa_K 21 d b_weight A → wY_compute_10 post J2 (nI (d + 1)) (nI s) (nI nS) (nI nG) (nI nN) (nI nR) g_traceLen g_changed (k + 1) (nI g) b_used b_ruleP b_ruleG b_ruleQ b_ruleU b_edge b_fin b_solved A b_reach b_rowState b_rowHeight b_rowStack b_traceRules := by
  intro k
  induction k with
  | zero =>
    intro g hg A hA hK
    refine pk_le 5 g (fun _ => nm_r (nI_1 s) (hJ A ?_ hK)) (fun z => absurd z (by omega))
    intro f' g' t' hf' hg' ht' hlt
    exact hA f' g' t' hf' hg' ht' (by omega)
  | succ k ih =>
    intro g hg A hA hK
    refine pk_le 5 g (fun z => absurd z (by omega)) (fun _ => ⟨22, ?_⟩)
    exact yl_18 ok hed hfi hd hs (by omega) (fun A' hA' hK' => ih (g + 1) (by omega) A' hA' (wa_K_t hK hK')) 21 0 (by omega) A hA wa_K_r
end
end
section
/-! Y: rounds, compute -/
section
variable {nS nG nN nR : Nat} {g_traceLen g_changed : Int32} {b_used b_ruleP b_ruleG b_ruleQ b_ruleU b_edge b_fin b_solved b_weight b_reach b_rowState b_rowHeight b_rowStack b_traceRules : Nat → Int32}
variable {T : sy_T} {E : sy_E} {F : sy_F}
theorem yc_134 {post : SY → Prop} {J113 : (Int32 → Int32 → Int32 → Int32 → Int32 → Int32 → Int32 → (Nat → Int32) → (Nat → Int32) → (Nat → Int32) → (Nat → Int32) → (Nat → Int32) → (Nat → Int32) → (Nat → Int32) → (Nat → Int32) → (Nat → Int32) → (Nat → Int32) → (Nat → Int32) → (Nat → Int32) → (Nat → Int32) → (Nat → Int32) → Prop)} {d k : Nat} {x2 : Int32} {W0 : sa_C → Nat} (ok : sy_ok nS nG nN nR T E F) (hru : yr_Ru T b_used b_ruleP b_ruleG b_ruleQ b_ruleU) (hd : d < 2) (hk : k ≤ 256) (hs : sa_St 1000 (sy_YI d nG T E F) k W0) (hn : ∀ r, T r = none → ∀ x ys j, ¬ sy_YR d nG T r x ys j)
    (hJ : ∀ (ch : Bool) (A' : Nat → Int32) (W' : sa_C → Nat), wa_R 21 d A' W' → wa_K 21 d b_weight A' → sa_RI 1000 sy_YW (sy_YI d nG T E F) W0 k (sy_Db (sy_Yl E F) (sy_YR d nG T) nR) W' ch → J113 (x2 + 1) (nI nS) (nI nG) (nI nN) (nI nR) g_traceLen (st_b ch) b_used b_ruleP b_ruleG b_ruleQ b_ruleU b_edge b_fin b_solved A' b_reach b_rowState b_rowHeight b_rowStack b_traceRules) : ∀ k' r, r + k' = nR → ∀ (ch : Bool) (A : Nat → Int32) (W : sa_C → Nat), wa_R 21 d A W → wa_K 21 d b_weight A → sa_RI 1000 sy_YW (sy_YI d nG T E F) W0 k (sy_Db (sy_Yl E F) (sy_YR d nG T) r) W ch → wY_compute_134 post J113 (nI (d + 1)) x2 (k' + 1) (nI r) (nI nS) (nI nG) (nI nN) (nI nR) g_traceLen (st_b ch) b_used b_ruleP b_ruleG b_ruleQ b_ruleU b_edge b_fin b_solved A b_reach b_rowState b_rowHeight b_rowStack b_traceRules := by
  have hR : nR ≤ 12 := ok.2.2.2.2.2.2.2.2.2.2
  intro k'
  induction k' with
  | zero =>
    intro r hr ch A W hW hK R
    have e : r = nR := by omega
    subst e
    exact pk_le r r (fun _ => nm_e (hJ ch A W hW hK R)) (fun z => absurd z (by omega))
  | succ k' ih =>
    intro r hr ch A W hW hK R
    have hcl : (nI r).toNatClampNeg = r := nI_clamp (by omega)
    have hin : vp_in (nI r) 12 := vp_in_nI (by omega) (by omega)
    refine pk_le nR r (fun z => absurd z (by omega)) (fun _ => ⟨hin, ?_⟩)
    rw [hcl]
    cases hT : T r with
    | none =>
      rw [(hru r (by omega)).1 hT]
      refine br_t rfl (nm_r (nI_1 r) (ih (r + 1) (by omega) ch A W hW hK (sa_mono ?_ R)))
      intro x ys j h
      rcases sy_Db_s h with h | h
      · exact h
      · exact absurd h (hn r hT x ys j)
    | some c =>
      obtain ⟨p, g, q, u⟩ := c
      rw [((hru r (by omega)).2 _ _ _ _ hT).1]
      refine br_f (by decide) ?_
      refine yw_ur ok hru hd hT hk hs hW R ?_
      intro ch' A' W' hW' hK' R'
      exact nm_r (nI_1 r) (ih (r + 1) (by omega) ch' A' W' hW' (wa_K_t hK hK') (sa_mono (fun x ys j h => sy_Db_s h) R'))
theorem yc_113 {post : SY → Prop} {d : Nat} (ok : sy_ok nS nG nN nR T E F) (hru : yr_Ru T b_used b_ruleP b_ruleG b_ruleQ b_ruleU) (hd : d < 2) (hn : ∀ r, T r = none → ∀ x ys j, ¬ sy_YR d nG T r x ys j)
    (hp : ∀ (c : Int32) (A' : Nat → Int32) (W' : sa_C → Nat), wa_R 21 d A' W' → wa_K 21 d b_weight A' → sa_Fx 1000 (sy_YI d nG T E F) W' → post (nI nS, nI nG, nI nN, nI nR, g_traceLen, c, b_used, b_ruleP, b_ruleG, b_ruleQ, b_ruleU, b_edge, b_fin, b_solved, A', b_reach, b_rowState, b_rowHeight, b_rowStack, b_traceRules)) : ∀ n i, 2206 - i < n → i ≤ 2206 → ∀ (b : Bool) (A : Nat → Int32) (W : sa_C → Nat), wa_R 21 d A W → wa_K 21 d b_weight A → ((b = false ∧ sa_Fx 1000 (sy_YI d nG T E F) W) ∨ (b = true ∧ ∃ m, m + i < 2206 ∧ sa_BI 1000 (sy_YI d nG T E F) (sy_Yl E F) sy_YL W m)) → wY_compute_113 post (nI (d + 1)) n (nI i) (nI nS) (nI nG) (nI nN) (nI nR) g_traceLen (st_b b) b_used b_ruleP b_ruleG b_ruleQ b_ruleU b_edge b_fin b_solved A b_reach b_rowState b_rowHeight b_rowStack b_traceRules := by
  intro n
  induction n with
  | zero => intro i hi; exact absurd hi (Nat.not_lt_zero _)
  | succ n ih =>
    intro i hi hi2 b A W hW hK hb
    rcases hb with ⟨rfl, hF⟩ | ⟨rfl, m, hm, hBI⟩
    · exact br_c (fun _ => hp _ A W hW hK hF) (fun _ => br_t rfl (hp _ A W hW hK hF))
    · obtain ⟨h1, h2, h3, k, hk, hs, hc⟩ := hBI
      refine pk_le 2206 i (fun z => absurd z (by omega)) (fun _ => br_f (by decide) ⟨nR + 1, ?_⟩)
      refine yc_134 (W0 := W) ok hru hd hk hs hn ?_ nR 0 (by omega) false A W hW wa_K_r (sa_mono ?_ (sa_begin (Wr := sy_YW) (k := k) (fun c hc => Or.inl ⟨rfl, rfl, hc⟩) h1 h2 h3))
      · intro b' A' W' hW' hK' R'
        have R2 : sa_RI 1000 sy_YW (sy_YI d nG T E F) W k (sy_YI d nG T E F) W' b' := by
          refine sa_mono ?_ R'
          rintro x ys j (h | ⟨r, h⟩)
          · exact Or.inl h
          · cases hT : T r with
            | none => exact absurd h (hn r hT x ys j)
            | some c =>
              obtain ⟨p, g, q, u⟩ := c
              exact Or.inr ⟨r, (ok.1 _ _ _ _ _ hT).1, h⟩
        have he := sa_end (by omega) (sy_YI_ok ok) sy_YL_in hk hc h1 h3 R2
        rw [nI_1 i]
        refine ih (i + 1) (by omega) (by omega) b' A' W' hW' (wa_K_t hK hK') ?_
        cases b' with
        | false => exact Or.inl ⟨rfl, he.1 rfl⟩
        | true =>
          have h4 := he.2 rfl
          exact Or.inr ⟨rfl, m - 1, by omega, h4.2⟩
      · rintro x ys j (h | ⟨r', z, _⟩)
        · exact h
        · omega
theorem yc_co {post : SY → Prop} {d : Nat} (ok : sy_ok nS nG nN nR T E F) (hru : yr_Ru T b_used b_ruleP b_ruleG b_ruleQ b_ruleU) (hed : yr_Ed E b_edge) (hfi : yr_Fi F b_fin) (hd : d < 2) (hp : ∀ (c : Int32) (A' : Nat → Int32) (W' : sa_C → Nat), wa_R 21 d A' W' → wa_K 21 d b_weight A' → sa_Fx 1000 (sy_YI d nG T E F) W' → post (nI nS, nI nG, nI nN, nI nR, g_traceLen, c, b_used, b_ruleP, b_ruleG, b_ruleQ, b_ruleU, b_edge, b_fin, b_solved, A', b_reach, b_rowState, b_rowHeight, b_rowStack, b_traceRules)) : wpY_compute post (nI nS, nI nG, nI nN, nI nR, g_traceLen, g_changed, b_used, b_ruleP, b_ruleG, b_ruleQ, b_ruleU, b_edge, b_fin, b_solved, b_weight, b_reach, b_rowState, b_rowHeight, b_rowStack, b_traceRules) (nI (d + 1)) := by
  have hlen := sy_YL_len
  have hn : ∀ r, T r = none → ∀ x ys j, ¬ sy_YR d nG T r x ys j := by
    intro r hT x ys j h
    match d, h with
    | 0, h =>
      obtain ⟨p, g, q, u, hT', _⟩ := h
      rw [hT] at hT'
      exact nomatch hT'
    | _ + 1, h =>
      obtain ⟨p, g, q, u, hT', _⟩ := h
      rw [hT] at hT'
      exact nomatch hT'
  have hL : ∀ k s, s + k = 21 → ∀ A, yl_R d E F A s 0 0 → wa_K 21 d b_weight A → wY_compute_2 post (nI (d + 1)) (nI nS) (nI nG) (nI nN) (nI nR) g_traceLen g_changed (k + 1) (nI s) b_used b_ruleP b_ruleG b_ruleQ b_ruleU b_edge b_fin b_solved A b_reach b_rowState b_rowHeight b_rowStack b_traceRules := by
    intro k
    induction k with
    | zero =>
      intro s hs A hA hK
      refine pk_le 21 s (fun _ => ⟨2207, ?_⟩) (fun z => absurd z (by omega))
      refine yc_113 ok hru hd hn hp 2207 0 (by omega) (by omega) true A (yl_W E F) ?_ hK (Or.inr ⟨rfl, 256 + sy_YL.length, by omega, sa_LI_BI (yl_LI ok)⟩)
      intro f g t hf hg ht
      exact hA f g t hf hg ht (by omega)
    | succ k ih =>
      intro s hs A hA hK
      refine pk_le 21 s (fun z => absurd z (by omega)) (fun _ => ⟨6, ?_⟩)
      exact yl_10 ok hed hfi hd (by omega) (fun A' hA' hK' => ih (s + 1) (by omega) A' hA' (wa_K_t hK hK')) 5 0 (by omega) A hA wa_K_r
  refine ⟨22, hL 21 0 (by omega) b_weight ?_ wa_K_r⟩
  intro f g t _ _ _ z
  omega
end
end
section
/-! Y: length of a row, solve, distance -/
def yt_Row (St H K : Nat → Int32) (i : Nat) (c : tr_C) : Prop := St i = nI c.1 ∧ H i = nI c.2.length ∧ st_Stk K (i * 40) c.2
def yr_Kp (St H K St' H' K' : Nat → Int32) : Prop := (∀ i, i < 22 → St' i = St i) ∧ (∀ i, i < 22 → H' i = H i) ∧ (∀ j, j < 880 → K' j = K j)
theorem yr_Kp_r {St H K : Nat → Int32} : yr_Kp St H K St H K := ⟨fun _ _ => rfl, fun _ _ => rfl, fun _ _ => rfl⟩
theorem yr_Kp_t {St H K St' H' K' St2 H2 K2 : Nat → Int32} (h : yr_Kp St H K St' H' K') (h' : yr_Kp St' H' K' St2 H2 K2) : yr_Kp St H K St2 H2 K2 := ⟨fun i hi => (h'.1 i hi).trans (h.1 i hi), fun i hi => (h'.2.1 i hi).trans (h.2.1 i hi), fun j hj => (h'.2.2 j hj).trans (h.2.2 j hj)⟩
section
variable {nS nG nN nR : Nat} {T : sy_T} {E : sy_E} {F : sy_F}
theorem yq_Rp {d p : Nat} {w : List Nat} {W : sa_C → Nat} (ok : sy_ok nS nG nN nR T E F) (hc : tr_ok nS nG (p, w)) (hF : sa_Fx 1000 (sy_YI d nG T E F) W) : wc_Rp 1000 (ms_Y W p w) (tr_V (sy_fw d) T E F (p, w)) := by
  have hS : nS ≤ 4 := ok.2.2.2.2.1
  have hp : p < nS := hc.1
  match d, hF with
  | 0, hF => exact wc_Rp_iff (fun n => sy_YT ok hp w n) (ms_Y_Rp w hF (fun c n h => sy_YT_rg ok c n h) (by omega))
  | _ + 1, hF => exact wc_Rp_iff (fun n => sy_YF ok hp w (fun a ha => (hc.2 a ha).2) n) (ms_Y_Rp w hF (fun c n h => sy_YF_rg ok c n h) (by omega))
end
section
variable {nS nG nN nR : Nat} {g_traceLen g_changed : Int32} {b_used b_ruleP b_ruleG b_ruleQ b_ruleU b_edge b_fin b_solved b_weight b_reach b_rowState b_rowHeight b_rowStack b_traceRules : Nat → Int32}
variable {T : sy_T} {E : sy_E} {F : sy_F}
theorem yl_103 {post : Int32 → SY → Prop} {J51 J88 : (Int32 → (Nat → Int32) → (Nat → Int32) → (Nat → Int32) → (Nat → Int32) → (Nat → Int32) → (Nat → Int32) → (Nat → Int32) → (Nat → Int32) → (Nat → Int32) → (Nat → Int32) → (Nat → Int32) → (Nat → Int32) → (Nat → Int32) → (Nat → Int32) → Prop)} {d row h i g t : Nat} {W : sa_C → Nat} {v : Nat → Nat} (hd : d < 2) (hi : i ≤ 38) (hg : g < 5) (ht : t < 21) (hW : wa_R 21 d b_weight W) (hR : sa_Rg 1000 W) (hv : ∀ s, s < 21 → b_reach (i * 21 + s) = nI (v s)) (hvB : ∀ s, s < 21 → v s ≤ 1000) (hJ : J88 (nI (t + 1)) b_used b_ruleP b_ruleG b_ruleQ b_ruleU b_edge b_fin b_solved b_weight (upd b_reach ((i + 1) * 21 + t) (nI (ms_st 1000 21 W g v t))) b_rowState b_rowHeight b_rowStack b_traceRules) : ∀ k s, s + k = 21 → wY_length_103 post J51 J88 (nI (d + 1)) (nI row) (nI h) (nI i) (nI g) (nI t) (nI nS) (nI nG) (nI nN) (nI nR) g_traceLen g_changed b_used b_ruleP b_ruleG b_ruleQ b_ruleU b_edge b_fin b_solved b_weight b_reach b_rowState b_rowHeight b_rowStack b_traceRules (k + 1) (nI (wc_mn 1000 (fun s => wc_pl 1000 (v s) (W (s, g, t))) s)) (nI s) := by
  intro k
  induction k with
  | zero =>
    intro s hs
    have e : s = 21 := by omega
    subst e
    have ei : ((nI i + 1) * 21) + nI t = nI ((i + 1) * 21 + t) := by
      rw [nI_1]
      show nI (i + 1) * nI 21 + nI t = _
      rw [pk_mul, nI_add]
    refine pk_le 21 21 (fun _ => ?_) (fun z => absurd z (by omega))
    rw [ei, nI_clamp (by omega)]
    exact ⟨vp_in_nI (by omega) (by omega), nm_e (nm_r (nI_1 t) hJ)⟩
  | succ k ih =>
    intro s hs
    have ei : (nI i * 21) + nI s = nI (i * 21 + s) := by
      show nI i * nI 21 + nI s = _
      rw [pk_mul, nI_add]
    have hb := hvB s (by omega)
    have hwr := hR (s, g, t)
    have hmB := wc_mn_B 1000 (fun s => wc_pl 1000 (v s) (W (s, g, t))) s
    have hpl : wc_pl 1000 (v s) (W (s, g, t)) ≤ 1000 := wc_pl_le (by omega)
    refine pk_le 21 s (fun z => absurd z (by omega)) (fun _ => ?_)
    refine yw_cell ?_
    rw [ei, nI_clamp (show i * 21 + s < 2 ^ 31 by omega), nI_clamp (show ((d * 21 + s) * 5 + g) * 21 + t < 2 ^ 31 by omega), hv s (by omega), hW s g t (by omega) hg ht]
    refine ⟨vp_in_nI (by omega) (by omega), vp_in_nI (by omega) (by omega), ?_⟩
    refine yw_add _ _ hb (by omega) ?_
    refine pk_le (wc_mn 1000 (fun s => wc_pl 1000 (v s) (W (s, g, t))) s) (wc_pl 1000 (v s) (W (s, g, t))) (fun h4 => nm_r (nI_1 s) ?_) (fun h4 => nm_r (nI_1 s) ?_)
    · have e := @wc_mn_k 1000 (fun s => wc_pl 1000 (v s) (W (s, g, t))) s h4
      have := ih (s + 1) (by omega)
      rw [e] at this
      exact this
    · have e := @wc_mn_t 1000 (fun s => wc_pl 1000 (v s) (W (s, g, t))) s h4
      have := ih (s + 1) (by omega)
      rw [e] at this
      exact this
theorem yl_88 {post : Int32 → SY → Prop} {J51 : (Int32 → (Nat → Int32) → (Nat → Int32) → (Nat → Int32) → (Nat → Int32) → (Nat → Int32) → (Nat → Int32) → (Nat → Int32) → (Nat → Int32) → (Nat → Int32) → (Nat → Int32) → (Nat → Int32) → (Nat → Int32) → (Nat → Int32) → (Nat → Int32) → Prop)} {d row h i g : Nat} {W : sa_C → Nat} {v : Nat → Nat} (hd : d < 2) (hi : i ≤ 38) (hg : g < 5) (hW : wa_R 21 d b_weight W) (hR : sa_Rg 1000 W) (hvB : ∀ s, s < 21 → v s ≤ 1000) (hJ : ∀ Rc : Nat → Int32, (∀ t, t < 21 → Rc ((i + 1) * 21 + t) = nI (ms_st 1000 21 W g v t)) → J51 (nI (i + 1)) b_used b_ruleP b_ruleG b_ruleQ b_ruleU b_edge b_fin b_solved b_weight Rc b_rowState b_rowHeight b_rowStack b_traceRules) : ∀ k t, t + k = 21 → ∀ Rc : Nat → Int32, (∀ s, s < 21 → Rc (i * 21 + s) = nI (v s)) → (∀ t', t' < t → Rc ((i + 1) * 21 + t') = nI (ms_st 1000 21 W g v t')) → wY_length_88 post J51 (nI (d + 1)) (nI row) (nI h) (nI i) (nI g) (nI nS) (nI nG) (nI nN) (nI nR) g_traceLen g_changed (k + 1) (nI t) b_used b_ruleP b_ruleG b_ruleQ b_ruleU b_edge b_fin b_solved b_weight Rc b_rowState b_rowHeight b_rowStack b_traceRules := by
  intro k
  induction k with
  | zero =>
    intro t ht Rc h1 h2
    exact pk_le 21 t (fun _ => nm_r (nI_1 i) (hJ Rc (fun t' ht' => h2 t' (by omega)))) (fun z => absurd z (by omega))
  | succ k ih =>
    intro t ht Rc h1 h2
    refine pk_le 21 t (fun z => absurd z (by omega)) (fun _ => ⟨22, ?_⟩)
    refine yl_103 hd hi hg (by omega) hW hR h1 hvB ?_ 21 0 (by omega)
    refine ih (t + 1) (by omega) _ ?_ ?_
    · intro s hs
      rw [pk_un (by omega)]
      exact h1 s hs
    · intro t' ht'
      by_cases e : t' = t
      · subst e; exact pk_us
      · rw [pk_un (by omega)]
        exact h2 t' (by omega)
theorem yl_51 {post : Int32 → SY → Prop} {d row h : Nat} {W : sa_C → Nat} (hd : d < 2) (hrow : row < 23) (hh : h ≤ 32) (hW : wa_R 21 d b_weight W) (hR : sa_Rg 1000 W) : ∀ (w : List Nat) (i : Nat) (v : Nat → Nat) (Rc : Nat → Int32), i + w.length = h → (∀ a, a ∈ w → a < 5) → st_Stk b_rowStack (row * 40) w → (∀ s, s < 21 → Rc (i * 21 + s) = nI (v s)) → (∀ s, s < 21 → v s ≤ 1000) → (∀ Rc' : Nat → Int32, post (nI (ms_rd 1000 21 W (w ++ [0]) v 20)) (nI nS, nI nG, nI nN, nI nR, g_traceLen, g_changed, b_used, b_ruleP, b_ruleG, b_ruleQ, b_ruleU, b_edge, b_fin, b_solved, b_weight, Rc', b_rowState, b_rowHeight, b_rowStack, b_traceRules)) → wY_length_51 post (nI (d + 1)) (nI row) (nI h) (nI nS) (nI nG) (nI nN) (nI nR) g_traceLen g_changed (w.length + 2) (nI i) b_used b_ruleP b_ruleG b_ruleQ b_ruleU b_edge b_fin b_solved b_weight Rc b_rowState b_rowHeight b_rowStack b_traceRules := by
  intro w
  induction w with
  | nil =>
    intro i v Rc hi _ _ hv hvB hp
    have e : i = h := by simpa using hi
    subst e
    refine pk_lt i i (fun z => absurd z (by omega)) (fun _ => pk_le i i (fun _ => ⟨22, ?_⟩) (fun z => absurd z (by omega)))
    refine yl_88 (g := 0) hd (by omega) (by omega) hW hR hvB ?_ 21 0 (by omega) Rc hv (fun t' z => absurd z (Nat.not_lt_zero _))
    intro Rc' hRc'
    refine pk_lt i (i + 1) (fun _ => ?_) (fun z => absurd z (by omega))
    have ei : ((nI i + 1) * 21) + 20 = nI ((i + 1) * 21 + 20) := by
      rw [nI_1]
      show nI (i + 1) * nI 21 + nI 20 = _
      rw [pk_mul, nI_add]
    rw [ei, nI_clamp (by omega), hRc' 20 (by omega)]
    exact ⟨vp_in_nI (by omega) (by omega), hp Rc'⟩
  | cons a w ih =>
    intro i v Rc hi hs hk hv hvB hp
    simp only [List.length_cons] at hi
    refine pk_lt h i (fun z => absurd z (by omega)) (fun _ => pk_le h i (fun z => absurd z (by omega)) (fun _ => ?_))
    have ei : (((nI row * 40) + nI h) - 1) - nI i = nI (row * 40 + w.length) := by
      show (((nI row * nI 40) + nI h) - nI 1) - nI i = _
      rw [pk_mul, nI_add, pk_sub (by omega), pk_sub (by omega)]
      exact congrArg nI (by omega)
    rw [ei, nI_clamp (by omega), hk.1]
    refine ⟨vp_in_nI (by omega) (by omega), nm_e ⟨22, ?_⟩⟩
    refine yl_88 (g := a) hd (by omega) (hs a (List.mem_cons_self ..)) hW hR hvB ?_ 21 0 (by omega) Rc hv (fun t' z => absurd z (Nat.not_lt_zero _))
    intro Rc' hRc'
    exact ih (i + 1) _ Rc' (by omega) (fun b hb => hs b (List.mem_cons_of_mem _ hb)) hk.2 hRc' (fun t _ => wc_mn_B _ _ _) hp
theorem yl_len {post : Int32 → SY → Prop} {d row : Nat} {c : tr_C} {W : sa_C → Nat} (hd : d < 2) (hrow : row < 23) (hl : c.2.length ≤ 32) (hp : c.1 < 21) (hs : ∀ a, a ∈ c.2 → a < 5) (hW : wa_R 21 d b_weight W) (hR : sa_Rg 1000 W) (hr : yt_Row b_rowState b_rowHeight b_rowStack row c) (h : ∀ Rc : Nat → Int32, post (nI (ms_Y W c.1 c.2)) (nI nS, nI nG, nI nN, nI nR, g_traceLen, g_changed, b_used, b_ruleP, b_ruleG, b_ruleQ, b_ruleU, b_edge, b_fin, b_solved, b_weight, Rc, b_rowState, b_rowHeight, b_rowStack, b_traceRules)) : wpY_length post (nI nS, nI nG, nI nN, nI nR, g_traceLen, g_changed, b_used, b_ruleP, b_ruleG, b_ruleQ, b_ruleU, b_edge, b_fin, b_solved, b_weight, b_reach, b_rowState, b_rowHeight, b_rowStack, b_traceRules) (nI (d + 1)) (nI row) := by
  have hcl : (nI row).toNatClampNeg = row := nI_clamp (by omega)
  have hin : vp_in (nI row) 23 := vp_in_nI hrow (by omega)
  have hL : ∀ k t, t + k = 21 → ∀ Rc : Nat → Int32, (∀ t', t' < t → Rc t' = nI (ms_u0 c.1 t')) → wY_length_10 post (nI (d + 1)) (nI row) (nI c.2.length) (nI nS) (nI nG) (nI nN) (nI nR) g_traceLen g_changed (k + 1) (nI t) b_used b_ruleP b_ruleG b_ruleQ b_ruleU b_edge b_fin b_solved b_weight Rc b_rowState b_rowHeight b_rowStack b_traceRules := by
    intro k
    induction k with
    | zero =>
      intro t ht Rc hRc
      refine pk_le 21 t (fun _ => ⟨c.2.length + 2, ?_⟩) (fun z => absurd z (by omega))
      refine yl_51 hd hrow hl hW hR c.2 0 (ms_u0 c.1) Rc (by omega) hs hr.2.2 ?_ ?_ h
      · intro s hs'
        rw [Nat.zero_mul, Nat.zero_add]
        exact hRc s (by omega)
      · intro s _
        unfold ms_u0
        split <;> omega
    | succ k ih =>
      intro t ht Rc hRc
      have hct : (nI t).toNatClampNeg = t := nI_clamp (by omega)
      have hnew : ∀ x : Nat, x = ms_u0 c.1 t → ∀ t', t' < t + 1 → upd Rc t (nI x) t' = nI (ms_u0 c.1 t') := by
        intro x hx t' ht'
        by_cases e : t' = t
        · subst e; rw [pk_us, hx]
        · rw [pk_un e]; exact hRc t' (by omega)
      refine pk_le 21 t (fun z => absurd z (by omega)) (fun _ => ⟨hin, ?_⟩)
      rw [hcl, hr.1, hct]
      refine pk_eq t c.1 (fun e => ⟨vp_in_nI (by omega) (by omega), nm_e (nm_r (nI_1 t) (ih (t + 1) (by omega) _ (hnew 0 ?_)))⟩) (fun e => ⟨vp_in_nI (by omega) (by omega), nm_e (nm_r (nI_1 t) (ih (t + 1) (by omega) _ (hnew 1000 ?_)))⟩)
      · exact (if_pos e).symm
      · exact (if_neg e).symm
  refine ⟨hin, nm_r (e' := nI c.2.length) (by rw [hcl]; exact hr.2.1) ⟨22, hL 21 0 (by omega) b_reach (fun t' z => absurd z (Nat.not_lt_zero _))⟩⟩
def yr_So (nG : Nat) (T : sy_T) (E : sy_E) (F : sy_F) (d : Nat) (b : Bool) (S A : Nat → Int32) : Prop := S (d + 1) = st_b b ∧ (b = true → ∃ W, wa_R 21 d A W ∧ sa_Fx 1000 (sy_YI d nG T E F) W)
theorem yq_82 {post : Int32 → SY → Prop} {J38 J49 : (Int32 → Int32 → Int32 → Int32 → Int32 → Int32 → Int32 → Int32 → (Nat → Int32) → (Nat → Int32) → (Nat → Int32) → (Nat → Int32) → (Nat → Int32) → (Nat → Int32) → (Nat → Int32) → (Nat → Int32) → (Nat → Int32) → (Nat → Int32) → (Nat → Int32) → (Nat → Int32) → (Nat → Int32) → (Nat → Int32) → Prop)} {d p g c : Nat} {W : sa_C → Nat} (ok : sy_ok nS nG nN nR T E F) (hd : d < 2) (hW : wa_R 21 d b_weight W) (hF : sa_Fx 1000 (sy_YI d nG T E F) W) (hp : p < nS) (hg : g ≤ nG) (hst : b_rowState 22 = nI p) (h : ∀ H K Rc : Nat → Int32, yr_Kp b_rowState b_rowHeight b_rowStack b_rowState H K → J49 (nI (c + cn_f d T E F p g)) (nI (g + 1)) (nI nS) (nI nG) (nI nN) (nI nR) g_traceLen g_changed b_used b_ruleP b_ruleG b_ruleQ b_ruleU b_edge b_fin b_solved b_weight Rc b_rowState H K b_traceRules) : wY_solve_82 post J38 J49 (nI (d + 1)) (nI c) (nI p) (nI g) (nI (cn_w g).length) 22 (nI nS) (nI nG) (nI nN) (nI nR) g_traceLen g_changed b_used b_ruleP b_ruleG b_ruleQ b_ruleU b_edge b_fin b_solved b_weight b_reach b_rowState b_rowHeight b_rowStack b_traceRules := by
  have hS : nS ≤ 4 := ok.2.2.2.2.1
  have hG : nG ≤ 4 := ok.2.2.2.2.2.2.1
  have hw := cn_w_in hg
  have hl := cn_w_len g
  have hRp := yq_Rp ok (⟨hp, hw⟩ : tr_ok nS nG (p, cn_w g)) hF
  have hfin := wc_fin_iff (by omega) hRp
  have hle : ms_Y W p (cn_w g) ≤ 1000 := by have := hRp.1; omega
  have hrow : yt_Row b_rowState (upd b_rowHeight 22 (nI (cn_w g).length)) (upd b_rowStack 880 (nI g)) 22 (p, cn_w g) := by
    refine ⟨hst, pk_us, ?_⟩
    by_cases e : g = 0
    · subst e; exact trivial
    · have ew : cn_w g = [g] := if_neg e
      show st_Stk _ _ (cn_w g)
      rw [ew]
      exact ⟨pk_us, trivial⟩
  have hkp : yr_Kp b_rowState b_rowHeight b_rowStack b_rowState (upd b_rowHeight 22 (nI (cn_w g).length)) (upd b_rowStack 880 (nI g)) := ⟨fun _ _ => rfl, fun i hi => pk_un (by omega), fun j hj => pk_un (by omega)⟩
  refine ⟨by exact vp_in_nI (n := 22) (by omega) (by omega), nm_r (e' := upd b_rowHeight 22 (nI (cn_w g).length)) rfl (nm_e ?_)⟩
  refine yl_len (row := 22) hd (by omega) (by show (cn_w g).length ≤ 32; omega) (by show p < 21; omega) (fun a ha => by have := hw a ha; omega) hW (fun c => (hF c).1) hrow ?_
  intro Rc
  refine pk_le 1000 (ms_Y W p (cn_w g)) (fun h1 => nm_r (nI_1 g) ?_) (fun h1 => nm_r (nI_1 c) (nm_r (nI_1 g) ?_))
  · have e : cn_f d T E F p g = 0 := cn_b_f (fun z => by have := hfin.mpr z; omega)
    have := h _ _ Rc hkp
    rw [e] at this
    exact this
  · have e : cn_f d T E F p g = 1 := cn_b_t (hfin.mp h1)
    have := h _ _ Rc hkp
    rw [e] at this
    exact this
theorem yq_49 {post : Int32 → SY → Prop} {J38 : (Int32 → Int32 → Int32 → Int32 → Int32 → Int32 → Int32 → Int32 → (Nat → Int32) → (Nat → Int32) → (Nat → Int32) → (Nat → Int32) → (Nat → Int32) → (Nat → Int32) → (Nat → Int32) → (Nat → Int32) → (Nat → Int32) → (Nat → Int32) → (Nat → Int32) → (Nat → Int32) → (Nat → Int32) → (Nat → Int32) → Prop)} {d p c : Nat} {W : sa_C → Nat} (ok : sy_ok nS nG nN nR T E F) (hd : d < 2) (hW : wa_R 21 d b_weight W) (hF : sa_Fx 1000 (sy_YI d nG T E F) W) (hp : p < nS) (hJ : ∀ St H K Rc : Nat → Int32, yr_Kp b_rowState b_rowHeight b_rowStack St H K → J38 (nI (c + cn_g (cn_f d T E F p) (nG + 1))) (nI (p + 1)) (nI nS) (nI nG) (nI nN) (nI nR) g_traceLen g_changed b_used b_ruleP b_ruleG b_ruleQ b_ruleU b_edge b_fin b_solved b_weight Rc St H K b_traceRules) : ∀ k g, g + k = nG + 1 → ∀ St H K Rc : Nat → Int32, yr_Kp b_rowState b_rowHeight b_rowStack St H K → wY_solve_49 post J38 (nI (d + 1)) (nI p) (k + 1) (nI (c + cn_g (cn_f d T E F p) g)) (nI g) (nI nS) (nI nG) (nI nN) (nI nR) g_traceLen g_changed b_used b_ruleP b_ruleG b_ruleQ b_ruleU b_edge b_fin b_solved b_weight Rc St H K b_traceRules := by
  have hG : nG ≤ 4 := ok.2.2.2.2.2.2.1
  intro k
  induction k with
  | zero =>
    intro g hg St H K Rc hk
    have e : g = nG + 1 := by omega
    subst e
    exact pk_lt nG (nG + 1) (fun _ => nm_r (nI_1 p) (hJ St H K Rc hk)) (fun z => absurd z (by omega))
  | succ k ih =>
    intro g hg St H K Rc hk
    refine pk_lt nG g (fun z => absurd z (by omega)) (fun _ => nm_e ?_)
    have hk2 : yr_Kp b_rowState b_rowHeight b_rowStack (upd St 22 (nI p)) H K := ⟨fun i hi => (pk_un (by omega)).trans (hk.1 i hi), hk.2.1, hk.2.2⟩
    have h82 : wY_solve_82 post J38 (wY_solve_49 post J38 (nI (d + 1)) (nI p) (k + 1)) (nI (d + 1)) (nI (c + cn_g (cn_f d T E F p) g)) (nI p) (nI g) (nI (cn_w g).length) 22 (nI nS) (nI nG) (nI nN) (nI nR) g_traceLen g_changed b_used b_ruleP b_ruleG b_ruleQ b_ruleU b_edge b_fin b_solved b_weight Rc (upd St 22 (nI p)) H K b_traceRules := by
      refine yq_82 ok hd hW hF hp (by omega) pk_us ?_
      intro H' K' Rc' hk'
      have := ih (g + 1) (by omega) (upd St 22 (nI p)) H' K' Rc' (yr_Kp_t hk2 hk')
      rw [Nat.add_assoc]
      exact this
    refine pk_eq g 0 (fun e => ?_) (fun e => ?_)
    · subst e
      exact h82
    · have ew : cn_w g = [g] := if_neg e
      rw [ew] at h82
      exact h82
theorem yq_27 {post : Int32 → SY → Prop} {d : Nat} {W : sa_C → Nat} (ok : sy_ok nS nG nN nR T E F) (hd : d < 2) (hW : wa_R 21 d b_weight W) (hF : sa_Fx 1000 (sy_YI d nG T E F) W) (h : ∀ St H K Rc : Nat → Int32, yr_Kp b_rowState b_rowHeight b_rowStack St H K → post (nI (cn_T d nS nG T E F)) (nI nS, nI nG, nI nN, nI nR, g_traceLen, g_changed, b_used, b_ruleP, b_ruleG, b_ruleQ, b_ruleU, b_edge, b_fin, upd b_solved (d + 1) 1, b_weight, Rc, St, H, K, b_traceRules)) : wY_solve_27 post (nI (d + 1)) (nI nS) (nI nG) (nI nN) (nI nR) g_traceLen g_changed b_used b_ruleP b_ruleG b_ruleQ b_ruleU b_edge b_fin b_solved b_weight b_reach b_rowState b_rowHeight b_rowStack b_traceRules := by
  have hS : nS ≤ 4 := ok.2.2.2.2.1
  have hL : ∀ k p, p + k = nS → ∀ St H K Rc : Nat → Int32, yr_Kp b_rowState b_rowHeight b_rowStack St H K → wY_solve_38 post (nI (d + 1)) (k + 1) (nI (cn_p (cn_f d T E F) nG p)) (nI p) (nI nS) (nI nG) (nI nN) (nI nR) g_traceLen g_changed b_used b_ruleP b_ruleG b_ruleQ b_ruleU b_edge b_fin (upd b_solved (d + 1) 1) b_weight Rc St H K b_traceRules := by
    intro k
    induction k with
    | zero =>
      intro p hp St H K Rc hk
      have e : p = nS := by omega
      subst e
      exact pk_le p p (fun _ => h St H K Rc hk) (fun z => absurd z (by omega))
    | succ k ih =>
      intro p hp St H K Rc hk
      refine pk_le nS p (fun z => absurd z (by omega)) (fun _ => ⟨nG + 2, ?_⟩)
      exact yq_49 (c := cn_p (cn_f d T E F) nG p) ok hd hW hF (by omega) (fun St' H' K' Rc' hk' => ih (p + 1) (by omega) St' H' K' Rc' (yr_Kp_t hk hk')) (nG + 1) 0 (by omega) St H K Rc yr_Kp_r
  refine ⟨vp_in_nI (by omega) (by omega), nm_r (e' := upd b_solved (d + 1) 1) (by rw [nI_clamp (by omega)]; rfl) ⟨nS + 1, ?_⟩⟩
  exact hL nS 0 (by omega) b_rowState b_rowHeight b_rowStack b_reach yr_Kp_r
theorem yq_sol {post : Int32 → SY → Prop} {d : Nat} {b : Bool} (ok : sy_ok nS nG nN nR T E F) (hru : yr_Ru T b_used b_ruleP b_ruleG b_ruleQ b_ruleU) (hed : yr_Ed E b_edge) (hfi : yr_Fi F b_fin) (hd : d < 2) (hso : yr_So nG T E F d b b_solved b_weight) (h : ∀ (c : Int32) (A St H K Rc : Nat → Int32), wa_K 21 d b_weight A → yr_So nG T E F d true (upd b_solved (d + 1) 1) A → yr_Kp b_rowState b_rowHeight b_rowStack St H K → post (nI (cn_T d nS nG T E F)) (nI nS, nI nG, nI nN, nI nR, g_traceLen, c, b_used, b_ruleP, b_ruleG, b_ruleQ, b_ruleU, b_edge, b_fin, upd b_solved (d + 1) 1, A, Rc, St, H, K, b_traceRules)) : wpY_solve post (nI nS, nI nG, nI nN, nI nR, g_traceLen, g_changed, b_used, b_ruleP, b_ruleG, b_ruleQ, b_ruleU, b_edge, b_fin, b_solved, b_weight, b_reach, b_rowState, b_rowHeight, b_rowStack, b_traceRules) (nI (d + 1)) := by
  have h13 : wY_solve_13 post (nI (d + 1)) (nI nS) (nI nG) (nI nN) (nI nR) g_traceLen g_changed b_used b_ruleP b_ruleG b_ruleQ b_ruleU b_edge b_fin b_solved b_weight b_reach b_rowState b_rowHeight b_rowStack b_traceRules := by
    refine ⟨vp_in_nI (by omega) (by omega), ?_⟩
    rw [nI_clamp (by omega), hso.1]
    cases b with
    | false =>
      refine br_t rfl (yc_co ok hru hed hfi hd ?_)
      intro c A W hW hK hF
      exact yq_27 ok hd hW hF (fun St H K Rc hk => h c A St H K Rc hK ⟨pk_us, fun _ => ⟨W, hW, hF⟩⟩ hk)
    | true =>
      obtain ⟨W, hW, hF⟩ := hso.2 rfl
      refine br_f (by decide) ?_
      exact yq_27 ok hd hW hF (fun St H K Rc hk => h g_changed b_weight St H K Rc wa_K_r ⟨pk_us, fun _ => ⟨W, hW, hF⟩⟩ hk)
  exact pk_eq (d + 1) 1 (fun _ => h13) (fun e => pk_eq (d + 1) 2 (fun _ => h13) (fun e2 => absurd e2 (by omega)))
/-- the distance, solved -/
theorem yq_di {post : Int32 → SY → Prop} {d : Nat} {c : tr_C} {W : sa_C → Nat} (ok : sy_ok nS nG nN nR T E F) (hd : d < 2) (hsv : b_solved (d + 1) = 1) (hW : wa_R 21 d b_weight W) (hF : sa_Fx 1000 (sy_YI d nG T E F) W) (hc : tr_ok nS nG c) (hl : c.2.length ≤ 32) (hr : yt_Row b_rowState b_rowHeight b_rowStack 21 c) (h : ∀ Rc : Nat → Int32, post (ms_an 1000 (ms_Y W c.1 c.2)) (nI nS, nI nG, nI nN, nI nR, g_traceLen, g_changed, b_used, b_ruleP, b_ruleG, b_ruleQ, b_ruleU, b_edge, b_fin, b_solved, b_weight, Rc, b_rowState, b_rowHeight, b_rowStack, b_traceRules)) : wpY_distance post (nI nS, nI nG, nI nN, nI nR, g_traceLen, g_changed, b_used, b_ruleP, b_ruleG, b_ruleQ, b_ruleU, b_edge, b_fin, b_solved, b_weight, b_reach, b_rowState, b_rowHeight, b_rowStack, b_traceRules) (nI (d + 1)) := by
  have hS : nS ≤ 4 := ok.2.2.2.2.1
  have hG : nG ≤ 4 := ok.2.2.2.2.2.2.1
  have hp : c.1 < nS := hc.1
  have hle : ms_Y W c.1 c.2 ≤ 1000 := by have := (yq_Rp (p := c.1) (w := c.2) ok hc hF).1; omega
  have h13 : wY_distance_13 post (nI (d + 1)) (nI nS) (nI nG) (nI nN) (nI nR) g_traceLen g_changed b_used b_ruleP b_ruleG b_ruleQ b_ruleU b_edge b_fin b_solved b_weight b_reach b_rowState b_rowHeight b_rowStack b_traceRules := by
    refine ⟨vp_in_nI (by omega) (by omega), ?_⟩
    rw [nI_clamp (by omega), hsv]
    refine br_f (by decide) ?_
    refine yl_len (row := 21) hd (by omega) hl (by omega) (fun a ha => by have := hc.2 a ha; omega) hW (fun c => (hF c).1) hr ?_
    intro Rc
    have h2 := h Rc
    unfold ms_an at h2
    refine pk_lt (ms_Y W c.1 c.2) 1000 (fun e => ?_) (fun e => ?_)
    · rw [if_pos e] at h2; exact h2
    · rw [if_neg (by omega)] at h2; exact h2
  exact pk_eq (d + 1) 1 (fun _ => h13) (fun e => pk_eq (d + 1) 2 (fun _ => h13) (fun e2 => absurd e2 (by omega)))
theorem yq_di0 {post : Int32 → SY → Prop} {d : Nat} (hd : d < 2) (hsv : b_solved (d + 1) = 0) (h : post (-2) (nI nS, nI nG, nI nN, nI nR, g_traceLen, g_changed, b_used, b_ruleP, b_ruleG, b_ruleQ, b_ruleU, b_edge, b_fin, b_solved, b_weight, b_reach, b_rowState, b_rowHeight, b_rowStack, b_traceRules)) : wpY_distance post (nI nS, nI nG, nI nN, nI nR, g_traceLen, g_changed, b_used, b_ruleP, b_ruleG, b_ruleQ, b_ruleU, b_edge, b_fin, b_solved, b_weight, b_reach, b_rowState, b_rowHeight, b_rowStack, b_traceRules) (nI (d + 1)) := by
  have h13 : wY_distance_13 post (nI (d + 1)) (nI nS) (nI nG) (nI nN) (nI nR) g_traceLen g_changed b_used b_ruleP b_ruleG b_ruleQ b_ruleU b_edge b_fin b_solved b_weight b_reach b_rowState b_rowHeight b_rowStack b_traceRules := by
    refine ⟨vp_in_nI (by omega) (by omega), ?_⟩
    rw [nI_clamp (by omega), hsv]
    exact br_t rfl h
  exact pk_eq (d + 1) 1 (fun _ => h13) (fun e => pk_eq (d + 1) 2 (fun _ => h13) (fun e2 => absurd e2 (by omega)))
end
end
section
/-! Y: rows rewritten, traces -/
section
variable {nS nG nN nR : Nat} {g_traceLen g_changed : Int32} {b_used b_ruleP b_ruleG b_ruleQ b_ruleU b_edge b_fin b_solved b_weight b_reach b_rowState b_rowHeight b_rowStack b_traceRules : Nat → Int32}
variable {T : sy_T} {E : sy_E} {F : sy_F}
theorem yt_ix {i j : Nat} : (nI i * 40) + nI j = nI (i * 40 + j) := by
  show nI i * nI 40 + nI j = _
  rw [pk_mul, nI_add]
theorem yt_cp {post : SY → Prop} {i j : Nat} (hi : i < 23) (hj : j < 23) (hne : i ≠ j) (h : ∀ K : Nat → Int32, (∀ x, x < 40 → K (j * 40 + x) = b_rowStack (i * 40 + x)) → (∀ x, (x < j * 40 ∨ j * 40 + 40 ≤ x) → K x = b_rowStack x) → post (nI nS, nI nG, nI nN, nI nR, g_traceLen, g_changed, b_used, b_ruleP, b_ruleG, b_ruleQ, b_ruleU, b_edge, b_fin, b_solved, b_weight, b_reach, upd b_rowState j (b_rowState i), upd b_rowHeight j (b_rowHeight i), K, b_traceRules)) : wpY_copyRow post (nI nS, nI nG, nI nN, nI nR, g_traceLen, g_changed, b_used, b_ruleP, b_ruleG, b_ruleQ, b_ruleU, b_edge, b_fin, b_solved, b_weight, b_reach, b_rowState, b_rowHeight, b_rowStack, b_traceRules) (nI i) (nI j) := by
  have hci : (nI i).toNatClampNeg = i := nI_clamp (by omega)
  have hcj : (nI j).toNatClampNeg = j := nI_clamp (by omega)
  have hini : vp_in (nI i) 23 := vp_in_nI hi (by omega)
  have hinj : vp_in (nI j) 23 := vp_in_nI hj (by omega)
  have hL : ∀ k x, x + k = 40 → ∀ K : Nat → Int32, (∀ y, y < x → K (j * 40 + y) = b_rowStack (i * 40 + y)) → (∀ y, (y < j * 40 ∨ j * 40 + 40 ≤ y) → K y = b_rowStack y) → wY_copyRow_26 post (nI i) (nI j) (nI nS) (nI nG) (nI nN) (nI nR) g_traceLen g_changed (k + 1) (nI x) b_used b_ruleP b_ruleG b_ruleQ b_ruleU b_edge b_fin b_solved b_weight b_reach (upd b_rowState j (b_rowState i)) (upd b_rowHeight j (b_rowHeight i)) K b_traceRules := by
    intro k
    induction k with
    | zero =>
      intro x hx K h1 h2
      exact pk_le 40 x (fun _ => h K (fun y hy => h1 y (by omega)) h2) (fun z => absurd z (by omega))
    | succ k ih =>
      intro x hx K h1 h2
      refine pk_le 40 x (fun z => absurd z (by omega)) (fun _ => ?_)
      rw [yt_ix, yt_ix, nI_clamp (show i * 40 + x < 2 ^ 31 by omega), nI_clamp (show j * 40 + x < 2 ^ 31 by omega), h2 (i * 40 + x) (by omega)]
      refine ⟨vp_in_nI (by omega) (by omega), vp_in_nI (by omega) (by omega), nm_e (nm_r (nI_1 x) (ih (x + 1) (by omega) _ ?_ ?_))⟩
      · intro y hy
        by_cases e : y = x
        · subst e; exact pk_us
        · rw [pk_un (by omega)]; exact h1 y (by omega)
      · intro y hy
        rw [pk_un (by omega)]
        exact h2 y hy
  refine ⟨hini, hinj, nm_r (e' := upd b_rowState j (b_rowState i)) (by rw [hci, hcj]) ⟨hini, hinj, nm_r (e' := upd b_rowHeight j (b_rowHeight i)) (by rw [hci, hcj]) ⟨41, ?_⟩⟩⟩
  exact hL 40 0 (by omega) b_rowStack (fun y z => absurd z (Nat.not_lt_zero _)) (fun _ _ => rfl)
/-- rows other than j stand -/
def yt_Kr (j : Nat) (St H K St' H' K' : Nat → Int32) : Prop := ∀ i c, i ≠ j → c.2.length ≤ 40 → yt_Row St H K i c → yt_Row St' H' K' i c
theorem yt_Kr_i {j : Nat} {St H K K' : Nat → Int32} {x y : Int32} (h : ∀ z, (z < j * 40 ∨ j * 40 + 40 ≤ z) → K' z = K z) : yt_Kr j St H K (upd St j x) (upd H j y) K' := by
  rintro i c hne hl ⟨r1, r2, r3⟩
  refine ⟨by rw [pk_un hne]; exact r1, by rw [pk_un hne]; exact r2, st_stk_cg (fun z hz => h _ ?_) r3⟩
  omega
theorem yt_96 {post : Int32 → SY → Prop} {i j y nQ : Nat} {c : tr_C} {u1 u2 v : List Nat} (hi : i < 23) (hj : j < 23) (hne : i ≠ j) (hl : c.2.length ≤ 32) (hr : yt_Row b_rowState b_rowHeight b_rowStack i c) (hc : c.2 = u1 ++ v) (hQ : nQ ≤ 4) (hu2 : sy_wd nQ u2) (h : ∀ St H K : Nat → Int32, yt_Row St H K j (y, u2 ++ v) → yt_Kr j b_rowState b_rowHeight b_rowStack St H K → post 1 (nI nS, nI nG, nI nN, nI nR, g_traceLen, g_changed, b_used, b_ruleP, b_ruleG, b_ruleQ, b_ruleU, b_edge, b_fin, b_solved, b_weight, b_reach, St, H, K, b_traceRules)) : wY_rewrite_96 post (nI i) (nI j) (nI y) (nI (st_cd u2)) (nI v.length) (nI nS) (nI nG) (nI nN) (nI nR) g_traceLen g_changed b_used b_ruleP b_ruleG b_ruleQ b_ruleU b_edge b_fin b_solved b_weight b_reach b_rowState b_rowHeight b_rowStack b_traceRules := by
  have hcj : (nI j).toNatClampNeg = j := nI_clamp (by omega)
  have hinj : vp_in (nI j) 23 := vp_in_nI hj (by omega)
  have hlv : v.length ≤ 32 := by
    rw [hc, List.length_append] at hl
    omega
  have hend : ∀ (x y' : Int32) (K : Nat → Int32), st_Stk K (j * 40) (u2 ++ v) → (∀ z, (z < j * 40 ∨ j * 40 + 40 ≤ z) → K z = b_rowStack z) → wY_rewrite_154 post (nI j) (nI y) (nI (u2 ++ v).length) (nI nS) (nI nG) (nI nN) (nI nR) g_traceLen g_changed b_used b_ruleP b_ruleG b_ruleQ b_ruleU b_edge b_fin b_solved b_weight b_reach (upd b_rowState j x) (upd b_rowHeight j y') K b_traceRules := by
    intro x y' K hk hK
    refine ⟨hinj, nm_r (e' := upd (upd b_rowState j x) j (nI y)) (by rw [hcj]) ⟨hinj, nm_r (e' := upd (upd b_rowHeight j y') j (nI (u2 ++ v).length)) (by rw [hcj]) ?_⟩⟩
    refine h _ _ K ⟨pk_us, pk_us, hk⟩ ?_
    rintro i' c' hne' hl' ⟨r1, r2, r3⟩
    refine ⟨by rw [pk_un hne', pk_un hne']; exact r1, by rw [pk_un hne', pk_un hne']; exact r2, st_stk_cg (fun z hz => hK _ ?_) r3⟩
    omega
  unfold wY_rewrite_96
  refine yt_cp hi hj hne ?_
  intro K h1 h2
  have hkv : st_Stk K (j * 40) v := by
    have h3 : st_Stk b_rowStack (i * 40) v := by
      have := hr.2.2
      rw [hc] at this
      exact st_stk_app this
    exact st_stk_cg (fun z hz => h1 z (by omega)) h3
  have hku : ∀ (K' : Nat → Int32) (z : Nat) (x : Int32), z < 40 → (∀ z, (z < j * 40 ∨ j * 40 + 40 ≤ z) → K' z = b_rowStack z) → (∀ z', (z' < j * 40 ∨ j * 40 + 40 ≤ z') → upd K' (j * 40 + z) x z' = b_rowStack z') := by
    intro K' z x hz hK z' hz'
    rw [pk_un (by omega)]
    exact hK z' hz'
  rcases hu2 with e | ⟨a, e, ha⟩ | ⟨a, b, e, ha, ha2, hb, hb2⟩
  · subst e
    refine br_t (show nI (st_cd []) ≤ 0 by decide) ?_
    exact br_t (show nI (st_cd []) < 10 by decide) (hend _ _ K hkv h2)
  · subst e
    refine br_f (nI_nle (show 0 < a by omega) (show a < 2 ^ 31 by omega)) ⟨by decide, ?_⟩
    have em : nI a - nI a / 10 * 10 = nI a := by
      show nI a - nI a / nI 10 * nI 10 = _
      rw [pk_rem (by omega) (by omega) (by omega)]
      exact congrArg nI (by omega)
    show vp_in ((nI j * 40) + nI v.length) 920 ∧ (∀ x, x = upd K ((nI j * 40) + nI v.length).toNatClampNeg (nI a - nI a / 10 * 10) → _)
    rw [em, yt_ix, nI_clamp (show j * 40 + v.length < 2 ^ 31 by omega)]
    refine ⟨vp_in_nI (by omega) (by omega), nm_e (nm_r (nI_1 v.length) ?_)⟩
    refine pk_lt a 10 (fun _ => ?_) (fun z => absurd z (by omega))
    exact hend _ _ _ (st_stk_push rfl hkv) (hku K _ _ (by omega) h2)
  · subst e
    refine br_f (nI_nle (show 0 < 10 * a + b by omega) (show 10 * a + b < 2 ^ 31 by omega)) ⟨by decide, ?_⟩
    have ed : nI (10 * a + b) / 10 = nI a := by
      show nI (10 * a + b) / nI 10 = _
      rw [pk_div (by omega) (by omega) (by omega)]
      exact congrArg nI (by omega)
    have em : nI (10 * a + b) - nI (10 * a + b) / 10 * 10 = nI b := by
      show nI (10 * a + b) - nI (10 * a + b) / nI 10 * nI 10 = _
      rw [pk_rem (by omega) (by omega) (by omega)]
      exact congrArg nI (by omega)
    show vp_in ((nI j * 40) + nI v.length) 920 ∧ (∀ x, x = upd K ((nI j * 40) + nI v.length).toNatClampNeg (nI (10 * a + b) - nI (10 * a + b) / 10 * 10) → _)
    rw [em, yt_ix, nI_clamp (show j * 40 + v.length < 2 ^ 31 by omega)]
    refine ⟨vp_in_nI (by omega) (by omega), nm_e (nm_r (nI_1 v.length) ?_)⟩
    have hk1 : st_Stk (upd K (j * 40 + v.length) (nI b)) (j * 40) (b :: v) := st_stk_push rfl hkv
    refine pk_lt (10 * a + b) 10 (fun z => absurd z (by omega)) (fun _ => ⟨by decide, ?_⟩)
    show vp_in ((nI j * 40) + nI (v.length + 1)) 920 ∧ (∀ x, x = upd (upd K (j * 40 + v.length) (nI b)) ((nI j * 40) + nI (v.length + 1)).toNatClampNeg (nI (10 * a + b) / 10) → _)
    rw [ed, yt_ix, nI_clamp (show j * 40 + (v.length + 1) < 2 ^ 31 by omega)]
    refine ⟨vp_in_nI (by omega) (by omega), nm_e (nm_r (nI_1 (v.length + 1)) ?_)⟩
    exact hend _ _ _ (st_stk_push (a := a) rfl hk1) (hku _ _ _ (by omega) (hku K _ _ (by omega) h2))
/-- the last symbol of the word to be taken off -/
theorem yt_59 {post : Int32 → SY → Prop} {i j y b w nQ : Nat} {c : tr_C} {u0 u2 s : List Nat} (hi : i < 23) (hj : j < 23) (hne : i ≠ j) (hl : c.2.length ≤ 32) (hr : yt_Row b_rowState b_rowHeight b_rowStack i c) (hc : c.2 = u0 ++ s) (hQ : nQ ≤ 4) (hu2 : sy_wd nQ u2) (hs9 : ∀ a, a ∈ s → a < 10) (hw : 0 < w) (hw2 : w < 100) (hb : w % 10 = b) (h1 : ∀ (v : List Nat) (St H K : Nat → Int32), s = b :: v → yt_Row St H K j (y, u2 ++ v) → yt_Kr j b_rowState b_rowHeight b_rowStack St H K → post 1 (nI nS, nI nG, nI nN, nI nR, g_traceLen, g_changed, b_used, b_ruleP, b_ruleG, b_ruleQ, b_ruleU, b_edge, b_fin, b_solved, b_weight, b_reach, St, H, K, b_traceRules)) (h0 : (∀ v, ¬ s = b :: v) → post 0 (nI nS, nI nG, nI nN, nI nR, g_traceLen, g_changed, b_used, b_ruleP, b_ruleG, b_ruleQ, b_ruleU, b_edge, b_fin, b_solved, b_weight, b_reach, b_rowState, b_rowHeight, b_rowStack, b_traceRules)) : wY_rewrite_59 post (nI i) (nI j) (nI w) (nI y) (nI (st_cd u2)) (nI s.length) (nI nS) (nI nG) (nI nN) (nI nR) g_traceLen g_changed b_used b_ruleP b_ruleG b_ruleQ b_ruleU b_edge b_fin b_solved b_weight b_reach b_rowState b_rowHeight b_rowStack b_traceRules := by
  have hls : s.length ≤ 32 := by
    rw [hc, List.length_append] at hl
    omega
  refine br_f (nI_nle hw (by omega)) ?_
  have em : nI w - nI w / 10 * 10 = nI b := by
    show nI w - nI w / nI 10 * nI 10 = _
    rw [pk_rem (by omega) (by omega) (by omega)]
    exact congrArg nI hb
  cases s with
  | nil => exact br_t rfl (h0 (fun v z => nomatch z))
  | cons x v =>
    have hx9 := hs9 x (List.mem_cons_self ..)
    have hlv : v.length + 1 ≤ 32 := hls
    have hk : st_Stk b_rowStack (i * 40) (x :: v) := by
      have := hr.2.2
      rw [hc] at this
      exact st_stk_app this
    have e1 : ((nI i * 40) + nI (x :: v).length) - 1 = nI (i * 40 + v.length) := by
      show ((nI i * 40) + nI (v.length + 1)) - nI 1 = _
      rw [yt_ix, pk_sub (by omega)]
      exact congrArg nI (by omega)
    refine br_f (nI_ne0 (show 0 < v.length + 1 by omega) (show v.length + 1 < 2 ^ 31 by omega)) ?_
    rw [e1, em, nI_clamp (show i * 40 + v.length < 2 ^ 31 by omega), hk.1]
    refine ⟨vp_in_nI (by omega) (by omega), by decide, ?_⟩
    refine pk_eq x b (fun e => ?_) (fun e => h0 (fun v' z => ?_)) rfl rfl (by omega) (by omega)
    · subst e
      refine nm_r (pk_m1 v.length) ?_
      exact yt_96 (u1 := u0 ++ [x]) hi hj hne hl hr (by rw [hc]; simp) hQ hu2 (fun St H K hr' hk' => h1 v St H K rfl hr' hk')
    · injection z with z _
      exact e z
theorem yt_rw {post : Int32 → SY → Prop} {i j x y nQ : Nat} {c : tr_C} {u1 u2 : List Nat} (hi : i < 23) (hj : j < 23) (hne : i ≠ j) (hl : c.2.length ≤ 32) (hr : yt_Row b_rowState b_rowHeight b_rowStack i c) (hx : x < 2 ^ 31) (hc1 : c.1 < 2 ^ 31) (hQ : nQ ≤ 4) (hu1 : sy_wd nQ u1) (hu2 : sy_wd nQ u2) (hs9 : ∀ a, a ∈ c.2 → a < 10) (h1 : ∀ (v : List Nat) (St H K : Nat → Int32), c.1 = x → c.2 = u1 ++ v → yt_Row St H K j (y, u2 ++ v) → yt_Kr j b_rowState b_rowHeight b_rowStack St H K → post 1 (nI nS, nI nG, nI nN, nI nR, g_traceLen, g_changed, b_used, b_ruleP, b_ruleG, b_ruleQ, b_ruleU, b_edge, b_fin, b_solved, b_weight, b_reach, St, H, K, b_traceRules)) (h0 : (∀ v, c.1 = x → ¬ c.2 = u1 ++ v) → post 0 (nI nS, nI nG, nI nN, nI nR, g_traceLen, g_changed, b_used, b_ruleP, b_ruleG, b_ruleQ, b_ruleU, b_edge, b_fin, b_solved, b_weight, b_reach, b_rowState, b_rowHeight, b_rowStack, b_traceRules)) : wpY_rewrite post (nI nS, nI nG, nI nN, nI nR, g_traceLen, g_changed, b_used, b_ruleP, b_ruleG, b_ruleQ, b_ruleU, b_edge, b_fin, b_solved, b_weight, b_reach, b_rowState, b_rowHeight, b_rowStack, b_traceRules) (nI i) (nI j) (nI x) (nI (st_cd u1)) (nI y) (nI (st_cd u2)) := by
  have hci : (nI i).toNatClampNeg = i := nI_clamp (by omega)
  have hini : vp_in (nI i) 23 := vp_in_nI hi (by omega)
  refine ⟨hini, ?_⟩
  rw [hci, hr.1]
  refine pk_eq c.1 x (fun ex => ?_) (fun ex => h0 (fun v e => absurd e ex)) rfl rfl hc1 hx
  refine ⟨hini, nm_r (e' := nI c.2.length) hr.2.1 ?_⟩
  rcases hu1 with e | ⟨a, e, ha⟩ | ⟨a, b, e, ha, ha2, hb, hb2⟩
  · subst e
    refine br_t (show nI (st_cd []) < 10 by decide) ?_
    refine br_t (show nI (st_cd []) ≤ 0 by decide) ?_
    exact yt_96 (u1 := []) hi hj hne hl hr rfl hQ hu2 (fun St H K hr' hk' => h1 c.2 St H K ex rfl hr' hk')
  · subst e
    refine pk_lt a 10 (fun _ => ?_) (fun z => absurd z (by omega))
    refine yt_59 (u0 := []) (b := a) hi hj hne hl hr rfl hQ hu2 hs9 (show 0 < a by omega) (show a < 100 by omega) (show a % 10 = a by omega) ?_ ?_
    · intro v St H K e hr' hk'
      exact h1 v St H K ex e hr' hk'
    · intro hno
      exact h0 (fun v _ => hno v)
  · subst e
    refine pk_lt (10 * a + b) 10 (fun z => absurd z (by omega)) (fun _ => ?_)
    have ed : nI (10 * a + b) / 10 = nI a := by
      show nI (10 * a + b) / nI 10 = _
      rw [pk_div (by omega) (by omega) (by omega)]
      exact congrArg nI (by omega)
    obtain ⟨p0, w⟩ := c
    cases w with
    | nil => exact br_t rfl (h0 (fun v _ z => nomatch z))
    | cons z w =>
      have hz9 := hs9 z (List.mem_cons_self ..)
      have hlv : w.length + 1 ≤ 32 := hl
      have e1 : ((nI i * 40) + nI (z :: w).length) - 1 = nI (i * 40 + w.length) := by
        show ((nI i * 40) + nI (w.length + 1)) - nI 1 = _
        rw [yt_ix, pk_sub (by omega)]
        exact congrArg nI (by omega)
      refine br_f (nI_ne0 (show 0 < w.length + 1 by omega) (show w.length + 1 < 2 ^ 31 by omega)) ?_
      show vp_in (((nI i * 40) + nI (z :: w).length) - 1) 920 ∧ (¬ (10 : Int32) = 0 ∧ ((b_rowStack (((nI i * 40) + nI (z :: w).length) - 1).toNatClampNeg = nI (10 * a + b) / 10 → _) ∧ (¬ b_rowStack (((nI i * 40) + nI (z :: w).length) - 1).toNatClampNeg = nI (10 * a + b) / 10 → _)))
      rw [e1, ed, nI_clamp (show i * 40 + w.length < 2 ^ 31 by omega), hr.2.2.1]
      refine ⟨vp_in_nI (by omega) (by omega), by decide, ?_⟩
      refine pk_eq z a (fun e => ?_) (fun e => h0 (fun v' _ z' => ?_)) rfl rfl (by omega) (by omega)
      · subst e
        refine nm_r (pk_m1 w.length) ?_
        refine yt_59 (c := (p0, z :: w)) (u0 := [z]) (s := w) (b := b) hi hj hne hl hr rfl hQ hu2 (fun a' ha' => hs9 a' (List.mem_cons_of_mem _ ha')) (show 0 < 10 * z + b by omega) (show 10 * z + b < 100 by omega) (show (10 * z + b) % 10 = b by omega) ?_ ?_
        · intro v St H K e hr' hk'
          exact h1 v St H K ex (by rw [e]; rfl) hr' hk'
        · intro hno
          refine h0 (fun v _ z' => ?_)
          injection z' with _ z'
          exact hno v z'
      · injection z' with z' _
        exact e z'
end
end
section
/-! Y: the trace's loops -/
section
variable {nS nG nN nR : Nat} {g_traceLen g_changed : Int32} {b_used b_ruleP b_ruleG b_ruleQ b_ruleU b_edge b_fin b_solved b_weight b_reach b_rowState b_rowHeight b_rowStack b_traceRules : Nat → Int32}
variable {T : sy_T} {E : sy_E} {F : sy_F}
theorem yt_Kr_t {j : Nat} {St H K St' H' K' St2 H2 K2 : Nat → Int32} (h : yt_Kr j St H K St' H' K') (h' : yt_Kr j St' H' K' St2 H2 K2) : yt_Kr j St H K St2 H2 K2 := fun i c hne hl hr => h' i c hne hl (h i c hne hl hr)
def yt_ti (d fr to : Nat) : Nat := match d with
  | 0 => fr
  | _ + 1 => to
theorem sy_wd1 {g : Nat} (h : 1 ≤ g) (h2 : g ≤ nG) : sy_wd nG [g] := Or.inr (Or.inl ⟨g, rfl, h, h2⟩)
theorem yt_101 {post : Int32 → SY → Prop} {J55 : (Int32 → Int32 → Int32 → Int32 → Int32 → Int32 → Int32 → (Nat → Int32) → (Nat → Int32) → (Nat → Int32) → (Nat → Int32) → (Nat → Int32) → (Nat → Int32) → (Nat → Int32) → (Nat → Int32) → (Nat → Int32) → (Nat → Int32) → (Nat → Int32) → (Nat → Int32) → (Nat → Int32) → (Nat → Int32) → Prop)} {d len k fr to rs : Nat} {c c' : tr_C} {W : sa_C → Nat} (ok : sy_ok nS nG nN nR T E F) (hru : yr_Ru T b_used b_ruleP b_ruleG b_ruleQ b_ruleU) (hd : d < 2) (hW : wa_R 21 d b_weight W) (hF : sa_Fx 1000 (sy_YI d nG T E F) W) (hlen : len ≤ 20) (hk : k < len) (hfr : fr ≤ 20) (hto : to ≤ 20) (hti : yt_ti d fr to < 20) (hne : fr ≠ to) (hc : tr_ok nS nG c) (hl : c.2.length < 32) (hrow : yt_Row b_rowState b_rowHeight b_rowStack fr c) (hnx : tr_Nx (sy_fw d) T E F (len - 1 - k) c rs c')
    (hJ : ∀ St H K Rc : Nat → Int32, yt_Row St H K to c' → yt_Kr to b_rowState b_rowHeight b_rowStack St H K → J55 (nI (k + 1)) (nI nS) (nI nG) (nI nN) (nI nR) g_traceLen g_changed b_used b_ruleP b_ruleG b_ruleQ b_ruleU b_edge b_fin b_solved b_weight Rc St H K (upd b_traceRules (yt_ti d fr to) (nI rs))) : ∀ k' r, r + k' = nR → r ≤ rs → ∀ St H K Rc : Nat → Int32, yt_Kr to b_rowState b_rowHeight b_rowStack St H K → wY_trace_101 post J55 (nI (d + 1)) (nI len) (st_b (sy_fw d)) (nI k) (nI fr) (nI to) (k' + 1) 0 (nI r) (nI nS) (nI nG) (nI nN) (nI nR) g_traceLen g_changed b_used b_ruleP b_ruleG b_ruleQ b_ruleU b_edge b_fin b_solved b_weight Rc St H K b_traceRules := by
  have hS : nS ≤ 4 := ok.2.2.2.2.1
  have hG : nG ≤ 4 := ok.2.2.2.2.2.2.1
  have hR : nR ≤ 12 := ok.2.2.2.2.2.2.2.2.2.2
  have hrs := (tr_Ft_ok ok hnx.1 hc).2.2
  have hcp : c.1 < nS := hc.1
  intro k'
  induction k' with
  | zero => intro r hr hr2; omega
  | succ k' ih =>
    intro r hr hr2 St H K Rc hkeep
    have hcl : (nI r).toNatClampNeg = r := nI_clamp (by omega)
    have hin : vp_in (nI r) 12 := vp_in_nI (by omega) (by omega)
    refine pk_le nR r (fun z => absurd z (by omega)) (fun _ => br_t rfl ⟨hin, ?_⟩)
    rw [hcl]
    have hno222 : (∀ c2, ¬ tr_Ft (sy_fw d) T r c c2) → wY_trace_222 post J55 (wY_trace_101 post J55 (nI (d + 1)) (nI len) (st_b (sy_fw d)) (nI k) (nI fr) (nI to) (k' + 1)) (nI (d + 1)) (nI len) (st_b (sy_fw d)) (nI k) (nI fr) (nI to) 0 (nI r) 0 (nI nS) (nI nG) (nI nN) (nI nR) g_traceLen g_changed b_used b_ruleP b_ruleG b_ruleQ b_ruleU b_edge b_fin b_solved b_weight Rc St H K b_traceRules := by
      intro hno
      refine br_t rfl (nm_r (nI_1 r) (ih (r + 1) (by omega) ?_ St H K Rc hkeep))
      by_cases h : r = rs
      · exfalso
        subst h
        exact hno c' hnx.1
      · omega
    cases hT : T r with
    | none =>
      have hno : ∀ c2, ¬ tr_Ft (sy_fw d) T r c c2 := by
        intro c2 hf
        match d, hf with
        | 0, hf =>
          obtain ⟨g, u, v, hT', _⟩ := hf
          rw [hT] at hT'
          exact nomatch hT'
        | _ + 1, hf =>
          obtain ⟨g, u, v, hT', _⟩ := hf
          rw [hT] at hT'
          exact nomatch hT'
      rw [(hru r (by omega)).1 hT]
      refine br_t rfl ⟨hin, ?_⟩
      rw [hcl, (hru r (by omega)).1 hT]
      exact br_t rfl (hno222 hno)
    | some t =>
      obtain ⟨p, g, q, u⟩ := t
      have ho := ok.1 _ _ _ _ _ hT
      have hx := (hru r (by omega)).2 _ _ _ _ hT
      rw [hx.1]
      refine br_f (by decide) ?_
      have hy222 : ∀ (c2 : tr_C) (St' H' K' : Nat → Int32), tr_Ft (sy_fw d) T r c c2 → yt_Row St' H' K' to c2 → yt_Kr to b_rowState b_rowHeight b_rowStack St' H' K' → wY_trace_222 post J55 (wY_trace_101 post J55 (nI (d + 1)) (nI len) (st_b (sy_fw d)) (nI k) (nI fr) (nI to) (k' + 1)) (nI (d + 1)) (nI len) (st_b (sy_fw d)) (nI k) (nI fr) (nI to) 0 (nI r) 1 (nI nS) (nI nG) (nI nN) (nI nR) g_traceLen g_changed b_used b_ruleP b_ruleG b_ruleQ b_ruleU b_edge b_fin b_solved b_weight Rc St' H' K' b_traceRules := by
        intro c2 St' H' K' hft hrow2 hkeep2
        have hok2 := tr_Ft_ok ok hft hc
        have hp2 : c2.1 < nS := hok2.1.1
        have hRp := yq_Rp (d := d) (p := c2.1) (w := c2.2) ok hok2.1 hF
        have hle : ms_Y W c2.1 c2.2 ≤ 1000 := by have := hRp.1; omega
        have hls := wc_Ls_iff (k := len - 1 - k) (by omega) (by omega) hRp
        refine br_f (by decide) ?_
        refine yl_len hd (by omega) (by omega) (by omega) (fun a ha => by have := hok2.1.2 a ha; omega) hW (fun c => (hF c).1) hrow2 ?_
        intro Rc2
        have ek : (nI len - 1) - nI k = nI (len - 1 - k) := by
          show nI len - nI 1 - nI k = _
          rw [pk_sub (by omega), pk_sub (by omega)]
        rw [ek]
        refine pk_eq (ms_Y W c2.1 c2.2) (len - 1 - k) (fun e => ?_) (fun e => nm_r (nI_1 r) (ih (r + 1) (by omega) ?_ St' H' K' Rc2 hkeep2))
        · have hls2 := hls.mp e
          have er : r = rs := by
            by_cases h : r = rs
            · exact h
            · exact absurd hls2 (hnx.2.2 r c2 (by omega) hft)
          subst er
          have ec := tr_Ft_fn hft hnx.1
          subst ec
          have hfin : wY_trace_101 post J55 (nI (d + 1)) (nI len) (st_b (sy_fw d)) (nI k) (nI fr) (nI to) (k' + 1) 1 (nI (r + 1)) (nI nS) (nI nG) (nI nN) (nI nR) g_traceLen g_changed b_used b_ruleP b_ruleG b_ruleQ b_ruleU b_edge b_fin b_solved b_weight Rc2 St' H' K' (upd b_traceRules (yt_ti d fr to) (nI r)) :=
            pk_le nR (r + 1) (fun _ => nm_r (nI_1 k) (hJ St' H' K' Rc2 hrow2 hkeep2)) (fun _ => br_f (by decide) (nm_r (nI_1 k) (hJ St' H' K' Rc2 hrow2 hkeep2)))
          match d, hti, hfin with
          | 0, hti, hfin =>
            have hf20 : fr < 20 := hti
            refine br_f (by decide) ⟨vp_in_nI (by omega) (by omega), ?_⟩
            rw [nI_clamp (by omega)]
            exact nm_e (nm_r (nI_1 r) hfin)
          | _ + 1, hti, hfin =>
            have hf20 : to < 20 := hti
            refine br_t rfl ⟨vp_in_nI (by omega) (by omega), ?_⟩
            rw [nI_clamp (by omega)]
            exact nm_e (nm_r (nI_1 r) hfin)
        · by_cases h : r = rs
          · exfalso
            subst h
            have ec := tr_Ft_fn hft hnx.1
            subst ec
            exact e (hls.mpr hnx.2.1)
          · omega
      have hrow' := hkeep fr c hne (by omega) hrow
      have hs9 : ∀ a, a ∈ c.2 → a < 10 := fun a ha => by have := hc.2 a ha; omega
      match d, hno222, hy222 with
      | 0, hno222, hy222 =>
        refine br_f (by decide) ⟨hin, hin, hin, hin, ?_⟩
        rw [hx.2.1, hx.2.2.1, hx.2.2.2.1, hx.2.2.2.2]
        refine yt_rw (i := fr) (j := to) (c := c) (u1 := [g]) (u2 := u) (by omega) (by omega) hne (by omega) hrow' (by omega) (by omega) hG (sy_wd1 ho.2.2.1 ho.2.2.2.1) ho.2.2.2.2.2 hs9 ?_ ?_
        · intro v St' H' K' e1 e2 hr' hk'
          refine ⟨hin, ?_⟩
          rw [hcl, hx.1]
          refine br_f (by decide) (br_f (by decide) ?_)
          exact hy222 (q, u ++ v) St' H' K' ⟨g, u, v, by rw [e1]; exact hT, e2, rfl⟩ hr' (yt_Kr_t hkeep hk')
        · intro hno
          refine ⟨hin, ?_⟩
          rw [hcl, hx.1]
          refine br_f (by decide) (br_f (by decide) (hno222 ?_))
          rintro c2 ⟨g', u', v, hT', hw, _⟩
          rw [hT] at hT'
          injection hT' with e
          injection e with e1 e
          injection e with e2 _
          refine hno v e1.symm ?_
          rw [hw, ← e2]
          rfl
      | _ + 1, hno222, hy222 =>
        refine br_t rfl ⟨hin, ?_⟩
        rw [hcl, hx.1]
        refine br_f (by decide) (br_t rfl ⟨hin, hin, hin, hin, ?_⟩)
        rw [hx.2.1, hx.2.2.1, hx.2.2.2.1, hx.2.2.2.2]
        refine yt_rw (i := fr) (j := to) (c := c) (u1 := u) (u2 := [g]) (by omega) (by omega) hne (by omega) hrow' (by omega) (by omega) hG ho.2.2.2.2.2 (sy_wd1 ho.2.2.1 ho.2.2.2.1) hs9 ?_ ?_
        · intro v St' H' K' e1 e2 hr' hk'
          exact hy222 (p, g :: v) St' H' K' ⟨g, u, v, by rw [e1]; exact hT, e2, rfl⟩ hr' (yt_Kr_t hkeep hk')
        · intro hno
          refine hno222 ?_
          rintro c2 ⟨g', u', v, hT', hw, _⟩
          rw [hT] at hT'
          injection hT' with e
          injection e with _ e
          injection e with _ e
          injection e with e1 e2
          refine hno v e1.symm ?_
          rw [hw, ← e2]
theorem yt_55f {post : Int32 → SY → Prop} {len : Nat} {C : Nat → tr_C} {R : Nat → Nat} {W : sa_C → Nat} (ok : sy_ok nS nG nN nR T E F) (hru : yr_Ru T b_used b_ruleP b_ruleG b_ruleQ b_ruleU) (hW : wa_R 21 0 b_weight W) (hF : sa_Fx 1000 (sy_YI 0 nG T E F) W) (hlen : len ≤ 20) (hC : ∀ i, i ≤ len → tr_ok nS nG (C i) ∧ (C i).2.length ≤ 12 + i) (hnx : ∀ i, i < len → tr_Nx true T E F (len - 1 - i) (C i) (R i) (C (i + 1))) (c0 : tr_C) (hc0 : c0.2.length ≤ 12)
    (hp : ∀ St H K Rc TR : Nat → Int32, yt_Row St H K 21 c0 → (∀ j, j ≤ len → yt_Row St H K j (C j)) → (∀ j, j < len → TR j = nI (R j)) → post (nI len) (nI nS, nI nG, nI nN, nI nR, g_traceLen, g_changed, b_used, b_ruleP, b_ruleG, b_ruleQ, b_ruleU, b_edge, b_fin, b_solved, b_weight, Rc, St, H, K, TR)) : ∀ k i, i + k = len → ∀ St H K Rc TR : Nat → Int32, yt_Row St H K 21 c0 → (∀ j, j ≤ i → yt_Row St H K j (C j)) → (∀ j, j < i → TR j = nI (R j)) → wY_trace_55 post 1 (nI len) 1 (k + 1) (nI i) (nI nS) (nI nG) (nI nN) (nI nR) g_traceLen g_changed b_used b_ruleP b_ruleG b_ruleQ b_ruleU b_edge b_fin b_solved b_weight Rc St H K TR := by
  intro k
  induction k with
  | zero =>
    intro i hi St H K Rc TR h0 h1 h2
    have e : i = len := by omega
    subst e
    exact pk_le i i (fun _ => hp St H K Rc TR h0 h1 h2) (fun z => absurd z (by omega))
  | succ k ih =>
    intro i hi St H K Rc TR h0 h1 h2
    have hci := hC i (by omega)
    refine pk_le len i (fun z => absurd z (by omega)) (fun _ => br_f (by decide) (br_f (by decide) (nm_r (nI_1 i) ⟨nR + 1, ?_⟩)))
    refine yt_101 (d := 0) (fr := i) (to := i + 1) (c := C i) (c' := C (i + 1)) ok hru (by omega) hW hF hlen (by omega) (by omega) (by omega) (by show i < 20; omega) (by omega) hci.1 (by omega) (h1 i (Nat.le_refl _)) (hnx i (by omega)) ?_ nR 0 (by omega) (by omega) St H K Rc (fun i c _ _ hr => hr)
    intro St' H' K' Rc' hr hkeep
    refine ih (i + 1) (by omega) St' H' K' Rc' _ (hkeep 21 c0 (by omega) (by omega) h0) ?_ ?_
    · intro j hj
      by_cases e : j = i + 1
      · subst e; exact hr
      · exact hkeep j (C j) e (by have := hC j (by omega); omega) (h1 j (by omega))
    · intro j hj
      by_cases e : j = i
      · subst e; exact pk_us
      · show upd TR i (nI (R i)) j = nI (R j)
        rw [pk_un e]; exact h2 j (by omega)
theorem yt_55b {post : Int32 → SY → Prop} {len : Nat} {C : Nat → tr_C} {R : Nat → Nat} {W : sa_C → Nat} (ok : sy_ok nS nG nN nR T E F) (hru : yr_Ru T b_used b_ruleP b_ruleG b_ruleQ b_ruleU) (hW : wa_R 21 1 b_weight W) (hF : sa_Fx 1000 (sy_YI 1 nG T E F) W) (hlen : len ≤ 20) (hC : ∀ i, i ≤ len → tr_ok nS nG (C i) ∧ (C i).2.length ≤ 12 + i) (hnx : ∀ i, i < len → tr_Nx false T E F (len - 1 - i) (C i) (R i) (C (i + 1))) (c0 : tr_C) (hc0 : c0.2.length ≤ 12)
    (hp : ∀ St H K Rc TR : Nat → Int32, yt_Row St H K 21 c0 → (∀ j, j ≤ len → yt_Row St H K j (C (len - j))) → (∀ j, j < len → TR j = nI (R (len - 1 - j))) → post (nI len) (nI nS, nI nG, nI nN, nI nR, g_traceLen, g_changed, b_used, b_ruleP, b_ruleG, b_ruleQ, b_ruleU, b_edge, b_fin, b_solved, b_weight, Rc, St, H, K, TR)) : ∀ k i, i + k = len → ∀ St H K Rc TR : Nat → Int32, yt_Row St H K 21 c0 → (∀ j, len - i ≤ j → j ≤ len → yt_Row St H K j (C (len - j))) → (∀ j, len - i ≤ j → j < len → TR j = nI (R (len - 1 - j))) → wY_trace_55 post 2 (nI len) 0 (k + 1) (nI i) (nI nS) (nI nG) (nI nN) (nI nR) g_traceLen g_changed b_used b_ruleP b_ruleG b_ruleQ b_ruleU b_edge b_fin b_solved b_weight Rc St H K TR := by
  intro k
  induction k with
  | zero =>
    intro i hi St H K Rc TR h0 h1 h2
    have e : i = len := by omega
    subst e
    exact pk_le i i (fun _ => hp St H K Rc TR h0 (fun j hj => h1 j (by omega) hj) (fun j hj => h2 j (by omega) hj)) (fun z => absurd z (by omega))
  | succ k ih =>
    intro i hi St H K Rc TR h0 h1 h2
    have hci := hC i (by omega)
    have e1 : nI len - nI i = nI (len - i) := pk_sub (by omega)
    have e2 : nI (len - i) - 1 = nI (len - i - 1) := by
      show nI (len - i) - nI 1 = _
      exact pk_sub (by omega)
    have hrow : yt_Row St H K (len - i) (C i) := by
      have := h1 (len - i) (Nat.le_refl _) (by omega)
      rw [show len - (len - i) = i by omega] at this
      exact this
    refine pk_le len i (fun z => absurd z (by omega)) (fun _ => br_t rfl ?_)
    rw [e1]
    refine br_t rfl (nm_r (e' := nI (len - i - 1)) (by rw [e1, e2]) ⟨nR + 1, ?_⟩)
    refine yt_101 (d := 1) (fr := len - i) (to := len - i - 1) (c := C i) (c' := C (i + 1)) ok hru (by omega) hW hF hlen (by omega) (by omega) (by omega) (by show len - i - 1 < 20; omega) (by omega) hci.1 (by omega) hrow (hnx i (by omega)) ?_ nR 0 (by omega) (by omega) St H K Rc (fun i c _ _ hr => hr)
    intro St' H' K' Rc' hr hkeep
    refine ih (i + 1) (by omega) St' H' K' Rc' _ (hkeep 21 c0 (by omega) (by omega) h0) ?_ ?_
    · intro j hj hj2
      by_cases e : j = len - i - 1
      · subst e
        rw [show len - (len - i - 1) = i + 1 by omega]
        exact hr
      · exact hkeep j (C (len - j)) e (by have := hC (len - j) (by omega); omega) (h1 j (by omega) hj2)
    · intro j hj hj2
      by_cases e : j = len - i - 1
      · subst e
        show upd TR (len - i - 1) (nI (R i)) (len - i - 1) = _
        rw [pk_us, show len - 1 - (len - i - 1) = i by omega]
      · show upd TR (len - i - 1) (nI (R i)) j = _
        rw [pk_un e]; exact h2 j (by omega) hj2
theorem yt_49 {post : Int32 → SY → Prop} {x1 x2 x3 : Int32} {at_ : Nat} {c : tr_C} (ha : at_ ≤ 20) (hl : c.2.length ≤ 12) (hr : yt_Row b_rowState b_rowHeight b_rowStack 21 c) (h : ∀ St H K : Nat → Int32, yt_Row St H K 21 c → yt_Row St H K at_ c → ∃ n, wY_trace_55 post x1 x2 x3 n 0 (nI nS) (nI nG) (nI nN) (nI nR) g_traceLen g_changed b_used b_ruleP b_ruleG b_ruleQ b_ruleU b_edge b_fin b_solved b_weight b_reach St H K b_traceRules) : wY_trace_49 post x1 x2 x3 (nI at_) 21 (nI nS) (nI nG) (nI nN) (nI nR) g_traceLen g_changed b_used b_ruleP b_ruleG b_ruleQ b_ruleU b_edge b_fin b_solved b_weight b_reach b_rowState b_rowHeight b_rowStack b_traceRules := by
  unfold wY_trace_49
  refine yt_cp (i := 21) (j := at_) (by omega) (by omega) (by omega) ?_
  intro K h1 h2
  refine h _ _ K (yt_Kr_i h2 21 c (by omega) (by omega) hr) ?_
  refine ⟨by rw [pk_us]; exact hr.1, by rw [pk_us]; exact hr.2.1, st_stk_cg (fun z hz => h1 z (by omega)) hr.2.2⟩
end
end
section
/-! X: ranges and the small methods -/
section
variable {nS nG nN nR : Nat} {f_unreached f_hereState f_hereHeight f_toSolved f_fromSolved f_toCount f_fromCount f_traceSize f_workState f_workHeight : Int32} {a_ruleUsed a_ruleFrom a_ruleSymbol a_ruleTo a_ruleTop a_ruleBelow a_edges a_finals a_hereStack a_weights a_traceRules a_traceStates a_traceHeights a_traceStacks a_workStack a_vector a_nextVector a_marked a_nextMarked : Nat → Int32}
variable {T : sy_T} {E : sy_E} {F : sy_F}
theorem xb_st_t {post : Int32 → Prop} {q : Nat} (hS : nS ≤ 4) (hq : q < nS) (h : post 1) : wpX_isState post (f_unreached, nI nS, nI nG, nI nN, nI nR, f_hereState, f_hereHeight, f_toSolved, f_fromSolved, f_toCount, f_fromCount, f_traceSize, f_workState, f_workHeight, a_ruleUsed, a_ruleFrom, a_ruleSymbol, a_ruleTo, a_ruleTop, a_ruleBelow, a_edges, a_finals, a_hereStack, a_weights, a_traceRules, a_traceStates, a_traceHeights, a_traceStacks, a_workStack, a_vector, a_nextVector, a_marked, a_nextMarked) (nI q) :=
  br_f (nI_pos (by omega)) (pk_le nS q (fun z => absurd z (by omega)) (fun _ => h))
theorem xb_st_f {post : Int32 → Prop} {x : Int32} (hS : nS ≤ 4) (hx : ∀ n, n < nS → ¬ x = nI n) (h : post 0) : wpX_isState post (f_unreached, nI nS, nI nG, nI nN, nI nR, f_hereState, f_hereHeight, f_toSolved, f_fromSolved, f_toCount, f_fromCount, f_traceSize, f_workState, f_workHeight, a_ruleUsed, a_ruleFrom, a_ruleSymbol, a_ruleTo, a_ruleTop, a_ruleBelow, a_edges, a_finals, a_hereStack, a_weights, a_traceRules, a_traceStates, a_traceHeights, a_traceStacks, a_workStack, a_vector, a_nextVector, a_marked, a_nextMarked) x := by
  refine br_c (fun _ => h) (fun h2 => ?_)
  obtain ⟨j, hj, rfl⟩ := nI_of h2
  exact pk_le nS j (fun _ => h) (fun h3 => absurd rfl (hx j h3))
theorem xb_sy_t {post : Int32 → Prop} {g : Nat} (hG : nG ≤ 4) (hg : 1 ≤ g) (hg2 : g ≤ nG) (h : post 1) : wpX_isSymbol post (f_unreached, nI nS, nI nG, nI nN, nI nR, f_hereState, f_hereHeight, f_toSolved, f_fromSolved, f_toCount, f_fromCount, f_traceSize, f_workState, f_workHeight, a_ruleUsed, a_ruleFrom, a_ruleSymbol, a_ruleTo, a_ruleTop, a_ruleBelow, a_edges, a_finals, a_hereStack, a_weights, a_traceRules, a_traceStates, a_traceHeights, a_traceStacks, a_workStack, a_vector, a_nextVector, a_marked, a_nextMarked) (nI g) :=
  br_f (nI_nlt (b := 1) hg (by omega)) (pk_lt nG g (fun z => absurd z (by omega)) (fun _ => h))
theorem xb_sy_f {post : Int32 → Prop} {x : Int32} (hG : nG ≤ 4) (hx : ∀ n, 1 ≤ n → n ≤ nG → ¬ x = nI n) (h : post 0) : wpX_isSymbol post (f_unreached, nI nS, nI nG, nI nN, nI nR, f_hereState, f_hereHeight, f_toSolved, f_fromSolved, f_toCount, f_fromCount, f_traceSize, f_workState, f_workHeight, a_ruleUsed, a_ruleFrom, a_ruleSymbol, a_ruleTo, a_ruleTop, a_ruleBelow, a_edges, a_finals, a_hereStack, a_weights, a_traceRules, a_traceStates, a_traceHeights, a_traceStacks, a_workStack, a_vector, a_nextVector, a_marked, a_nextMarked) x := by
  refine br_c (fun _ => h) (fun h2 => ?_)
  obtain ⟨j, hj1, hj, rfl⟩ := nI_ge1 h2
  exact pk_lt nG j (fun _ => h) (fun h3 => absurd rfl (hx j hj1 h3))
theorem st_w10 {a b : Nat} (ha : a ≤ 4) (hb : b ≤ 4) : nI (10 * a + b) / 10 = nI a ∧ nI (10 * a + b) - nI (10 * a + b) / 10 * 10 = nI b := by
  constructor
  · show nI (10 * a + b) / nI 10 = _
    rw [pk_div (by omega) (by omega) (by omega)]
    exact congrArg nI (by omega)
  · show nI (10 * a + b) - nI (10 * a + b) / nI 10 * nI 10 = _
    rw [pk_rem (by omega) (by omega) (by omega)]
    exact congrArg nI (by omega)
theorem st_w10n {x : Int32} {a b : Nat} (h : x / 10 = nI a) (h2 : x - x / 10 * 10 = nI b) : x = nI (10 * a + b) := by
  rw [h] at h2
  have h3 : x = nI b + nI a * 10 := by rw [← h2, Int32.sub_add_cancel]
  rw [h3]
  show nI b + nI a * nI 10 = _
  rw [pk_mul, nI_add]
  exact congrArg nI (by omega)
theorem xb_wd_t {post : Int32 → Prop} {u : List Nat} (hG : nG ≤ 4) (hu : sy_wd nG u) (h : post 1) : wpX_isWord post (f_unreached, nI nS, nI nG, nI nN, nI nR, f_hereState, f_hereHeight, f_toSolved, f_fromSolved, f_toCount, f_fromCount, f_traceSize, f_workState, f_workHeight, a_ruleUsed, a_ruleFrom, a_ruleSymbol, a_ruleTo, a_ruleTop, a_ruleBelow, a_edges, a_finals, a_hereStack, a_weights, a_traceRules, a_traceStates, a_traceHeights, a_traceStacks, a_workStack, a_vector, a_nextVector, a_marked, a_nextMarked) (nI (st_cd u)) := by
  rcases hu with e | ⟨a, e, ha⟩ | ⟨a, b, e, ha, ha2, hb, hb2⟩
  · subst e
    exact br_t rfl h
  · subst e
    refine br_f (nI_ne0 (show 0 < a by omega) (show a < 2 ^ 31 by omega)) ?_
    exact xb_sy_t hG ha.1 ha.2 (br_f (by decide) h)
  · subst e
    have hw := st_w10 (a := a) (b := b) (by omega) (by omega)
    refine br_f (nI_ne0 (show 0 < 10 * a + b by omega) (show 10 * a + b < 2 ^ 31 by omega)) ?_
    refine xb_sy_f hG (fun n hn hn2 e => ?_) (br_t rfl ⟨by decide, nm_r (e' := nI a) hw.1 ⟨by decide, nm_r (e' := nI b) hw.2 ?_⟩⟩)
    · have e' : nI (10 * a + b) = nI n := e
      rw [nI_eq (by omega) (by omega)] at e'
      omega
    · exact xb_sy_t hG ha ha2 (br_f (by decide) (xb_sy_t hG hb hb2 (br_f (by decide) h)))
theorem xb_wd_f {post : Int32 → Prop} {x : Int32} (hG : nG ≤ 4) (hx : ∀ u, sy_wd nG u → ¬ x = nI (st_cd u)) (h : post 0) : wpX_isWord post (f_unreached, nI nS, nI nG, nI nN, nI nR, f_hereState, f_hereHeight, f_toSolved, f_fromSolved, f_toCount, f_fromCount, f_traceSize, f_workState, f_workHeight, a_ruleUsed, a_ruleFrom, a_ruleSymbol, a_ruleTo, a_ruleTop, a_ruleBelow, a_edges, a_finals, a_hereStack, a_weights, a_traceRules, a_traceStates, a_traceHeights, a_traceStacks, a_workStack, a_vector, a_nextVector, a_marked, a_nextMarked) x := by
  refine br_f (hx [] (Or.inl rfl)) ?_
  refine xb_sy_f hG (fun n hn hn2 => hx [n] (Or.inr (Or.inl ⟨n, rfl, hn, hn2⟩))) (br_t rfl ⟨by decide, nm_e ⟨by decide, nm_e ?_⟩⟩)
  by_cases ha : ∃ a, 1 ≤ a ∧ a ≤ nG ∧ x / 10 = nI a
  · obtain ⟨a, ha1, ha2, ea⟩ := ha
    by_cases hb : ∃ b, 1 ≤ b ∧ b ≤ nG ∧ x - x / 10 * 10 = nI b
    · obtain ⟨b, hb1, hb2, eb⟩ := hb
      exact absurd (st_w10n ea eb) (hx [a, b] (Or.inr (Or.inr ⟨a, b, rfl, ha1, ha2, hb1, hb2⟩)))
    · have hs : wpX_isSymbol (fun r_76 => ((r_76 = 0 → post 0) ∧ (¬ r_76 = 0 → post 1))) (f_unreached, nI nS, nI nG, nI nN, nI nR, f_hereState, f_hereHeight, f_toSolved, f_fromSolved, f_toCount, f_fromCount, f_traceSize, f_workState, f_workHeight, a_ruleUsed, a_ruleFrom, a_ruleSymbol, a_ruleTo, a_ruleTop, a_ruleBelow, a_edges, a_finals, a_hereStack, a_weights, a_traceRules, a_traceStates, a_traceHeights, a_traceStacks, a_workStack, a_vector, a_nextVector, a_marked, a_nextMarked) (x - x / 10 * 10) := xb_sy_f hG (fun n h1 h2 e => hb ⟨n, h1, h2, e⟩) (br_t rfl h)
      rw [ea] at hs ⊢
      exact xb_sy_t hG ha1 ha2 (br_f (by decide) hs)
  · exact xb_sy_f hG (fun n h1 h2 e => ha ⟨n, h1, h2, e⟩) (br_t rfl h)
theorem xb_ru_t {post : Int32 → Prop} {r : Nat} {c : Nat × Nat × Nat × List Nat} (ok : sy_ok nS nG nN nR T E F) (hru : xr_Ru T a_ruleUsed a_ruleFrom a_ruleSymbol a_ruleTo a_ruleTop a_ruleBelow) (hT : T r = some c) (h : post 1) : wpX_isRule post (f_unreached, nI nS, nI nG, nI nN, nI nR, f_hereState, f_hereHeight, f_toSolved, f_fromSolved, f_toCount, f_fromCount, f_traceSize, f_workState, f_workHeight, a_ruleUsed, a_ruleFrom, a_ruleSymbol, a_ruleTo, a_ruleTop, a_ruleBelow, a_edges, a_finals, a_hereStack, a_weights, a_traceRules, a_traceStates, a_traceHeights, a_traceStacks, a_workStack, a_vector, a_nextVector, a_marked, a_nextMarked) (nI r) := by
  have hR : nR ≤ 12 := ok.2.2.2.2.2.2.2.2.2.2
  obtain ⟨p, g, q, u⟩ := c
  have h1 := ok.1 _ _ _ _ _ hT
  refine br_f (nI_pos (by omega)) (pk_le nR r (fun z => absurd z (by omega)) (fun _ => ⟨vp_in_nI (by omega) (by omega), ?_⟩))
  rw [nI_clamp (by omega), ((hru r (by omega)).2 _ _ _ _ hT).1]
  exact br_f (by decide) h
theorem xb_ru_f {post : Int32 → Prop} {x : Int32} (ok : sy_ok nS nG nN nR T E F) (hru : xr_Ru T a_ruleUsed a_ruleFrom a_ruleSymbol a_ruleTo a_ruleTop a_ruleBelow) (hx : ∀ r c, T r = some c → ¬ x = nI r) (h : post 0) : wpX_isRule post (f_unreached, nI nS, nI nG, nI nN, nI nR, f_hereState, f_hereHeight, f_toSolved, f_fromSolved, f_toCount, f_fromCount, f_traceSize, f_workState, f_workHeight, a_ruleUsed, a_ruleFrom, a_ruleSymbol, a_ruleTo, a_ruleTop, a_ruleBelow, a_edges, a_finals, a_hereStack, a_weights, a_traceRules, a_traceStates, a_traceHeights, a_traceStacks, a_workStack, a_vector, a_nextVector, a_marked, a_nextMarked) x := by
  have hR : nR ≤ 12 := ok.2.2.2.2.2.2.2.2.2.2
  refine br_c (fun _ => h) (fun h2 => ?_)
  obtain ⟨j, hj, rfl⟩ := nI_of h2
  refine pk_le nR j (fun _ => h) (fun h3 => ⟨vp_in_nI (by omega) (by omega), ?_⟩)
  rw [nI_clamp (by omega)]
  cases hT : T j with
  | none =>
    rw [(hru j (by omega)).1 hT]
    exact br_t rfl h
  | some c => exact absurd rfl (hx j c hT)
theorem xb_ed_t {post : Int32 → Prop} {f g t : Nat} (ok : sy_ok nS nG nN nR T E F) (hf : f < nN) (hg : 1 ≤ g) (hg2 : g ≤ nG) (ht : nS ≤ t) (ht2 : t < nN) (h : post 1) : wpX_isEdge post (f_unreached, nI nS, nI nG, nI nN, nI nR, f_hereState, f_hereHeight, f_toSolved, f_fromSolved, f_toCount, f_fromCount, f_traceSize, f_workState, f_workHeight, a_ruleUsed, a_ruleFrom, a_ruleSymbol, a_ruleTo, a_ruleTop, a_ruleBelow, a_edges, a_finals, a_hereStack, a_weights, a_traceRules, a_traceStates, a_traceHeights, a_traceStacks, a_workStack, a_vector, a_nextVector, a_marked, a_nextMarked) (nI f) (nI g) (nI t) := by
  have hN : nN ≤ 8 := ok.2.2.2.2.2.2.2.2.1
  have hG : nG ≤ 4 := ok.2.2.2.2.2.2.1
  refine br_f (nI_pos (by omega)) (pk_le nN f (fun z => absurd z (by omega)) (fun _ => ?_))
  refine xb_sy_t hG hg hg2 (br_f (by decide) ?_)
  exact pk_lt t nS (fun z => absurd z (by omega)) (fun _ => pk_le nN t (fun z => absurd z (by omega)) (fun _ => h))
theorem xb_ed_f {post : Int32 → Prop} {x y z : Int32} (ok : sy_ok nS nG nN nR T E F) (hx : ∀ f g t, f < nN → 1 ≤ g → g ≤ nG → nS ≤ t → t < nN → x = nI f → y = nI g → ¬ z = nI t) (h : post 0) : wpX_isEdge post (f_unreached, nI nS, nI nG, nI nN, nI nR, f_hereState, f_hereHeight, f_toSolved, f_fromSolved, f_toCount, f_fromCount, f_traceSize, f_workState, f_workHeight, a_ruleUsed, a_ruleFrom, a_ruleSymbol, a_ruleTo, a_ruleTop, a_ruleBelow, a_edges, a_finals, a_hereStack, a_weights, a_traceRules, a_traceStates, a_traceHeights, a_traceStacks, a_workStack, a_vector, a_nextVector, a_marked, a_nextMarked) x y z := by
  have hN : nN ≤ 8 := ok.2.2.2.2.2.2.2.2.1
  have hG : nG ≤ 4 := ok.2.2.2.2.2.2.1
  have hS : nS ≤ 4 := ok.2.2.2.2.1
  refine br_c (fun _ => h) (fun h2 => ?_)
  obtain ⟨f, hf, rfl⟩ := nI_of h2
  refine pk_le nN f (fun _ => h) (fun h3 => ?_)
  by_cases hy : ∃ g, 1 ≤ g ∧ g ≤ nG ∧ y = nI g
  · obtain ⟨g, hg, hg2, rfl⟩ := hy
    refine xb_sy_t hG hg hg2 (br_f (by decide) ?_)
    refine br_c (fun _ => h) (fun h4 => ?_)
    by_cases hz : z < 0
    · exfalso
      apply h4
      rw [Int32.lt_iff_toInt_lt] at hz ⊢
      rw [nI_toInt (by omega)]
      have e0 : (0 : Int32).toInt = 0 := by decide
      omega
    · obtain ⟨t, ht, rfl⟩ := nI_of hz
      rw [nI_ltI ht (by omega)] at h4
      exact pk_le nN t (fun _ => h) (fun h5 => absurd rfl (hx f g t h3 hg hg2 (by omega) h5 rfl rfl))
  · exact xb_sy_f hG (fun n h1 h2 e => hy ⟨n, h1, h2, e⟩) (br_t rfl h)
/-- addRule: the loop that looks for the least free slot -/
theorem xb_47 {post : Int32 → SX → Prop} {p g q : Nat} {x4 : Int32} (ok : sy_ok nS nG nN nR T E F) (hru : xr_Ru T a_ruleUsed a_ruleFrom a_ruleSymbol a_ruleTo a_ruleTop a_ruleBelow) {x5 : Int32} : ∀ i, i ≤ nR → (∀ r, r < i → T r ≠ none) → wX_addRule_47 post (nI p) (nI g) (nI q) x4 f_unreached (nI nS) (nI nG) (nI nN) (nI nR) f_hereState f_hereHeight f_toSolved f_fromSolved f_toCount f_fromCount f_traceSize f_workState f_workHeight a_ruleUsed a_ruleFrom a_ruleSymbol a_ruleTo a_ruleTop a_ruleBelow a_edges a_finals a_hereStack a_weights a_traceRules a_traceStates a_traceHeights a_traceStacks a_workStack a_vector a_nextVector a_marked a_nextMarked 1 x5 (-1) → wX_addRule_47 post (nI p) (nI g) (nI q) x4 f_unreached (nI nS) (nI nG) (nI nN) (nI nR) f_hereState f_hereHeight f_toSolved f_fromSolved f_toCount f_fromCount f_traceSize f_workState f_workHeight a_ruleUsed a_ruleFrom a_ruleSymbol a_ruleTo a_ruleTop a_ruleBelow a_edges a_finals a_hereStack a_weights a_traceRules a_traceStates a_traceHeights a_traceStacks a_workStack a_vector a_nextVector a_marked a_nextMarked (i + 1) x5 (nI i + (-1)) := by
  have hR : nR ≤ 12 := ok.2.2.2.2.2.2.2.2.2.2
  intro i
  induction i with
  | zero => intro _ _ h; exact h
  | succ i ih =>
    intro hi hu h
    rw [pk_m1]
    refine br_f (nI_pos (by omega)) ⟨vp_in_nI (by omega) (by omega), ?_⟩
    rw [nI_clamp (by omega)]
    cases hT : T i with
    | none => exact absurd hT (hu i (by omega))
    | some c =>
      obtain ⟨p', g', q', u'⟩ := c
      rw [((hru i (by omega)).2 _ _ _ _ hT).1]
      exact br_f (by decide) (nm_e (ih (by omega) (fun r hr => hu r (by omega)) h))
theorem xb_47s {post : Int32 → SX → Prop} {p g q s : Nat} {x4 : Int32} (ok : sy_ok nS nG nN nR T E F) (hru : xr_Ru T a_ruleUsed a_ruleFrom a_ruleSymbol a_ruleTo a_ruleTop a_ruleBelow) (hs : T s = none) (hu : ∀ r, r < s → T r ≠ none) (h : wX_addRule_47 post (nI p) (nI g) (nI q) x4 f_unreached (nI nS) (nI nG) (nI nN) (nI nR) f_hereState f_hereHeight f_toSolved f_fromSolved f_toCount f_fromCount f_traceSize f_workState f_workHeight a_ruleUsed a_ruleFrom a_ruleSymbol a_ruleTo a_ruleTop a_ruleBelow a_edges a_finals a_hereStack a_weights a_traceRules a_traceStates a_traceHeights a_traceStacks a_workStack a_vector a_nextVector a_marked a_nextMarked 1 (nI s) (-1)) : ∀ i, i ≤ nR → s < i → ∀ x5, wX_addRule_47 post (nI p) (nI g) (nI q) x4 f_unreached (nI nS) (nI nG) (nI nN) (nI nR) f_hereState f_hereHeight f_toSolved f_fromSolved f_toCount f_fromCount f_traceSize f_workState f_workHeight a_ruleUsed a_ruleFrom a_ruleSymbol a_ruleTo a_ruleTop a_ruleBelow a_edges a_finals a_hereStack a_weights a_traceRules a_traceStates a_traceHeights a_traceStacks a_workStack a_vector a_nextVector a_marked a_nextMarked (i + 1) x5 (nI i + (-1)) := by
  have hR : nR ≤ 12 := ok.2.2.2.2.2.2.2.2.2.2
  intro i
  induction i with
  | zero => intro _ z; omega
  | succ i ih =>
    intro hi hsi x5
    rw [pk_m1]
    refine br_f (nI_pos (by omega)) ⟨vp_in_nI (by omega) (by omega), ?_⟩
    rw [nI_clamp (by omega)]
    by_cases e : i = s
    · subst e
      rw [(hru i (by omega)).1 hs]
      exact br_t rfl (nm_e (xb_47 ok hru i (by omega) hu h))
    · exact br_c (fun _ => nm_e (ih (by omega) (by omega) _)) (fun _ => nm_e (ih (by omega) (by omega) _))
theorem xb_ar_f {post : Int32 → SX → Prop} {v1 v2 v3 v4 : Int32} (ok : sy_ok nS nG nN nR T E F) (hx : ∀ p g q u, p < nS → 1 ≤ g → g ≤ nG → q < nS → sy_wd nG u → v1 = nI p → v2 = nI g → v3 = nI q → ¬ v4 = nI (st_cd u)) (h : post (-3) (f_unreached, nI nS, nI nG, nI nN, nI nR, f_hereState, f_hereHeight, f_toSolved, f_fromSolved, f_toCount, f_fromCount, f_traceSize, f_workState, f_workHeight, a_ruleUsed, a_ruleFrom, a_ruleSymbol, a_ruleTo, a_ruleTop, a_ruleBelow, a_edges, a_finals, a_hereStack, a_weights, a_traceRules, a_traceStates, a_traceHeights, a_traceStacks, a_workStack, a_vector, a_nextVector, a_marked, a_nextMarked)) : wpX_addRule post (f_unreached, nI nS, nI nG, nI nN, nI nR, f_hereState, f_hereHeight, f_toSolved, f_fromSolved, f_toCount, f_fromCount, f_traceSize, f_workState, f_workHeight, a_ruleUsed, a_ruleFrom, a_ruleSymbol, a_ruleTo, a_ruleTop, a_ruleBelow, a_edges, a_finals, a_hereStack, a_weights, a_traceRules, a_traceStates, a_traceHeights, a_traceStacks, a_workStack, a_vector, a_nextVector, a_marked, a_nextMarked) v1 v2 v3 v4 := by
  have hG : nG ≤ 4 := ok.2.2.2.2.2.2.1
  have hS : nS ≤ 4 := ok.2.2.2.2.1
  unfold wpX_addRule
  by_cases h1 : ∃ p, p < nS ∧ v1 = nI p
  · obtain ⟨p, hp, rfl⟩ := h1
    refine xb_st_t hS hp (br_f (by decide) ?_)
    by_cases h2 : ∃ g, 1 ≤ g ∧ g ≤ nG ∧ v2 = nI g
    · obtain ⟨g, hg, hg2, rfl⟩ := h2
      refine xb_sy_t hG hg hg2 (br_f (by decide) ?_)
      by_cases h3 : ∃ q, q < nS ∧ v3 = nI q
      · obtain ⟨q, hq, rfl⟩ := h3
        refine xb_st_t hS hq (br_f (by decide) ?_)
        exact xb_wd_f hG (fun u hu => hx p g q u hp hg hg2 hq hu rfl rfl rfl) (br_t rfl h)
      · exact xb_st_f hS (fun n hn e => h3 ⟨n, hn, e⟩) (br_t rfl h)
    · exact xb_sy_f hG (fun n hn hn2 e => h2 ⟨n, hn, hn2, e⟩) (br_t rfl h)
  · exact xb_st_f hS (fun n hn e => h1 ⟨n, hn, e⟩) (br_t rfl h)
theorem xb_ar_n {post : Int32 → SX → Prop} {p g q : Nat} {u : List Nat} (ok : sy_ok nS nG nN nR T E F) (hru : xr_Ru T a_ruleUsed a_ruleFrom a_ruleSymbol a_ruleTo a_ruleTop a_ruleBelow) (hp : p < nS) (hg : 1 ≤ g) (hg2 : g ≤ nG) (hq : q < nS) (hu : sy_wd nG u) (hall : ∀ r, r < nR → T r ≠ none) (h : post (-4) (f_unreached, nI nS, nI nG, nI nN, nI nR, f_hereState, f_hereHeight, f_toSolved, f_fromSolved, f_toCount, f_fromCount, f_traceSize, f_workState, f_workHeight, a_ruleUsed, a_ruleFrom, a_ruleSymbol, a_ruleTo, a_ruleTop, a_ruleBelow, a_edges, a_finals, a_hereStack, a_weights, a_traceRules, a_traceStates, a_traceHeights, a_traceStacks, a_workStack, a_vector, a_nextVector, a_marked, a_nextMarked)) : wpX_addRule post (f_unreached, nI nS, nI nG, nI nN, nI nR, f_hereState, f_hereHeight, f_toSolved, f_fromSolved, f_toCount, f_fromCount, f_traceSize, f_workState, f_workHeight, a_ruleUsed, a_ruleFrom, a_ruleSymbol, a_ruleTo, a_ruleTop, a_ruleBelow, a_edges, a_finals, a_hereStack, a_weights, a_traceRules, a_traceStates, a_traceHeights, a_traceStacks, a_workStack, a_vector, a_nextVector, a_marked, a_nextMarked) (nI p) (nI g) (nI q) (nI (st_cd u)) := by
  have hG : nG ≤ 4 := ok.2.2.2.2.2.2.1
  have hS : nS ≤ 4 := ok.2.2.2.2.1
  unfold wpX_addRule
  refine xb_st_t hS hp (br_f (by decide) (xb_sy_t hG hg hg2 (br_f (by decide) (xb_st_t hS hq (br_f (by decide) (xb_wd_t hG hu (br_f (by decide) (nm_r (nI_h1 nR).symm ⟨nR + 1, ?_⟩))))))))
  refine xb_47 ok hru nR (Nat.le_refl _) hall ?_
  exact br_t (by decide) (br_f (by decide) h)
def sy_add (T : sy_T) (s : Nat) (c : Option (Nat × Nat × Nat × List Nat)) : sy_T := fun r => if r = s then c else T r
theorem sy_add_s {s : Nat} {c : Option (Nat × Nat × Nat × List Nat)} : sy_add T s c s = c := if_pos rfl
theorem sy_add_n {s r : Nat} {c : Option (Nat × Nat × Nat × List Nat)} (h : r ≠ s) : sy_add T s c r = T r := if_neg h
theorem xb_ar_t {post : Int32 → SX → Prop} {p g q s : Nat} {u : List Nat} (ok : sy_ok nS nG nN nR T E F) (hru : xr_Ru T a_ruleUsed a_ruleFrom a_ruleSymbol a_ruleTo a_ruleTop a_ruleBelow) (hp : p < nS) (hg : 1 ≤ g) (hg2 : g ≤ nG) (hq : q < nS) (hu : sy_wd nG u) (hs : T s = none) (hsR : s < nR) (hall : ∀ r, r < s → T r ≠ none) (h : ∀ us fr sy to tp bl : Nat → Int32, xr_Ru (sy_add T s (some (p, g, q, u))) us fr sy to tp bl → post (nI s) (f_unreached, nI nS, nI nG, nI nN, nI nR, f_hereState, f_hereHeight, 0, 0, f_toCount, f_fromCount, -1, f_workState, f_workHeight, us, fr, sy, to, tp, bl, a_edges, a_finals, a_hereStack, a_weights, a_traceRules, a_traceStates, a_traceHeights, a_traceStacks, a_workStack, a_vector, a_nextVector, a_marked, a_nextMarked)) : wpX_addRule post (f_unreached, nI nS, nI nG, nI nN, nI nR, f_hereState, f_hereHeight, f_toSolved, f_fromSolved, f_toCount, f_fromCount, f_traceSize, f_workState, f_workHeight, a_ruleUsed, a_ruleFrom, a_ruleSymbol, a_ruleTo, a_ruleTop, a_ruleBelow, a_edges, a_finals, a_hereStack, a_weights, a_traceRules, a_traceStates, a_traceHeights, a_traceStacks, a_workStack, a_vector, a_nextVector, a_marked, a_nextMarked) (nI p) (nI g) (nI q) (nI (st_cd u)) := by
  have hG : nG ≤ 4 := ok.2.2.2.2.2.2.1
  have hS : nS ≤ 4 := ok.2.2.2.2.1
  have hR : nR ≤ 12 := ok.2.2.2.2.2.2.2.2.2.2
  have hcl : (nI s).toNatClampNeg = s := nI_clamp (by omega)
  have hin : vp_in (nI s) 12 := vp_in_nI (by omega) (by omega)
  unfold wpX_addRule
  refine xb_st_t hS hp (br_f (by decide) (xb_sy_t hG hg hg2 (br_f (by decide) (xb_st_t hS hq (br_f (by decide) (xb_wd_t hG hu (br_f (by decide) (nm_r (nI_h1 nR).symm ⟨nR + 1, ?_⟩))))))))
  refine xb_47s ok hru hs hall ?_ nR (Nat.le_refl _) hsR (-1)
  have hnew : ∀ x y : Int32, x = nI (st_tp u) → y = nI (st_bl u) → xr_Ru (sy_add T s (some (p, g, q, u))) (upd a_ruleUsed s 1) (upd a_ruleFrom s (nI p)) (upd a_ruleSymbol s (nI g)) (upd a_ruleTo s (nI q)) (upd a_ruleTop s x) (upd a_ruleBelow s y) := by
    intro x y hx hy r hr
    by_cases e : r = s
    · subst e
      rw [sy_add_s]
      refine ⟨(fun z => nomatch z), ?_⟩
      intro p' g' q' u' e
      injection e with e
      injection e with e1 e
      injection e with e2 e
      injection e with e3 e4
      subst e1 e2 e3 e4
      exact ⟨pk_us, pk_us, pk_us, pk_us, by rw [pk_us, hx], by rw [pk_us, hy]⟩
    · rw [sy_add_n e]
      refine ⟨fun z => by rw [pk_un e]; exact (hru r hr).1 z, ?_⟩
      intro p' g' q' u' hT
      have h1 := (hru r hr).2 _ _ _ _ hT
      exact ⟨by rw [pk_un e]; exact h1.1, by rw [pk_un e]; exact h1.2.1, by rw [pk_un e]; exact h1.2.2.1, by rw [pk_un e]; exact h1.2.2.2.1, by rw [pk_un e]; exact h1.2.2.2.2.1, by rw [pk_un e]; exact h1.2.2.2.2.2⟩
  refine br_t (by decide) (br_t (nI_pos' (by omega)) ?_)
  rw [hcl]
  refine ⟨hin, nm_e ⟨hin, nm_e ⟨hin, nm_e ⟨hin, nm_e ?_⟩⟩⟩⟩
  rcases hu with e | ⟨a, e, ha⟩ | ⟨a, b, e, ha, ha2, hb, hb2⟩
  · subst e
    exact br_t (show nI 0 ≤ 10 by decide) ⟨hin, nm_e ⟨hin, nm_e (h _ _ _ _ _ _ (hnew (nI 0) 0 rfl rfl))⟩⟩
  · subst e
    refine pk_le a 10 (fun _ => ⟨hin, nm_e ⟨hin, nm_e (h _ _ _ _ _ _ (hnew (nI a) 0 rfl rfl))⟩⟩) (fun z => absurd z (by omega))
  · subst e
    have hw := st_w10 (a := a) (b := b) (by omega) (by omega)
    refine pk_le (10 * a + b) 10 (fun z => absurd z (by omega)) (fun _ => ⟨by decide, hin, nm_e ⟨by decide, hin, nm_e ?_⟩⟩)
    exact h _ _ _ _ _ _ (hnew _ _ hw.1 hw.2)
theorem xb_rr_t {post : Int32 → SX → Prop} {r : Nat} {c : Nat × Nat × Nat × List Nat} (ok : sy_ok nS nG nN nR T E F) (hru : xr_Ru T a_ruleUsed a_ruleFrom a_ruleSymbol a_ruleTo a_ruleTop a_ruleBelow) (hT : T r = some c) (h : ∀ us : Nat → Int32, xr_Ru (sy_add T r none) us a_ruleFrom a_ruleSymbol a_ruleTo a_ruleTop a_ruleBelow → post 1 (f_unreached, nI nS, nI nG, nI nN, nI nR, f_hereState, f_hereHeight, 0, 0, f_toCount, f_fromCount, -1, f_workState, f_workHeight, us, a_ruleFrom, a_ruleSymbol, a_ruleTo, a_ruleTop, a_ruleBelow, a_edges, a_finals, a_hereStack, a_weights, a_traceRules, a_traceStates, a_traceHeights, a_traceStacks, a_workStack, a_vector, a_nextVector, a_marked, a_nextMarked)) : wpX_removeRule post (f_unreached, nI nS, nI nG, nI nN, nI nR, f_hereState, f_hereHeight, f_toSolved, f_fromSolved, f_toCount, f_fromCount, f_traceSize, f_workState, f_workHeight, a_ruleUsed, a_ruleFrom, a_ruleSymbol, a_ruleTo, a_ruleTop, a_ruleBelow, a_edges, a_finals, a_hereStack, a_weights, a_traceRules, a_traceStates, a_traceHeights, a_traceStacks, a_workStack, a_vector, a_nextVector, a_marked, a_nextMarked) (nI r) := by
  have hR : nR ≤ 12 := ok.2.2.2.2.2.2.2.2.2.2
  have hr : r < nR := by obtain ⟨p, g, q, u⟩ := c; exact (ok.1 _ _ _ _ _ hT).1
  unfold wpX_removeRule
  refine xb_ru_t ok hru hT (br_f (by decide) ⟨vp_in_nI (by omega) (by omega), ?_⟩)
  rw [nI_clamp (by omega)]
  refine nm_e (h _ ?_)
  intro r' hr'
  by_cases e : r' = r
  · subst e
    rw [sy_add_s]
    exact ⟨fun _ => pk_us, fun p g q u z => nomatch z⟩
  · rw [sy_add_n e, pk_un e]
    exact hru r' hr'
theorem xb_rr_f {post : Int32 → SX → Prop} {x : Int32} (ok : sy_ok nS nG nN nR T E F) (hru : xr_Ru T a_ruleUsed a_ruleFrom a_ruleSymbol a_ruleTo a_ruleTop a_ruleBelow) (hx : ∀ r c, T r = some c → ¬ x = nI r) (h : post (-3) (f_unreached, nI nS, nI nG, nI nN, nI nR, f_hereState, f_hereHeight, f_toSolved, f_fromSolved, f_toCount, f_fromCount, f_traceSize, f_workState, f_workHeight, a_ruleUsed, a_ruleFrom, a_ruleSymbol, a_ruleTo, a_ruleTop, a_ruleBelow, a_edges, a_finals, a_hereStack, a_weights, a_traceRules, a_traceStates, a_traceHeights, a_traceStacks, a_workStack, a_vector, a_nextVector, a_marked, a_nextMarked)) : wpX_removeRule post (f_unreached, nI nS, nI nG, nI nN, nI nR, f_hereState, f_hereHeight, f_toSolved, f_fromSolved, f_toCount, f_fromCount, f_traceSize, f_workState, f_workHeight, a_ruleUsed, a_ruleFrom, a_ruleSymbol, a_ruleTo, a_ruleTop, a_ruleBelow, a_edges, a_finals, a_hereStack, a_weights, a_traceRules, a_traceStates, a_traceHeights, a_traceStacks, a_workStack, a_vector, a_nextVector, a_marked, a_nextMarked) x := by
  unfold wpX_removeRule
  exact xb_ru_f ok hru hx (br_t rfl h)
end
end
section
/-! X: the other methods -/
/-- marks -/
def bo_any (f : Nat → Bool) : Nat → Bool
  | 0 => false
  | n + 1 => bo_any f n || f n
def mk_st (E : sy_E) (nN g : Nat) (M : Nat → Bool) : Nat → Bool := fun t => bo_any (fun s => M s && E s g t) nN
def mk_rd (E : sy_E) (nN : Nat) : List Nat → (Nat → Bool) → (Nat → Bool)
  | [], M => M
  | a :: w, M => mk_rd E nN w (mk_st E nN a M)
def mk_0 (p : Nat) : Nat → Bool := fun t => decide (t = p)
def mk_an (E : sy_E) (F : sy_F) (nN p : Nat) (w : List Nat) : Bool := bo_any (fun t => mk_rd E nN w (mk_0 p) t && F t) nN
def sy_E1 (E : sy_E) (f g t : Nat) (b : Bool) : sy_E := fun f' g' t' => if f' = f ∧ g' = g ∧ t' = t then b else E f' g' t'
def sy_F1 (F : sy_F) (f : Nat) (b : Bool) : sy_F := fun f' => if f' = f then b else F f'
/-- the trace that is kept -/
abbrev tr_L : Type := Option (Nat × (Nat → tr_C) × (Nat → Nat))
def xr_Tr (tl : tr_L) (ts : Int32) (TR St H K : Nat → Int32) : Prop := match tl with
  | none => ts = -1
  | some (len, C, R) => ts = nI len ∧ len ≤ 20 ∧ (∀ j, j ≤ len → (C j).2.length ≤ 32 ∧ xt_Row St H K j (C j)) ∧ ∀ j, j < len → TR j = nI (R j)
def yr_Tr (tl : tr_L) (ts : Int32) (TR St H K : Nat → Int32) : Prop := match tl with
  | none => ts = -1
  | some (len, C, R) => ts = nI len ∧ len ≤ 20 ∧ (∀ j, j ≤ len → (C j).2.length ≤ 32 ∧ yt_Row St H K j (C j)) ∧ ∀ j, j < len → TR j = nI (R j)
section
variable {nS nG nN nR : Nat} {f_unreached f_hereState f_hereHeight f_toSolved f_fromSolved f_toCount f_fromCount f_traceSize f_workState f_workHeight : Int32} {a_ruleUsed a_ruleFrom a_ruleSymbol a_ruleTo a_ruleTop a_ruleBelow a_edges a_finals a_hereStack a_weights a_traceRules a_traceStates a_traceHeights a_traceStacks a_workStack a_vector a_nextVector a_marked a_nextMarked : Nat → Int32}
variable {T : sy_T} {E : sy_E} {F : sy_F}
/-- the answer of ruleField -/
def rf_an (c : Nat × Nat × Nat × List Nat) (f : Nat) : Int32 := if f = 0 then nI c.1 else if f = 1 then nI c.2.1 else if f = 2 then nI c.2.2.1 else nI (st_cd c.2.2.2)
theorem xc_rf {post : Int32 → Prop} {x y : Int32} (ok : sy_ok nS nG nN nR T E F) (hru : xr_Ru T a_ruleUsed a_ruleFrom a_ruleSymbol a_ruleTo a_ruleTop a_ruleBelow) (h0 : (∀ r f, r < nR → f < 4 → x = nI r → ¬ y = nI f) → post (-3)) (h1 : ∀ r f, r < nR → f < 4 → x = nI r → y = nI f → T r = none → post (-1)) (h2 : ∀ r f c, r < nR → f < 4 → x = nI r → y = nI f → T r = some c → post (rf_an c f)) : wpX_ruleField post (f_unreached, nI nS, nI nG, nI nN, nI nR, f_hereState, f_hereHeight, f_toSolved, f_fromSolved, f_toCount, f_fromCount, f_traceSize, f_workState, f_workHeight, a_ruleUsed, a_ruleFrom, a_ruleSymbol, a_ruleTo, a_ruleTop, a_ruleBelow, a_edges, a_finals, a_hereStack, a_weights, a_traceRules, a_traceStates, a_traceHeights, a_traceStacks, a_workStack, a_vector, a_nextVector, a_marked, a_nextMarked) x y := by
  have hR : nR ≤ 12 := ok.2.2.2.2.2.2.2.2.2.2
  have hG : nG ≤ 4 := ok.2.2.2.2.2.2.1
  refine br_c (fun z => h0 ?_) (fun z => ?_)
  · intro r f hr _ e
    rw [e] at z
    exact absurd z (nI_pos (by omega))
  obtain ⟨r, hr31, rfl⟩ := nI_of z
  refine pk_le nR r (fun z => h0 ?_) (fun hr => ?_)
  · intro r' f hr' _ e
    rw [nI_eq hr31 (by omega)] at e
    omega
  refine br_c (fun z => h0 ?_) (fun z => ?_)
  · intro r' f _ hf _ e
    rw [e] at z
    exact absurd z (nI_pos (by omega))
  obtain ⟨f, hf31, rfl⟩ := nI_of z
  refine pk_le f 3 (fun hf => ⟨vp_in_nI (by omega) (by omega), ?_⟩) (fun z => h0 ?_)
  · have hin : vp_in (nI r) 12 := vp_in_nI (by omega) (by omega)
    rw [nI_clamp (by omega)]
    cases hT : T r with
    | none =>
      rw [(hru r (by omega)).1 hT]
      exact br_t rfl (h1 r f hr (by omega) rfl rfl hT)
    | some c =>
      obtain ⟨p, g, q, u⟩ := c
      have ho := ok.1 _ _ _ _ _ hT
      have hx := (hru r (by omega)).2 _ _ _ _ hT
      have h3 := h2 r f _ hr (by omega) rfl rfl hT
      unfold rf_an at h3
      rw [hx.1, hx.2.1, hx.2.2.1, hx.2.2.2.1, hx.2.2.2.2.1, hx.2.2.2.2.2]
      refine br_f (by decide) (pk_eq f 0 (fun e => ⟨hin, ?_⟩) (fun e => pk_eq f 1 (fun e1 => ⟨hin, ?_⟩) (fun e1 => pk_eq f 2 (fun e2 => ⟨hin, ?_⟩) (fun e2 => ⟨hin, ?_⟩))))
      · rw [if_pos e] at h3; exact h3
      · rw [if_neg e, if_pos e1] at h3; exact h3
      · rw [if_neg e, if_neg e1, if_pos e2] at h3; exact h3
      · rw [if_neg e, if_neg e1, if_neg e2] at h3
        rcases ho.2.2.2.2.2 with eu | ⟨a, eu, ha⟩ | ⟨a, b, eu, ha, ha2, hb, hb2⟩
        · subst eu
          exact br_t rfl ⟨hin, h3⟩
        · subst eu
          exact br_t rfl ⟨hin, h3⟩
        · subst eu
          refine br_f (nI_ne0 (show 0 < b by omega) (show b < 2 ^ 31 by omega)) ⟨hin, hin, ?_⟩
          have e5 : (10 * nI (st_tp [a, b])) + nI (st_bl [a, b]) = nI (10 * a + b) := by
            show (nI 10 * nI a) + nI b = _
            rw [pk_mul, nI_add]
          rw [e5]
          exact h3
  · intro r' f' _ hf' _ e
    rw [nI_eq hf31 (by omega)] at e
    omega
theorem xc_se_t {post : Int32 → SX → Prop} {f g t : Nat} {b : Bool} (ok : sy_ok nS nG nN nR T E F) (hed : xr_Ed E a_edges) (hf : f < nN) (hg : 1 ≤ g) (hg2 : g ≤ nG) (ht : nS ≤ t) (ht2 : t < nN) (h0 : E f g t = b → post 0 (f_unreached, nI nS, nI nG, nI nN, nI nR, f_hereState, f_hereHeight, f_toSolved, f_fromSolved, f_toCount, f_fromCount, f_traceSize, f_workState, f_workHeight, a_ruleUsed, a_ruleFrom, a_ruleSymbol, a_ruleTo, a_ruleTop, a_ruleBelow, a_edges, a_finals, a_hereStack, a_weights, a_traceRules, a_traceStates, a_traceHeights, a_traceStacks, a_workStack, a_vector, a_nextVector, a_marked, a_nextMarked)) (h1 : ¬ E f g t = b → ∀ A : Nat → Int32, xr_Ed (sy_E1 E f g t b) A → post 1 (f_unreached, nI nS, nI nG, nI nN, nI nR, f_hereState, f_hereHeight, 0, 0, f_toCount, f_fromCount, -1, f_workState, f_workHeight, a_ruleUsed, a_ruleFrom, a_ruleSymbol, a_ruleTo, a_ruleTop, a_ruleBelow, A, a_finals, a_hereStack, a_weights, a_traceRules, a_traceStates, a_traceHeights, a_traceStacks, a_workStack, a_vector, a_nextVector, a_marked, a_nextMarked)) : wpX_setEdge post (f_unreached, nI nS, nI nG, nI nN, nI nR, f_hereState, f_hereHeight, f_toSolved, f_fromSolved, f_toCount, f_fromCount, f_traceSize, f_workState, f_workHeight, a_ruleUsed, a_ruleFrom, a_ruleSymbol, a_ruleTo, a_ruleTop, a_ruleBelow, a_edges, a_finals, a_hereStack, a_weights, a_traceRules, a_traceStates, a_traceHeights, a_traceStacks, a_workStack, a_vector, a_nextVector, a_marked, a_nextMarked) (nI f) (nI g) (nI t) (st_b b) := by
  have hN : nN ≤ 8 := ok.2.2.2.2.2.2.2.2.1
  have hG : nG ≤ 4 := ok.2.2.2.2.2.2.1
  unfold wpX_setEdge
  refine xb_ed_t ok hf hg hg2 ht ht2 (br_f (by decide) ?_)
  unfold wpX_edgeIndex
  dsimp only
  rw [ix_e4 hg, nI_clamp (by omega), hed f g t (by omega) hg (by omega) (by omega), st_nar]
  have hin : vp_in (nI ((f * 4 + g - 1) * 8 + t)) 256 := vp_in_nI (by omega) (by omega)
  have hnew : xr_Ed (sy_E1 E f g t b) (upd a_edges ((f * 4 + g - 1) * 8 + t) (st_b b)) := by
    intro f' g' t' hf' hg' hg'' ht'
    unfold sy_E1
    by_cases e : f' = f ∧ g' = g ∧ t' = t
    · rw [if_pos e]
      obtain ⟨rfl, rfl, rfl⟩ := e
      exact pk_us
    · rw [if_neg e, pk_un (by omega)]
      exact hed f' g' t' hf' hg' hg'' ht'
  exact ⟨hin, br_c (fun e => h0 (st_bj.mp e)) (fun e => ⟨hin, nm_e (h1 (fun z => e (st_bj.mpr z)) _ hnew)⟩)⟩
theorem xc_se_f {post : Int32 → SX → Prop} {x y z v : Int32} (ok : sy_ok nS nG nN nR T E F) (hx : ∀ f g t, f < nN → 1 ≤ g → g ≤ nG → nS ≤ t → t < nN → x = nI f → y = nI g → ¬ z = nI t) (h : post (-3) (f_unreached, nI nS, nI nG, nI nN, nI nR, f_hereState, f_hereHeight, f_toSolved, f_fromSolved, f_toCount, f_fromCount, f_traceSize, f_workState, f_workHeight, a_ruleUsed, a_ruleFrom, a_ruleSymbol, a_ruleTo, a_ruleTop, a_ruleBelow, a_edges, a_finals, a_hereStack, a_weights, a_traceRules, a_traceStates, a_traceHeights, a_traceStacks, a_workStack, a_vector, a_nextVector, a_marked, a_nextMarked)) : wpX_setEdge post (f_unreached, nI nS, nI nG, nI nN, nI nR, f_hereState, f_hereHeight, f_toSolved, f_fromSolved, f_toCount, f_fromCount, f_traceSize, f_workState, f_workHeight, a_ruleUsed, a_ruleFrom, a_ruleSymbol, a_ruleTo, a_ruleTop, a_ruleBelow, a_edges, a_finals, a_hereStack, a_weights, a_traceRules, a_traceStates, a_traceHeights, a_traceStacks, a_workStack, a_vector, a_nextVector, a_marked, a_nextMarked) x y z v := by
  unfold wpX_setEdge
  exact xb_ed_f ok hx (br_t rfl h)
theorem xc_he_t {post : Int32 → Prop} {f g t : Nat} (ok : sy_ok nS nG nN nR T E F) (hed : xr_Ed E a_edges) (hf : f < nN) (hg : 1 ≤ g) (hg2 : g ≤ nG) (ht : nS ≤ t) (ht2 : t < nN) (h : post (st_b (E f g t))) : wpX_hasEdge post (f_unreached, nI nS, nI nG, nI nN, nI nR, f_hereState, f_hereHeight, f_toSolved, f_fromSolved, f_toCount, f_fromCount, f_traceSize, f_workState, f_workHeight, a_ruleUsed, a_ruleFrom, a_ruleSymbol, a_ruleTo, a_ruleTop, a_ruleBelow, a_edges, a_finals, a_hereStack, a_weights, a_traceRules, a_traceStates, a_traceHeights, a_traceStacks, a_workStack, a_vector, a_nextVector, a_marked, a_nextMarked) (nI f) (nI g) (nI t) := by
  have hN : nN ≤ 8 := ok.2.2.2.2.2.2.2.2.1
  have hG : nG ≤ 4 := ok.2.2.2.2.2.2.1
  unfold wpX_hasEdge
  refine xb_ed_t ok hf hg hg2 ht ht2 (br_f (by decide) ?_)
  unfold wpX_edgeIndex
  dsimp only
  rw [ix_e4 hg, nI_clamp (by omega), hed f g t (by omega) hg (by omega) (by omega)]
  exact ⟨vp_in_nI (by omega) (by omega), st_nrw _, h⟩
theorem xc_he_f {post : Int32 → Prop} {x y z : Int32} (ok : sy_ok nS nG nN nR T E F) (hx : ∀ f g t, f < nN → 1 ≤ g → g ≤ nG → nS ≤ t → t < nN → x = nI f → y = nI g → ¬ z = nI t) (h : post 0) : wpX_hasEdge post (f_unreached, nI nS, nI nG, nI nN, nI nR, f_hereState, f_hereHeight, f_toSolved, f_fromSolved, f_toCount, f_fromCount, f_traceSize, f_workState, f_workHeight, a_ruleUsed, a_ruleFrom, a_ruleSymbol, a_ruleTo, a_ruleTop, a_ruleBelow, a_edges, a_finals, a_hereStack, a_weights, a_traceRules, a_traceStates, a_traceHeights, a_traceStacks, a_workStack, a_vector, a_nextVector, a_marked, a_nextMarked) x y z := by
  unfold wpX_hasEdge
  exact xb_ed_f ok hx (br_t rfl h)
theorem xc_sf_t {post : Int32 → SX → Prop} {f : Nat} {b : Bool} (ok : sy_ok nS nG nN nR T E F) (hfi : xr_Fi F a_finals) (hf : f < nN) (h0 : F f = b → post 0 (f_unreached, nI nS, nI nG, nI nN, nI nR, f_hereState, f_hereHeight, f_toSolved, f_fromSolved, f_toCount, f_fromCount, f_traceSize, f_workState, f_workHeight, a_ruleUsed, a_ruleFrom, a_ruleSymbol, a_ruleTo, a_ruleTop, a_ruleBelow, a_edges, a_finals, a_hereStack, a_weights, a_traceRules, a_traceStates, a_traceHeights, a_traceStacks, a_workStack, a_vector, a_nextVector, a_marked, a_nextMarked)) (h1 : ¬ F f = b → ∀ A : Nat → Int32, xr_Fi (sy_F1 F f b) A → post 1 (f_unreached, nI nS, nI nG, nI nN, nI nR, f_hereState, f_hereHeight, 0, 0, f_toCount, f_fromCount, -1, f_workState, f_workHeight, a_ruleUsed, a_ruleFrom, a_ruleSymbol, a_ruleTo, a_ruleTop, a_ruleBelow, a_edges, A, a_hereStack, a_weights, a_traceRules, a_traceStates, a_traceHeights, a_traceStacks, a_workStack, a_vector, a_nextVector, a_marked, a_nextMarked)) : wpX_setFinal post (f_unreached, nI nS, nI nG, nI nN, nI nR, f_hereState, f_hereHeight, f_toSolved, f_fromSolved, f_toCount, f_fromCount, f_traceSize, f_workState, f_workHeight, a_ruleUsed, a_ruleFrom, a_ruleSymbol, a_ruleTo, a_ruleTop, a_ruleBelow, a_edges, a_finals, a_hereStack, a_weights, a_traceRules, a_traceStates, a_traceHeights, a_traceStacks, a_workStack, a_vector, a_nextVector, a_marked, a_nextMarked) (nI f) (st_b b) := by
  have hN : nN ≤ 8 := ok.2.2.2.2.2.2.2.2.1
  refine br_f (nI_pos (by omega)) (pk_lt f nN (fun _ => ?_) (fun z => absurd z (by omega)))
  have hin : vp_in (nI f) 24 := vp_in_nI (by omega) (by omega)
  rw [nI_clamp (by omega), hfi f (by omega), st_nar]
  have hnew : xr_Fi (sy_F1 F f b) (upd a_finals f (st_b b)) := by
    intro f' hf'
    unfold sy_F1
    by_cases e : f' = f
    · rw [if_pos e]; subst e; exact pk_us
    · rw [if_neg e, pk_un e]; exact hfi f' hf'
  exact ⟨hin, br_c (fun e => h0 (st_bj.mp e)) (fun e => ⟨hin, nm_e (h1 (fun z => e (st_bj.mpr z)) _ hnew)⟩)⟩
theorem xc_sf_f {post : Int32 → SX → Prop} {x v : Int32} (ok : sy_ok nS nG nN nR T E F) (hx : ∀ f, f < nN → ¬ x = nI f) (h : post (-3) (f_unreached, nI nS, nI nG, nI nN, nI nR, f_hereState, f_hereHeight, f_toSolved, f_fromSolved, f_toCount, f_fromCount, f_traceSize, f_workState, f_workHeight, a_ruleUsed, a_ruleFrom, a_ruleSymbol, a_ruleTo, a_ruleTop, a_ruleBelow, a_edges, a_finals, a_hereStack, a_weights, a_traceRules, a_traceStates, a_traceHeights, a_traceStacks, a_workStack, a_vector, a_nextVector, a_marked, a_nextMarked)) : wpX_setFinal post (f_unreached, nI nS, nI nG, nI nN, nI nR, f_hereState, f_hereHeight, f_toSolved, f_fromSolved, f_toCount, f_fromCount, f_traceSize, f_workState, f_workHeight, a_ruleUsed, a_ruleFrom, a_ruleSymbol, a_ruleTo, a_ruleTop, a_ruleBelow, a_edges, a_finals, a_hereStack, a_weights, a_traceRules, a_traceStates, a_traceHeights, a_traceStacks, a_workStack, a_vector, a_nextVector, a_marked, a_nextMarked) x v := by
  have hN : nN ≤ 8 := ok.2.2.2.2.2.2.2.2.1
  refine br_c (fun _ => h) (fun z => ?_)
  obtain ⟨f, hf, rfl⟩ := nI_of z
  exact pk_lt f nN (fun h3 => absurd rfl (hx f h3)) (fun _ => h)
theorem xc_if_t {post : Int32 → Prop} {f : Nat} (ok : sy_ok nS nG nN nR T E F) (hfi : xr_Fi F a_finals) (hf : f < nN) (h : post (st_b (F f))) : wpX_isFinal post (f_unreached, nI nS, nI nG, nI nN, nI nR, f_hereState, f_hereHeight, f_toSolved, f_fromSolved, f_toCount, f_fromCount, f_traceSize, f_workState, f_workHeight, a_ruleUsed, a_ruleFrom, a_ruleSymbol, a_ruleTo, a_ruleTop, a_ruleBelow, a_edges, a_finals, a_hereStack, a_weights, a_traceRules, a_traceStates, a_traceHeights, a_traceStacks, a_workStack, a_vector, a_nextVector, a_marked, a_nextMarked) (nI f) := by
  have hN : nN ≤ 8 := ok.2.2.2.2.2.2.2.2.1
  refine br_f (nI_pos (by omega)) (pk_le nN f (fun z => absurd z (by omega)) (fun _ => ⟨vp_in_nI (by omega) (by omega), ?_⟩))
  rw [nI_clamp (by omega), hfi f (by omega)]
  cases hF : F f with
  | false => rw [hF] at h; exact br_t rfl h
  | true => rw [hF] at h; exact br_f (by decide) h
theorem xc_if_f {post : Int32 → Prop} {x : Int32} (ok : sy_ok nS nG nN nR T E F) (hx : ∀ f, f < nN → ¬ x = nI f) (h : post 0) : wpX_isFinal post (f_unreached, nI nS, nI nG, nI nN, nI nR, f_hereState, f_hereHeight, f_toSolved, f_fromSolved, f_toCount, f_fromCount, f_traceSize, f_workState, f_workHeight, a_ruleUsed, a_ruleFrom, a_ruleSymbol, a_ruleTo, a_ruleTop, a_ruleBelow, a_edges, a_finals, a_hereStack, a_weights, a_traceRules, a_traceStates, a_traceHeights, a_traceStacks, a_workStack, a_vector, a_nextVector, a_marked, a_nextMarked) x := by
  have hN : nN ≤ 8 := ok.2.2.2.2.2.2.2.2.1
  refine br_c (fun _ => h) (fun z => ?_)
  obtain ⟨f, hf, rfl⟩ := nI_of z
  exact pk_le nN f (fun _ => h) (fun h3 => absurd rfl (hx f h3))
theorem xc_pl_t {post : Int32 → SX → Prop} {q : Nat} (hS : nS ≤ 4) (hq : q < nS) (h : post 1 (f_unreached, nI nS, nI nG, nI nN, nI nR, nI q, 0, f_toSolved, f_fromSolved, f_toCount, f_fromCount, f_traceSize, f_workState, f_workHeight, a_ruleUsed, a_ruleFrom, a_ruleSymbol, a_ruleTo, a_ruleTop, a_ruleBelow, a_edges, a_finals, a_hereStack, a_weights, a_traceRules, a_traceStates, a_traceHeights, a_traceStacks, a_workStack, a_vector, a_nextVector, a_marked, a_nextMarked)) : wpX_place post (f_unreached, nI nS, nI nG, nI nN, nI nR, f_hereState, f_hereHeight, f_toSolved, f_fromSolved, f_toCount, f_fromCount, f_traceSize, f_workState, f_workHeight, a_ruleUsed, a_ruleFrom, a_ruleSymbol, a_ruleTo, a_ruleTop, a_ruleBelow, a_edges, a_finals, a_hereStack, a_weights, a_traceRules, a_traceStates, a_traceHeights, a_traceStacks, a_workStack, a_vector, a_nextVector, a_marked, a_nextMarked) (nI q) := by
  unfold wpX_place
  exact xb_st_t hS hq (br_f (by decide) h)
theorem xc_pl_f {post : Int32 → SX → Prop} {x : Int32} (hS : nS ≤ 4) (hx : ∀ n, n < nS → ¬ x = nI n) (h : post (-3) (f_unreached, nI nS, nI nG, nI nN, nI nR, f_hereState, f_hereHeight, f_toSolved, f_fromSolved, f_toCount, f_fromCount, f_traceSize, f_workState, f_workHeight, a_ruleUsed, a_ruleFrom, a_ruleSymbol, a_ruleTo, a_ruleTop, a_ruleBelow, a_edges, a_finals, a_hereStack, a_weights, a_traceRules, a_traceStates, a_traceHeights, a_traceStacks, a_workStack, a_vector, a_nextVector, a_marked, a_nextMarked)) : wpX_place post (f_unreached, nI nS, nI nG, nI nN, nI nR, f_hereState, f_hereHeight, f_toSolved, f_fromSolved, f_toCount, f_fromCount, f_traceSize, f_workState, f_workHeight, a_ruleUsed, a_ruleFrom, a_ruleSymbol, a_ruleTo, a_ruleTop, a_ruleBelow, a_edges, a_finals, a_hereStack, a_weights, a_traceRules, a_traceStates, a_traceHeights, a_traceStacks, a_workStack, a_vector, a_nextVector, a_marked, a_nextMarked) x := by
  unfold wpX_place
  exact xb_st_f hS hx (br_t rfl h)
theorem xc_pu_t {post : Int32 → SX → Prop} {g : Nat} {w : List Nat} (hG : nG ≤ 4) (hg : 1 ≤ g) (hg2 : g ≤ nG) (hk : st_Stk a_hereStack 0 w) (h1 : w.length < 12 → ∀ A : Nat → Int32, st_Stk A 0 (g :: w) → post 1 (f_unreached, nI nS, nI nG, nI nN, nI nR, f_hereState, nI (g :: w).length, f_toSolved, f_fromSolved, f_toCount, f_fromCount, f_traceSize, f_workState, f_workHeight, a_ruleUsed, a_ruleFrom, a_ruleSymbol, a_ruleTo, a_ruleTop, a_ruleBelow, a_edges, a_finals, A, a_weights, a_traceRules, a_traceStates, a_traceHeights, a_traceStacks, a_workStack, a_vector, a_nextVector, a_marked, a_nextMarked)) (h0 : 12 ≤ w.length → post (-4) (f_unreached, nI nS, nI nG, nI nN, nI nR, f_hereState, nI w.length, f_toSolved, f_fromSolved, f_toCount, f_fromCount, f_traceSize, f_workState, f_workHeight, a_ruleUsed, a_ruleFrom, a_ruleSymbol, a_ruleTo, a_ruleTop, a_ruleBelow, a_edges, a_finals, a_hereStack, a_weights, a_traceRules, a_traceStates, a_traceHeights, a_traceStacks, a_workStack, a_vector, a_nextVector, a_marked, a_nextMarked)) (hl : w.length ≤ 12) : wpX_push post (f_unreached, nI nS, nI nG, nI nN, nI nR, f_hereState, nI w.length, f_toSolved, f_fromSolved, f_toCount, f_fromCount, f_traceSize, f_workState, f_workHeight, a_ruleUsed, a_ruleFrom, a_ruleSymbol, a_ruleTo, a_ruleTop, a_ruleBelow, a_edges, a_finals, a_hereStack, a_weights, a_traceRules, a_traceStates, a_traceHeights, a_traceStacks, a_workStack, a_vector, a_nextVector, a_marked, a_nextMarked) (nI g) := by
  unfold wpX_push
  refine xb_sy_t hG hg hg2 (br_f (by decide) (pk_lt w.length 12 (fun z => ⟨vp_in_nI z (by omega), ?_⟩) h0))
  rw [nI_clamp (by omega)]
  exact nm_e (nm_r (nI_1 w.length) (h1 z _ (st_stk_push (Nat.zero_add _).symm hk)))
theorem xc_pu_f {post : Int32 → SX → Prop} {x : Int32} (hG : nG ≤ 4) (hx : ∀ n, 1 ≤ n → n ≤ nG → ¬ x = nI n) (h : post (-3) (f_unreached, nI nS, nI nG, nI nN, nI nR, f_hereState, f_hereHeight, f_toSolved, f_fromSolved, f_toCount, f_fromCount, f_traceSize, f_workState, f_workHeight, a_ruleUsed, a_ruleFrom, a_ruleSymbol, a_ruleTo, a_ruleTop, a_ruleBelow, a_edges, a_finals, a_hereStack, a_weights, a_traceRules, a_traceStates, a_traceHeights, a_traceStacks, a_workStack, a_vector, a_nextVector, a_marked, a_nextMarked)) : wpX_push post (f_unreached, nI nS, nI nG, nI nN, nI nR, f_hereState, f_hereHeight, f_toSolved, f_fromSolved, f_toCount, f_fromCount, f_traceSize, f_workState, f_workHeight, a_ruleUsed, a_ruleFrom, a_ruleSymbol, a_ruleTo, a_ruleTop, a_ruleBelow, a_edges, a_finals, a_hereStack, a_weights, a_traceRules, a_traceStates, a_traceHeights, a_traceStacks, a_workStack, a_vector, a_nextVector, a_marked, a_nextMarked) x := by
  unfold wpX_push
  exact xb_sy_f hG hx (br_t rfl h)
theorem xc_dr_0 {post : Int32 → SX → Prop} (h : post (-1) (f_unreached, nI nS, nI nG, nI nN, nI nR, f_hereState, 0, f_toSolved, f_fromSolved, f_toCount, f_fromCount, f_traceSize, f_workState, f_workHeight, a_ruleUsed, a_ruleFrom, a_ruleSymbol, a_ruleTo, a_ruleTop, a_ruleBelow, a_edges, a_finals, a_hereStack, a_weights, a_traceRules, a_traceStates, a_traceHeights, a_traceStacks, a_workStack, a_vector, a_nextVector, a_marked, a_nextMarked)) : wpX_drop post (f_unreached, nI nS, nI nG, nI nN, nI nR, f_hereState, 0, f_toSolved, f_fromSolved, f_toCount, f_fromCount, f_traceSize, f_workState, f_workHeight, a_ruleUsed, a_ruleFrom, a_ruleSymbol, a_ruleTo, a_ruleTop, a_ruleBelow, a_edges, a_finals, a_hereStack, a_weights, a_traceRules, a_traceStates, a_traceHeights, a_traceStacks, a_workStack, a_vector, a_nextVector, a_marked, a_nextMarked) := br_f (by decide) h
theorem xc_dr_1 {post : Int32 → SX → Prop} {a : Nat} {w : List Nat} (hl : w.length < 12) (hk : st_Stk a_hereStack 0 (a :: w)) (h : post (nI a) (f_unreached, nI nS, nI nG, nI nN, nI nR, f_hereState, nI w.length, f_toSolved, f_fromSolved, f_toCount, f_fromCount, f_traceSize, f_workState, f_workHeight, a_ruleUsed, a_ruleFrom, a_ruleSymbol, a_ruleTo, a_ruleTop, a_ruleBelow, a_edges, a_finals, a_hereStack, a_weights, a_traceRules, a_traceStates, a_traceHeights, a_traceStacks, a_workStack, a_vector, a_nextVector, a_marked, a_nextMarked)) : wpX_drop post (f_unreached, nI nS, nI nG, nI nN, nI nR, f_hereState, nI (a :: w).length, f_toSolved, f_fromSolved, f_toCount, f_fromCount, f_traceSize, f_workState, f_workHeight, a_ruleUsed, a_ruleFrom, a_ruleSymbol, a_ruleTo, a_ruleTop, a_ruleBelow, a_edges, a_finals, a_hereStack, a_weights, a_traceRules, a_traceStates, a_traceHeights, a_traceStacks, a_workStack, a_vector, a_nextVector, a_marked, a_nextMarked) := by
  refine pk_lt 0 (w.length + 1) (fun _ => nm_r (e' := nI w.length) (nI_pred w.length) ⟨vp_in_nI hl (by omega), ?_⟩) (fun z => absurd z (by omega))
  rw [nI_clamp (by omega)]
  have hk1 : a_hereStack w.length = nI a := by have := hk.1; rw [Nat.zero_add] at this; exact this
  rw [hk1]
  exact h
theorem xc_fi_f {post : Int32 → SX → Prop} {x : Int32} (ok : sy_ok nS nG nN nR T E F) (hru : xr_Ru T a_ruleUsed a_ruleFrom a_ruleSymbol a_ruleTo a_ruleTop a_ruleBelow) (hx : ∀ r c, T r = some c → ¬ x = nI r) (h : post (-3) (f_unreached, nI nS, nI nG, nI nN, nI nR, f_hereState, f_hereHeight, f_toSolved, f_fromSolved, f_toCount, f_fromCount, f_traceSize, f_workState, f_workHeight, a_ruleUsed, a_ruleFrom, a_ruleSymbol, a_ruleTo, a_ruleTop, a_ruleBelow, a_edges, a_finals, a_hereStack, a_weights, a_traceRules, a_traceStates, a_traceHeights, a_traceStacks, a_workStack, a_vector, a_nextVector, a_marked, a_nextMarked)) : wpX_fire post (f_unreached, nI nS, nI nG, nI nN, nI nR, f_hereState, f_hereHeight, f_toSolved, f_fromSolved, f_toCount, f_fromCount, f_traceSize, f_workState, f_workHeight, a_ruleUsed, a_ruleFrom, a_ruleSymbol, a_ruleTo, a_ruleTop, a_ruleBelow, a_edges, a_finals, a_hereStack, a_weights, a_traceRules, a_traceStates, a_traceHeights, a_traceStacks, a_workStack, a_vector, a_nextVector, a_marked, a_nextMarked) x := by
  unfold wpX_fire
  exact xb_ru_f ok hru hx (br_t rfl h)
theorem xc_fi_t {post : Int32 → SX → Prop} {r : Nat} {c : tr_C} {t : Nat × Nat × Nat × List Nat} (ok : sy_ok nS nG nN nR T E F) (hru : xr_Ru T a_ruleUsed a_ruleFrom a_ruleSymbol a_ruleTo a_ruleTop a_ruleBelow) (hT : T r = some t) (hc : tr_ok nS nG c) (hl : c.2.length ≤ 12) (hk : st_Stk a_hereStack 0 c.2) (h1 : ∀ (c' : tr_C) (S : Nat → Int32), tr_Ft true T r c c' → c'.2.length ≤ 12 → st_Stk S 0 c'.2 → post 1 (f_unreached, nI nS, nI nG, nI nN, nI nR, nI c'.1, nI c'.2.length, f_toSolved, f_fromSolved, f_toCount, f_fromCount, f_traceSize, f_workState, f_workHeight, a_ruleUsed, a_ruleFrom, a_ruleSymbol, a_ruleTo, a_ruleTop, a_ruleBelow, a_edges, a_finals, S, a_weights, a_traceRules, a_traceStates, a_traceHeights, a_traceStacks, a_workStack, a_vector, a_nextVector, a_marked, a_nextMarked)) (h2 : ∀ c', tr_Ft true T r c c' → 12 < c'.2.length → post (-4) (f_unreached, nI nS, nI nG, nI nN, nI nR, nI c.1, nI c.2.length, f_toSolved, f_fromSolved, f_toCount, f_fromCount, f_traceSize, f_workState, f_workHeight, a_ruleUsed, a_ruleFrom, a_ruleSymbol, a_ruleTo, a_ruleTop, a_ruleBelow, a_edges, a_finals, a_hereStack, a_weights, a_traceRules, a_traceStates, a_traceHeights, a_traceStacks, a_workStack, a_vector, a_nextVector, a_marked, a_nextMarked)) (h0 : (∀ c', ¬ tr_Ft true T r c c') → post (-1) (f_unreached, nI nS, nI nG, nI nN, nI nR, nI c.1, nI c.2.length, f_toSolved, f_fromSolved, f_toCount, f_fromCount, f_traceSize, f_workState, f_workHeight, a_ruleUsed, a_ruleFrom, a_ruleSymbol, a_ruleTo, a_ruleTop, a_ruleBelow, a_edges, a_finals, a_hereStack, a_weights, a_traceRules, a_traceStates, a_traceHeights, a_traceStacks, a_workStack, a_vector, a_nextVector, a_marked, a_nextMarked)) : wpX_fire post (f_unreached, nI nS, nI nG, nI nN, nI nR, nI c.1, nI c.2.length, f_toSolved, f_fromSolved, f_toCount, f_fromCount, f_traceSize, f_workState, f_workHeight, a_ruleUsed, a_ruleFrom, a_ruleSymbol, a_ruleTo, a_ruleTop, a_ruleBelow, a_edges, a_finals, a_hereStack, a_weights, a_traceRules, a_traceStates, a_traceHeights, a_traceStacks, a_workStack, a_vector, a_nextVector, a_marked, a_nextMarked) (nI r) := by
  have hS : nS ≤ 4 := ok.2.2.2.2.1
  have hG : nG ≤ 4 := ok.2.2.2.2.2.2.1
  have hR : nR ≤ 12 := ok.2.2.2.2.2.2.2.2.2.2
  obtain ⟨p', g, q, u⟩ := t
  have ho := ok.1 _ _ _ _ _ hT
  have hcl : (nI r).toNatClampNeg = r := nI_clamp (by omega)
  have hin : vp_in (nI r) 12 := vp_in_nI (by omega) (by omega)
  have hx := (hru r (by omega)).2 _ _ _ _ hT
  obtain ⟨p, w⟩ := c
  have hp : p < nS := hc.1
  unfold wpX_fire
  refine xb_ru_t ok hru hT (br_f (by decide) ?_)
  have hno : ∀ c', tr_Ft true T r (p, w) c' → p' = p ∧ ∃ v, w = g :: v := by
    rintro c' ⟨g', u', v, hT', hw, _⟩
    rw [hT] at hT'
    injection hT' with e
    injection e with e1 e
    injection e with e2 _
    dsimp only at hw e1
    subst e2
    exact ⟨e1, v, hw⟩
  cases w with
  | nil =>
    refine br_t (show nI 0 ≤ 0 by decide) (h0 ?_)
    intro c' hf
    obtain ⟨_, v, z⟩ := hno c' hf
    exact nomatch z
  | cons x v =>
    have hxs := hc.2 x (List.mem_cons_self ..)
    have hl' : v.length + 1 ≤ 12 := hl
    refine br_f (nI_nle (show 0 < v.length + 1 by omega) (show v.length + 1 < 2 ^ 31 by omega)) ⟨hin, ?_⟩
    rw [hcl, hx.2.1, hx.2.2.1, hx.2.2.2.2.2]
    refine pk_eq p p' (fun e => ?_) (fun e => h0 (fun c' hf => e (hno c' hf).1.symm))
    subst e
    have e1 : nI (x :: v).length - 1 = nI v.length := nI_pred v.length
    have hk1 : a_hereStack v.length = nI x := by have := hk.1; rw [Nat.zero_add] at this; exact this
    have hin2 : vp_in (nI v.length) 12 := vp_in_nI (by omega) (by omega)
    show vp_in (nI (x :: v).length - 1) 12 ∧ (vp_in (nI r) 12 ∧ ((a_hereStack (nI (x :: v).length - 1).toNatClampNeg = nI g → _) ∧ (¬ a_hereStack (nI (x :: v).length - 1).toNatClampNeg = nI g → _)))
    rw [e1, nI_clamp (show v.length < 2 ^ 31 by omega), hk1]
    refine ⟨hin2, hin, ?_⟩
    refine pk_eq x g (fun e => ?_) (fun e => h0 (fun c' hf => ?_))
    · subst e
      refine ⟨hin, ?_⟩
      have hft : tr_Ft true T r (p, x :: v) (q, u ++ v) := ⟨x, u, v, hT, rfl, rfl⟩
      have h76 : (u ++ v).length ≤ 12 → wX_fire_76 post (nI r) f_unreached (nI nS) (nI nG) (nI nN) (nI nR) (nI p) (nI (x :: v).length) f_toSolved f_fromSolved f_toCount f_fromCount f_traceSize f_workState f_workHeight a_ruleUsed a_ruleFrom a_ruleSymbol a_ruleTo a_ruleTop a_ruleBelow a_edges a_finals a_hereStack a_weights a_traceRules a_traceStates a_traceHeights a_traceStacks a_workStack a_vector a_nextVector a_marked a_nextMarked := by
        intro hle
        unfold wX_fire_76
        rw [hcl, hx.2.2.2.1, hx.2.2.2.2.1, hx.2.2.2.2.2, e1, nI_clamp (show v.length < 2 ^ 31 by omega)]
        refine ⟨hin, nm_e ⟨hin, ?_⟩⟩
        rcases ho.2.2.2.2.2 with e | ⟨a, e, ha⟩ | ⟨a, b, e, ha, ha2, hb, hb2⟩
        · subst e
          exact br_t rfl (nm_e (h1 (q, [] ++ v) _ hft hle hk.2))
        · subst e
          refine br_f (nI_ne0 (show 0 < a by omega) (show a < 2 ^ 31 by omega)) ⟨hin, br_t rfl ⟨hin, hin2, nm_e ?_⟩⟩
          exact h1 (q, [a] ++ v) _ hft hle (st_stk_push (Nat.zero_add _).symm hk.2)
        · subst e
          have hle' : v.length + 1 + 1 ≤ 12 := hle
          have ec : (nI (x :: v).length).toNatClampNeg = v.length + 1 := nI_clamp (show v.length + 1 < 2 ^ 31 by omega)
          refine br_f (nI_ne0 (show 0 < a by omega) (show a < 2 ^ 31 by omega)) ⟨hin, br_f (nI_ne0 (show 0 < b by omega) (show b < 2 ^ 31 by omega)) ⟨hin, hin2, nm_e ⟨hin, vp_in_nI (show v.length + 1 < 12 by omega) (by omega), ?_⟩⟩⟩
          rw [ec]
          refine nm_e (nm_r (nI_1 (v.length + 1)) ?_)
          have hb1 : st_Stk (upd a_hereStack v.length (nI b)) 0 (b :: v) := st_stk_push (Nat.zero_add _).symm hk.2
          exact h1 (q, [a, b] ++ v) _ hft hle (st_stk_push (a := a) (by rw [Nat.zero_add]; rfl) hb1)
      rcases ho.2.2.2.2.2 with e | ⟨a, e, ha⟩ | ⟨a, b, e, ha, ha2, hb, hb2⟩
      · subst e
        exact br_t rfl (h76 (by show v.length ≤ 12; omega))
      · subst e
        exact br_t rfl (h76 (by show v.length + 1 ≤ 12; omega))
      · subst e
        refine br_f (nI_ne0 (show 0 < b by omega) (show b < 2 ^ 31 by omega)) ?_
        exact pk_lt (v.length + 1) 12 (fun z => h76 (by show v.length + 1 + 1 ≤ 12; omega)) (fun z => h2 _ hft (by show 12 < v.length + 1 + 1; omega))
    · obtain ⟨_, v', hv⟩ := hno c' hf
      injection hv with hv _
      exact e hv
end
end
section
/-! X: inSet, looking, distance, summary, trace -/
def sm_an (w : List Nat) (y : Int32) : Int32 := if y < 0 then 0 else nI (w.getD y.toNatClampNeg 0)
def tl_an (tl : tr_L) : Int32 := match tl with
  | none => -1
  | some (len, _, _) => nI len
def xr_sv (d : Nat) (a b : Int32) : Int32 := match d with
  | 0 => a
  | _ + 1 => b
section
variable {nS nG nN nR : Nat} {f_unreached f_hereState f_hereHeight f_toSolved f_fromSolved f_toCount f_fromCount f_traceSize f_workState f_workHeight : Int32} {a_ruleUsed a_ruleFrom a_ruleSymbol a_ruleTo a_ruleTop a_ruleBelow a_edges a_finals a_hereStack a_weights a_traceRules a_traceStates a_traceHeights a_traceStacks a_workStack a_vector a_nextVector a_marked a_nextMarked : Nat → Int32}
variable {T : sy_T} {E : sy_E} {F : sy_F}
theorem xd_77 {post : SX → Prop} {N : Nat → Int32} {M' : Nat → Bool} (hN : nN ≤ 8) (hM : ∀ t, t < nN → N t = st_b (M' t)) (h : ∀ M : Nat → Int32, (∀ t, t < nN → M t = st_b (M' t)) → post (f_unreached, nI nS, nI nG, nI nN, nI nR, f_hereState, f_hereHeight, f_toSolved, f_fromSolved, f_toCount, f_fromCount, f_traceSize, f_workState, f_workHeight, a_ruleUsed, a_ruleFrom, a_ruleSymbol, a_ruleTo, a_ruleTop, a_ruleBelow, a_edges, a_finals, a_hereStack, a_weights, a_traceRules, a_traceStates, a_traceHeights, a_traceStacks, a_workStack, a_vector, a_nextVector, M, N)) : ∀ k t, t + k = nN → ∀ M : Nat → Int32, (∀ t', t' < t → M t' = st_b (M' t')) → wX_advanceMarks_77 post f_unreached (nI nS) (nI nG) (nI nN) (nI nR) f_hereState f_hereHeight f_toSolved f_fromSolved f_toCount f_fromCount f_traceSize f_workState f_workHeight (k + 1) (nI t) a_ruleUsed a_ruleFrom a_ruleSymbol a_ruleTo a_ruleTop a_ruleBelow a_edges a_finals a_hereStack a_weights a_traceRules a_traceStates a_traceHeights a_traceStacks a_workStack a_vector a_nextVector M N := by
  intro k
  induction k with
  | zero =>
    intro t ht M h1
    exact pk_le nN t (fun _ => h M (fun t' ht' => h1 t' (by omega))) (fun z => absurd z (by omega))
  | succ k ih =>
    intro t ht M h1
    have hin : vp_in (nI t) 8 := vp_in_nI (by omega) (by omega)
    refine pk_le nN t (fun z => absurd z (by omega)) (fun _ => ⟨hin, hin, ?_⟩)
    rw [nI_clamp (by omega), hM t (by omega), st_nar]
    refine nm_e (nm_r (nI_1 t) (ih (t + 1) (by omega) _ ?_))
    intro t' ht'
    by_cases e : t' = t
    · subst e; exact pk_us
    · rw [pk_un e]; exact h1 t' (by omega)
theorem xd_15 {post : SX → Prop} {J2 : (Int32 → (Nat → Int32) → (Nat → Int32) → (Nat → Int32) → (Nat → Int32) → (Nat → Int32) → (Nat → Int32) → (Nat → Int32) → (Nat → Int32) → (Nat → Int32) → (Nat → Int32) → (Nat → Int32) → (Nat → Int32) → (Nat → Int32) → (Nat → Int32) → (Nat → Int32) → (Nat → Int32) → (Nat → Int32) → (Nat → Int32) → (Nat → Int32) → Prop)} {g t : Nat} {M : Nat → Bool} (hN : nN ≤ 8) (hg : 1 ≤ g) (hg2 : g ≤ 4) (ht : t < nN) (hed : xr_Ed E a_edges) (hM : ∀ s, s < nN → a_marked s = st_b (M s)) (hJ : J2 (nI (t + 1)) a_ruleUsed a_ruleFrom a_ruleSymbol a_ruleTo a_ruleTop a_ruleBelow a_edges a_finals a_hereStack a_weights a_traceRules a_traceStates a_traceHeights a_traceStacks a_workStack a_vector a_nextVector a_marked (upd a_nextMarked t (st_b (mk_st E nN g M t)))) : ∀ k s, s + k = nN → wX_advanceMarks_15 post J2 (nI g) (nI t) f_unreached (nI nS) (nI nG) (nI nN) (nI nR) f_hereState f_hereHeight f_toSolved f_fromSolved f_toCount f_fromCount f_traceSize f_workState f_workHeight a_ruleUsed a_ruleFrom a_ruleSymbol a_ruleTo a_ruleTop a_ruleBelow a_edges a_finals a_hereStack a_weights a_traceRules a_traceStates a_traceHeights a_traceStacks a_workStack a_vector a_nextVector a_marked a_nextMarked (k + 1) (st_b (bo_any (fun s => M s && E s g t) s)) (nI s) := by
  intro k
  induction k with
  | zero =>
    intro s hs
    have e : s = nN := by omega
    subst e
    refine pk_le s s (fun _ => ⟨vp_in_nI (by omega) (by omega), ?_⟩) (fun z => absurd z (by omega))
    rw [nI_clamp (by omega), st_nar]
    exact nm_e (nm_r (nI_1 t) hJ)
  | succ k ih =>
    intro s hs
    have hn := ih (s + 1) (by omega)
    have e0 : bo_any (fun s => M s && E s g t) (s + 1) = (bo_any (fun s => M s && E s g t) s || (M s && E s g t)) := rfl
    rw [e0] at hn
    refine pk_le nN s (fun z => absurd z (by omega)) (fun _ => ⟨vp_in_nI (by omega) (by omega), ?_⟩)
    rw [nI_clamp (by omega), hM s (by omega)]
    cases hMs : M s with
    | false =>
      rw [hMs, Bool.false_and, Bool.or_false] at hn
      exact br_t rfl (nm_r (nI_1 s) hn)
    | true =>
      refine br_f (by decide) ?_
      unfold wpX_edgeIndex
      dsimp only
      rw [ix_e4 hg, nI_clamp (by omega), hed s g t (by omega) hg hg2 (by omega)]
      refine ⟨vp_in_nI (by omega) (by omega), ?_⟩
      cases hE : E s g t with
      | false =>
        rw [hMs, hE, Bool.and_false, Bool.or_false] at hn
        exact br_t rfl (nm_r (nI_1 s) hn)
      | true =>
        rw [hMs, hE, Bool.and_true, Bool.or_true] at hn
        exact br_f (by decide) (nm_r (nI_1 s) hn)
theorem xd_am {post : SX → Prop} {g : Nat} {M : Nat → Bool} (hN : nN ≤ 8) (hg : 1 ≤ g) (hg2 : g ≤ 4) (hed : xr_Ed E a_edges) (hM : ∀ s, s < nN → a_marked s = st_b (M s)) (h : ∀ M' N' : Nat → Int32, (∀ t, t < nN → M' t = st_b (mk_st E nN g M t)) → post (f_unreached, nI nS, nI nG, nI nN, nI nR, f_hereState, f_hereHeight, f_toSolved, f_fromSolved, f_toCount, f_fromCount, f_traceSize, f_workState, f_workHeight, a_ruleUsed, a_ruleFrom, a_ruleSymbol, a_ruleTo, a_ruleTop, a_ruleBelow, a_edges, a_finals, a_hereStack, a_weights, a_traceRules, a_traceStates, a_traceHeights, a_traceStacks, a_workStack, a_vector, a_nextVector, M', N')) : wpX_advanceMarks post (f_unreached, nI nS, nI nG, nI nN, nI nR, f_hereState, f_hereHeight, f_toSolved, f_fromSolved, f_toCount, f_fromCount, f_traceSize, f_workState, f_workHeight, a_ruleUsed, a_ruleFrom, a_ruleSymbol, a_ruleTo, a_ruleTop, a_ruleBelow, a_edges, a_finals, a_hereStack, a_weights, a_traceRules, a_traceStates, a_traceHeights, a_traceStacks, a_workStack, a_vector, a_nextVector, a_marked, a_nextMarked) (nI g) := by
  have hL : ∀ k t, t + k = nN → ∀ N : Nat → Int32, (∀ t', t' < t → N t' = st_b (mk_st E nN g M t')) → wX_advanceMarks_2 post (nI g) f_unreached (nI nS) (nI nG) (nI nN) (nI nR) f_hereState f_hereHeight f_toSolved f_fromSolved f_toCount f_fromCount f_traceSize f_workState f_workHeight (k + 1) (nI t) a_ruleUsed a_ruleFrom a_ruleSymbol a_ruleTo a_ruleTop a_ruleBelow a_edges a_finals a_hereStack a_weights a_traceRules a_traceStates a_traceHeights a_traceStacks a_workStack a_vector a_nextVector a_marked N := by
    intro k
    induction k with
    | zero =>
      intro t ht N hN'
      refine pk_le nN t (fun _ => ⟨nN + 1, ?_⟩) (fun z => absurd z (by omega))
      exact xd_77 hN (fun t' ht' => hN' t' (by omega)) (fun M' hM' => h M' N hM') nN 0 (by omega) a_marked (fun t' z => absurd z (Nat.not_lt_zero _))
    | succ k ih =>
      intro t ht N hN'
      refine pk_le nN t (fun z => absurd z (by omega)) (fun _ => ⟨nN + 1, ?_⟩)
      refine xd_15 hN hg hg2 (by omega) hed hM ?_ nN 0 (by omega)
      refine ih (t + 1) (by omega) _ ?_
      intro t' ht'
      by_cases e : t' = t
      · subst e; exact pk_us
      · rw [pk_un e]; exact hN' t' (by omega)
  exact ⟨nN + 1, hL nN 0 (by omega) a_nextMarked (fun t' z => absurd z (Nat.not_lt_zero _))⟩
theorem xd_64 {post : Int32 → SX → Prop} {M : Nat → Bool} (hN : nN ≤ 8) (hfi : xr_Fi F a_finals) (hM : ∀ s, s < nN → a_marked s = st_b (M s)) (h : post (st_b (bo_any (fun t => M t && F t) nN)) (f_unreached, nI nS, nI nG, nI nN, nI nR, f_hereState, f_hereHeight, f_toSolved, f_fromSolved, f_toCount, f_fromCount, f_traceSize, f_workState, f_workHeight, a_ruleUsed, a_ruleFrom, a_ruleSymbol, a_ruleTo, a_ruleTop, a_ruleBelow, a_edges, a_finals, a_hereStack, a_weights, a_traceRules, a_traceStates, a_traceHeights, a_traceStacks, a_workStack, a_vector, a_nextVector, a_marked, a_nextMarked)) : ∀ k s, s + k = nN → wX_inSet_64 post f_unreached (nI nS) (nI nG) (nI nN) (nI nR) f_hereState f_hereHeight f_toSolved f_fromSolved f_toCount f_fromCount f_traceSize f_workState f_workHeight a_ruleUsed a_ruleFrom a_ruleSymbol a_ruleTo a_ruleTop a_ruleBelow a_edges a_finals a_hereStack a_weights a_traceRules a_traceStates a_traceHeights a_traceStacks a_workStack a_vector a_nextVector a_marked a_nextMarked (k + 1) (st_b (bo_any (fun t => M t && F t) s)) (nI s) := by
  intro k
  induction k with
  | zero =>
    intro s hs
    have e : s = nN := by omega
    subst e
    exact pk_le s s (fun _ => ⟨st_nrw _, h⟩) (fun z => absurd z (by omega))
  | succ k ih =>
    intro s hs
    have hn := ih (s + 1) (by omega)
    have e0 : bo_any (fun t => M t && F t) (s + 1) = (bo_any (fun t => M t && F t) s || (M s && F s)) := rfl
    rw [e0] at hn
    refine pk_le nN s (fun z => absurd z (by omega)) (fun _ => ⟨vp_in_nI (by omega) (by omega), ?_⟩)
    rw [nI_clamp (by omega), hM s (by omega), hfi s (by omega)]
    cases hMs : M s with
    | false =>
      rw [hMs, Bool.false_and, Bool.or_false] at hn
      exact br_t rfl (nm_r (nI_1 s) hn)
    | true =>
      refine br_f (by decide) ⟨vp_in_nI (by omega) (by omega), ?_⟩
      cases hF : F s with
      | false =>
        rw [hMs, hF, Bool.and_false, Bool.or_false] at hn
        exact br_t rfl (nm_r (nI_1 s) hn)
      | true =>
        rw [hMs, hF, Bool.and_true, Bool.or_true] at hn
        exact br_f (by decide) (nm_r (nI_1 s) hn)
theorem xd_40 {post : Int32 → SX → Prop} (hN : nN ≤ 8) (hed : xr_Ed E a_edges) (hfi : xr_Fi F a_finals) : ∀ (w : List Nat) (M : Nat → Bool) (A N : Nat → Int32), (∀ a, a ∈ w → 1 ≤ a ∧ a ≤ 4) → w.length ≤ 12 → st_Stk a_hereStack 0 w → (∀ s, s < nN → A s = st_b (M s)) → (∀ A' N' : Nat → Int32, post (st_b (bo_any (fun t => mk_rd E nN w M t && F t) nN)) (f_unreached, nI nS, nI nG, nI nN, nI nR, f_hereState, f_hereHeight, f_toSolved, f_fromSolved, f_toCount, f_fromCount, f_traceSize, f_workState, f_workHeight, a_ruleUsed, a_ruleFrom, a_ruleSymbol, a_ruleTo, a_ruleTop, a_ruleBelow, a_edges, a_finals, a_hereStack, a_weights, a_traceRules, a_traceStates, a_traceHeights, a_traceStacks, a_workStack, a_vector, a_nextVector, A', N')) → wX_inSet_40 post (w.length + 1) (nI w.length - 1) f_unreached (nI nS) (nI nG) (nI nN) (nI nR) f_hereState f_hereHeight f_toSolved f_fromSolved f_toCount f_fromCount f_traceSize f_workState f_workHeight a_ruleUsed a_ruleFrom a_ruleSymbol a_ruleTo a_ruleTop a_ruleBelow a_edges a_finals a_hereStack a_weights a_traceRules a_traceStates a_traceHeights a_traceStacks a_workStack a_vector a_nextVector A N := by
  intro w
  induction w with
  | nil =>
    intro M A N _ _ _ hA h
    refine br_t nI_h0 ⟨nN + 1, ?_⟩
    exact xd_64 hN hfi hA (h A N) nN 0 (by omega)
  | cons a w ih =>
    intro M A N hs hl hk hA h
    have hl' : w.length < 12 := by simp only [List.length_cons] at hl; omega
    have ha := hs a (List.mem_cons_self ..)
    have hk1 : a_hereStack w.length = nI a := by have := hk.1; rw [Nat.zero_add] at this; exact this
    rw [List.length_cons, nI_pred]
    refine br_f (nI_pos (by omega)) ⟨vp_in_nI hl' (by omega), ?_⟩
    rw [nI_clamp (by omega), hk1]
    refine xd_am hN ha.1 ha.2 hed hA ?_
    intro A' N' hA'
    refine nm_r (nI_h1 w.length) ?_
    exact ih _ A' N' (fun b hb => hs b (List.mem_cons_of_mem _ hb)) (by omega) hk.2 hA' h
theorem xd_in {post : Int32 → SX → Prop} {p : Nat} {w : List Nat} (ok : sy_ok nS nG nN nR T E F) (hed : xr_Ed E a_edges) (hfi : xr_Fi F a_finals) (hc : tr_ok nS nG (p, w)) (hl : w.length ≤ 12) (hk : st_Stk a_hereStack 0 w) (h : ∀ A N : Nat → Int32, post (st_b (mk_an E F nN p w)) (f_unreached, nI nS, nI nG, nI nN, nI nR, nI p, nI w.length, f_toSolved, f_fromSolved, f_toCount, f_fromCount, f_traceSize, f_workState, f_workHeight, a_ruleUsed, a_ruleFrom, a_ruleSymbol, a_ruleTo, a_ruleTop, a_ruleBelow, a_edges, a_finals, a_hereStack, a_weights, a_traceRules, a_traceStates, a_traceHeights, a_traceStacks, a_workStack, a_vector, a_nextVector, A, N)) : wpX_inSet post (f_unreached, nI nS, nI nG, nI nN, nI nR, nI p, nI w.length, f_toSolved, f_fromSolved, f_toCount, f_fromCount, f_traceSize, f_workState, f_workHeight, a_ruleUsed, a_ruleFrom, a_ruleSymbol, a_ruleTo, a_ruleTop, a_ruleBelow, a_edges, a_finals, a_hereStack, a_weights, a_traceRules, a_traceStates, a_traceHeights, a_traceStacks, a_workStack, a_vector, a_nextVector, a_marked, a_nextMarked) := by
  have hN : nN ≤ 8 := ok.2.2.2.2.2.2.2.2.1
  have hS : nS ≤ 4 := ok.2.2.2.2.1
  have hG : nG ≤ 4 := ok.2.2.2.2.2.2.1
  have hp : p < nS := hc.1
  have hL : ∀ k t, t + k = 8 → ∀ A : Nat → Int32, (∀ t', t' < t → A t' = st_b (mk_0 p t')) → wX_inSet_2 post f_unreached (nI nS) (nI nG) (nI nN) (nI nR) (nI p) (nI w.length) f_toSolved f_fromSolved f_toCount f_fromCount f_traceSize f_workState f_workHeight (k + 1) (nI t) a_ruleUsed a_ruleFrom a_ruleSymbol a_ruleTo a_ruleTop a_ruleBelow a_edges a_finals a_hereStack a_weights a_traceRules a_traceStates a_traceHeights a_traceStacks a_workStack a_vector a_nextVector A a_nextMarked := by
    intro k
    induction k with
    | zero =>
      intro t ht A hA
      refine pk_le 8 t (fun _ => nm_e ⟨w.length + 1, ?_⟩) (fun z => absurd z (by omega))
      exact xd_40 hN hed hfi w (mk_0 p) A _ (fun a ha => by have := hc.2 a ha; omega) hl hk (fun s hs => hA s (by omega)) h
    | succ k ih =>
      intro t ht A hA
      have hnew : ∀ b : Bool, b = mk_0 p t → ∀ t', t' < t + 1 → upd A t (st_b b) t' = st_b (mk_0 p t') := by
        intro b hb t' ht'
        by_cases e : t' = t
        · subst e; rw [pk_us, hb]
        · rw [pk_un e]; exact hA t' (by omega)
      have hin : vp_in (nI t) 8 := vp_in_nI (by omega) (by omega)
      refine pk_le 8 t (fun z => absurd z (by omega)) (fun _ => ?_)
      rw [nI_clamp (by omega)]
      refine pk_eq t p (fun e => ⟨hin, nm_e (nm_r (nI_1 t) (ih (t + 1) (by omega) _ (hnew true ?_)))⟩) (fun e => ⟨hin, nm_e (nm_r (nI_1 t) (ih (t + 1) (by omega) _ (hnew false ?_)))⟩)
      · exact (decide_eq_true e).symm
      · exact (decide_eq_false e).symm
  exact ⟨9, hL 8 0 (by omega) a_marked (fun t' z => absurd z (Nat.not_lt_zero _))⟩
theorem xd_vp {post : Int32 → Prop} {x : Int32} {tl : tr_L} (htr : xr_Tr tl f_traceSize a_traceRules a_traceStates a_traceHeights a_traceStacks) (h1 : x = -1 → post 1) (h2 : ∀ len C R j, tl = some (len, C, R) → j ≤ len → x = nI j → post 1) (h0 : ¬ x = -1 → (∀ len C R j, tl = some (len, C, R) → j ≤ len → ¬ x = nI j) → post 0) : wpX_isValidPlace post (f_unreached, nI nS, nI nG, nI nN, nI nR, f_hereState, f_hereHeight, f_toSolved, f_fromSolved, f_toCount, f_fromCount, f_traceSize, f_workState, f_workHeight, a_ruleUsed, a_ruleFrom, a_ruleSymbol, a_ruleTo, a_ruleTop, a_ruleBelow, a_edges, a_finals, a_hereStack, a_weights, a_traceRules, a_traceStates, a_traceHeights, a_traceStacks, a_workStack, a_vector, a_nextVector, a_marked, a_nextMarked) x := by
  refine br_c h1 (fun hx => ?_)
  match tl, htr, h2, h0 with
  | none, htr, h2, h0 =>
    have e : f_traceSize = -1 := htr
    subst e
    exact br_t (by decide) (h0 hx (fun _ _ _ _ z => nomatch z))
  | some (len, C, R), htr, h2, h0 =>
    obtain ⟨e, hl, _⟩ := htr
    subst e
    refine br_f (nI_pos (by omega)) (br_c (fun z => h0 hx ?_) (fun z => ?_))
    · intro len' C' R' j e hj ex
      injection e with e
      injection e with e1 _
      rw [ex] at z
      exact absurd z (nI_pos (by omega))
    · obtain ⟨j, hj, rfl⟩ := nI_of z
      refine pk_lt len j (fun z => h0 hx ?_) (fun z => h2 len C R j rfl z rfl)
      intro len' C' R' j' e hj' ex
      injection e with e
      injection e with e1 _
      rw [nI_eq hj (by omega)] at ex
      omega
theorem xd_sta {post : Int32 → Prop} {x : Int32} {tl : tr_L} (htr : xr_Tr tl f_traceSize a_traceRules a_traceStates a_traceHeights a_traceStacks) (h1 : x = -1 → post f_hereState) (h2 : ∀ len C R j, tl = some (len, C, R) → j ≤ len → x = nI j → post (nI (C j).1)) (h0 : ¬ x = -1 → (∀ len C R j, tl = some (len, C, R) → j ≤ len → ¬ x = nI j) → post (-3)) : wpX_state post (f_unreached, nI nS, nI nG, nI nN, nI nR, f_hereState, f_hereHeight, f_toSolved, f_fromSolved, f_toCount, f_fromCount, f_traceSize, f_workState, f_workHeight, a_ruleUsed, a_ruleFrom, a_ruleSymbol, a_ruleTo, a_ruleTop, a_ruleBelow, a_edges, a_finals, a_hereStack, a_weights, a_traceRules, a_traceStates, a_traceHeights, a_traceStacks, a_workStack, a_vector, a_nextVector, a_marked, a_nextMarked) x := by
  unfold wpX_state
  refine xd_vp htr (fun e => br_f (by decide) (br_t e (h1 e))) (fun len C R j et hj ex => br_f (by decide) ?_) (fun e e2 => br_t rfl (h0 e e2))
  subst et
  obtain ⟨_, hl, hr, _⟩ := htr
  subst ex
  refine br_f (nI_nm1 (by omega)) ⟨vp_in_nI (by omega) (by omega), ?_⟩
  rw [nI_clamp (by omega), (hr j hj).2.1]
  exact h2 len C R j rfl hj rfl
theorem xd_hei {post : Int32 → Prop} {x : Int32} {tl : tr_L} (htr : xr_Tr tl f_traceSize a_traceRules a_traceStates a_traceHeights a_traceStacks) (h1 : x = -1 → post f_hereHeight) (h2 : ∀ len C R j, tl = some (len, C, R) → j ≤ len → x = nI j → post (nI (C j).2.length)) (h0 : ¬ x = -1 → (∀ len C R j, tl = some (len, C, R) → j ≤ len → ¬ x = nI j) → post (-3)) : wpX_height post (f_unreached, nI nS, nI nG, nI nN, nI nR, f_hereState, f_hereHeight, f_toSolved, f_fromSolved, f_toCount, f_fromCount, f_traceSize, f_workState, f_workHeight, a_ruleUsed, a_ruleFrom, a_ruleSymbol, a_ruleTo, a_ruleTop, a_ruleBelow, a_edges, a_finals, a_hereStack, a_weights, a_traceRules, a_traceStates, a_traceHeights, a_traceStacks, a_workStack, a_vector, a_nextVector, a_marked, a_nextMarked) x := by
  unfold wpX_height
  refine xd_vp htr (fun e => br_f (by decide) (br_t e (h1 e))) (fun len C R j et hj ex => br_f (by decide) ?_) (fun e e2 => br_t rfl (h0 e e2))
  subst et
  obtain ⟨_, hl, hr, _⟩ := htr
  subst ex
  refine br_f (nI_nm1 (by omega)) ⟨vp_in_nI (by omega) (by omega), ?_⟩
  rw [nI_clamp (by omega), (hr j hj).2.2.1]
  exact h2 len C R j rfl hj rfl
theorem sm_o {w : List Nat} {n : Nat} (h : w.length ≤ n) (hn : n < 2 ^ 31) : sm_an w (nI n) = 0 := by
  unfold sm_an
  rw [if_neg (nI_pos hn), nI_clamp hn, List.getD_eq_getElem?_getD, List.getElem?_eq_none h]
  rfl
theorem sm_i {w : List Nat} {n : Nat} (hn : n < 2 ^ 31) : sm_an w (nI n) = nI (w.getD n 0) := by
  unfold sm_an
  rw [if_neg (nI_pos hn), nI_clamp hn]
theorem xd_sym {post : Int32 → Prop} {x y : Int32} {w : List Nat} {tl : tr_L} (htr : xr_Tr tl f_traceSize a_traceRules a_traceStates a_traceHeights a_traceStacks) (hl : w.length ≤ 12) (hk : st_Stk a_hereStack 0 w) (h1 : x = -1 → post (sm_an w y)) (h2 : ∀ len C R j, tl = some (len, C, R) → j ≤ len → x = nI j → post (sm_an (C j).2 y)) (h0 : ¬ x = -1 → (∀ len C R j, tl = some (len, C, R) → j ≤ len → ¬ x = nI j) → post (-3)) : wpX_symbol post (f_unreached, nI nS, nI nG, nI nN, nI nR, f_hereState, nI w.length, f_toSolved, f_fromSolved, f_toCount, f_fromCount, f_traceSize, f_workState, f_workHeight, a_ruleUsed, a_ruleFrom, a_ruleSymbol, a_ruleTo, a_ruleTop, a_ruleBelow, a_edges, a_finals, a_hereStack, a_weights, a_traceRules, a_traceStates, a_traceHeights, a_traceStacks, a_workStack, a_vector, a_nextVector, a_marked, a_nextMarked) x y := by
  unfold wpX_symbol
  refine xd_vp htr (fun e => br_f (by decide) ?_) (fun len C R j et hj ex => br_f (by decide) ?_) (fun e e2 => br_t rfl (h0 e e2))
  · refine xd_hei htr (fun _ => ?_) (fun len C R j et hj ex => ?_) (fun e2 _ => absurd e e2)
    · have h3 := h1 e
      refine br_c (fun z => ?_) (fun z => ?_)
      · unfold sm_an at h3; rw [if_pos z] at h3; exact h3
      · obtain ⟨n, hn, rfl⟩ := nI_of z
        have ex : (nI w.length - 1) - nI n = nI (w.length - 1 - n) ∨ w.length ≤ n := by
          by_cases hlt : n < w.length
          · left
            show (nI w.length - nI 1) - nI n = _
            rw [pk_sub (by omega), pk_sub (by omega)]
          · right; omega
        refine pk_lt n w.length (fun hlt => nm_r (e' := nI (w.length - 1 - n)) (by rcases ex with ex | ex; exact ex; omega) (br_t e ⟨vp_in_nI (by omega) (by omega), ?_⟩)) (fun hge => ?_)
        · have hg := st_stk_get hk n hlt
          rw [Nat.zero_add] at hg
          rw [nI_clamp (by omega), hg]
          rw [sm_i hn] at h3
          exact h3
        · rw [sm_o hge hn] at h3; exact h3
    · rw [e] at ex
      have hl2 : len ≤ 20 := by subst et; exact htr.2.1
      exact absurd ex.symm (nI_nm1 (by omega))
  · have hlen20 : len ≤ 20 := by
      subst et
      exact htr.2.1
    have hne : ¬ x = -1 := by rw [ex]; exact nI_nm1 (by omega)
    refine xd_hei htr (fun e => absurd e hne) (fun len' C' R' j' et' hj' ex' => ?_) (fun _ e2 => absurd ex (e2 len C R j et hj))
    rw [et] at et'
    injection et' with et'
    injection et' with e1 et'
    injection et' with e2 _
    subst e1 e2
    have ej : j' = j := by
      rw [ex, nI_eq (by omega) (by omega)] at ex'
      omega
    subst ej
    have h3 := h2 len C R j' et hj ex
    subst et
    obtain ⟨_, hl, hr, _⟩ := htr
    have hrj := hr j' hj
    refine br_c (fun z => ?_) (fun z => ?_)
    · unfold sm_an at h3; rw [if_pos z] at h3; exact h3
    · obtain ⟨n, hn, rfl⟩ := nI_of z
      refine pk_lt n (C j').2.length (fun hlt => nm_r (e' := nI ((C j').2.length - 1 - n)) ?_ (br_f hne ?_)) (fun hge => ?_)
      · show (nI (C j').2.length - nI 1) - nI n = _
        rw [pk_sub (by omega), pk_sub (by omega)]
      · have e5 : (x * 32) + nI ((C j').2.length - 1 - n) = nI (j' * 32 + ((C j').2.length - 1 - n)) := by
          rw [ex]
          show (nI j' * nI 32) + _ = _
          rw [pk_mul, nI_add]
        have hg := st_stk_get hrj.2.2.2 n hlt
        rw [e5, nI_clamp (by omega), hg]
        rw [sm_i hn] at h3
        exact ⟨vp_in_nI (by omega) (by omega), h3⟩
      · rw [sm_o hge hn] at h3; exact h3
theorem xd_tl {post : Int32 → Prop} {tl : tr_L} (htr : xr_Tr tl f_traceSize a_traceRules a_traceStates a_traceHeights a_traceStacks) (h : post (tl_an tl)) : wpX_traceLength post (f_unreached, nI nS, nI nG, nI nN, nI nR, f_hereState, f_hereHeight, f_toSolved, f_fromSolved, f_toCount, f_fromCount, f_traceSize, f_workState, f_workHeight, a_ruleUsed, a_ruleFrom, a_ruleSymbol, a_ruleTo, a_ruleTop, a_ruleBelow, a_edges, a_finals, a_hereStack, a_weights, a_traceRules, a_traceStates, a_traceHeights, a_traceStacks, a_workStack, a_vector, a_nextVector, a_marked, a_nextMarked) := by
  match tl, htr, h with
  | none, htr, h =>
    have e : f_traceSize = -1 := htr
    subst e
    exact br_f (by decide) h
  | some (len, C, R), htr, h =>
    obtain ⟨e, hl, _⟩ := htr
    subst e
    exact br_t (nI_pos' (by omega)) h
theorem xd_trr {post : Int32 → Prop} {x : Int32} {tl : tr_L} (htr : xr_Tr tl f_traceSize a_traceRules a_traceStates a_traceHeights a_traceStacks) (h2 : ∀ len C R j, tl = some (len, C, R) → j < len → x = nI j → post (nI (R j))) (h0 : (∀ len C R j, tl = some (len, C, R) → j < len → ¬ x = nI j) → post (-1)) : wpX_traceRule post (f_unreached, nI nS, nI nG, nI nN, nI nR, f_hereState, f_hereHeight, f_toSolved, f_fromSolved, f_toCount, f_fromCount, f_traceSize, f_workState, f_workHeight, a_ruleUsed, a_ruleFrom, a_ruleSymbol, a_ruleTo, a_ruleTop, a_ruleBelow, a_edges, a_finals, a_hereStack, a_weights, a_traceRules, a_traceStates, a_traceHeights, a_traceStacks, a_workStack, a_vector, a_nextVector, a_marked, a_nextMarked) x := by
  match tl, htr, h2, h0 with
  | none, htr, h2, h0 =>
    have e : f_traceSize = -1 := htr
    subst e
    exact br_t (by decide) (h0 (fun _ _ _ _ z => nomatch z))
  | some (len, C, R), htr, h2, h0 =>
    obtain ⟨e, hl, _, hR⟩ := htr
    subst e
    refine br_f (nI_pos (by omega)) (br_c (fun z => h0 ?_) (fun z => ?_))
    · intro len' C' R' j e hj ex
      injection e with e
      injection e with e1 _
      rw [ex] at z
      exact absurd z (nI_pos (by omega))
    · obtain ⟨j, hj, rfl⟩ := nI_of z
      refine pk_lt j len (fun z => ⟨vp_in_nI (by omega) (by omega), ?_⟩) (fun z => h0 ?_)
      · rw [nI_clamp (by omega), hR j z]
        exact h2 len C R j rfl z rfl
      · intro len' C' R' j' e hj' ex
        injection e with e
        injection e with e1 _
        rw [nI_eq hj (by omega)] at ex
        omega
theorem xd_su_t {post : Int32 → Prop} {p g q : Nat} {W : sa_C → Nat} (ok : sy_ok nS nG nN nR T E F) (hW : wa_R 24 0 a_weights W) (hR : sa_Rg 1000000 W) (hp : p < nS) (hg : 1 ≤ g) (hg2 : g ≤ nG) (hq : q < nS) (h : post (ms_an 1000000 (W (p, g, q)))) : wpX_summary post (f_unreached, nI nS, nI nG, nI nN, nI nR, f_hereState, f_hereHeight, 1, f_fromSolved, f_toCount, f_fromCount, f_traceSize, f_workState, f_workHeight, a_ruleUsed, a_ruleFrom, a_ruleSymbol, a_ruleTo, a_ruleTop, a_ruleBelow, a_edges, a_finals, a_hereStack, a_weights, a_traceRules, a_traceStates, a_traceHeights, a_traceStacks, a_workStack, a_vector, a_nextVector, a_marked, a_nextMarked) (nI p) (nI g) (nI q) := by
  have hS : nS ≤ 4 := ok.2.2.2.2.1
  have hG : nG ≤ 4 := ok.2.2.2.2.2.2.1
  have hle := hR (p, g, q)
  unfold wpX_summary
  refine xb_st_t hS hp (br_f (by decide) (xb_sy_t hG hg hg2 (br_f (by decide) (xb_st_t hS hq (br_f (by decide) (br_f (by decide) ?_))))))
  refine xw_of (d := 0) (by omega) (by omega) (by omega) (by omega) (hW p g q (by omega) (by omega) (by omega)) ?_
  unfold ms_an at h
  refine pk_lt (W (p, g, q)) 1000000 (fun e => ?_) (fun e => ?_)
  · rw [if_pos e] at h; exact h
  · rw [if_neg (by omega)] at h; exact h
theorem xd_su_u {post : Int32 → Prop} {p g q : Nat} (ok : sy_ok nS nG nN nR T E F) (hp : p < nS) (hg : 1 ≤ g) (hg2 : g ≤ nG) (hq : q < nS) (h : post (-2)) : wpX_summary post (f_unreached, nI nS, nI nG, nI nN, nI nR, f_hereState, f_hereHeight, 0, f_fromSolved, f_toCount, f_fromCount, f_traceSize, f_workState, f_workHeight, a_ruleUsed, a_ruleFrom, a_ruleSymbol, a_ruleTo, a_ruleTop, a_ruleBelow, a_edges, a_finals, a_hereStack, a_weights, a_traceRules, a_traceStates, a_traceHeights, a_traceStacks, a_workStack, a_vector, a_nextVector, a_marked, a_nextMarked) (nI p) (nI g) (nI q) := by
  have hS : nS ≤ 4 := ok.2.2.2.2.1
  have hG : nG ≤ 4 := ok.2.2.2.2.2.2.1
  unfold wpX_summary
  exact xb_st_t hS hp (br_f (by decide) (xb_sy_t hG hg hg2 (br_f (by decide) (xb_st_t hS hq (br_f (by decide) (br_t rfl h))))))
theorem xd_su_f {post : Int32 → Prop} {v1 v2 v3 : Int32} (ok : sy_ok nS nG nN nR T E F) (hx : ∀ p g q, p < nS → 1 ≤ g → g ≤ nG → q < nS → v1 = nI p → v2 = nI g → ¬ v3 = nI q) (h : post (-3)) : wpX_summary post (f_unreached, nI nS, nI nG, nI nN, nI nR, f_hereState, f_hereHeight, f_toSolved, f_fromSolved, f_toCount, f_fromCount, f_traceSize, f_workState, f_workHeight, a_ruleUsed, a_ruleFrom, a_ruleSymbol, a_ruleTo, a_ruleTop, a_ruleBelow, a_edges, a_finals, a_hereStack, a_weights, a_traceRules, a_traceStates, a_traceHeights, a_traceStacks, a_workStack, a_vector, a_nextVector, a_marked, a_nextMarked) v1 v2 v3 := by
  have hG : nG ≤ 4 := ok.2.2.2.2.2.2.1
  have hS : nS ≤ 4 := ok.2.2.2.2.1
  unfold wpX_summary
  by_cases h1 : ∃ p, p < nS ∧ v1 = nI p
  · obtain ⟨p, hp, rfl⟩ := h1
    refine xb_st_t hS hp (br_f (by decide) ?_)
    by_cases h2 : ∃ g, 1 ≤ g ∧ g ≤ nG ∧ v2 = nI g
    · obtain ⟨g, hg, hg2, rfl⟩ := h2
      refine xb_sy_t hG hg hg2 (br_f (by decide) ?_)
      exact xb_st_f hS (fun q hq e => hx p g q hp hg hg2 hq rfl rfl e) (br_t rfl h)
    · exact xb_sy_f hG (fun n hn hn2 e => h2 ⟨n, hn, hn2, e⟩) (br_t rfl h)
  · exact xb_st_f hS (fun n hn e => h1 ⟨n, hn, e⟩) (br_t rfl h)
theorem xd_is {post : Int32 → Prop} {d : Nat} {b : Bool} (hd : d < 2) (hb : xr_sv d f_toSolved f_fromSolved = st_b b) (h : post (st_b b)) : wpX_isSolved post (f_unreached, nI nS, nI nG, nI nN, nI nR, f_hereState, f_hereHeight, f_toSolved, f_fromSolved, f_toCount, f_fromCount, f_traceSize, f_workState, f_workHeight, a_ruleUsed, a_ruleFrom, a_ruleSymbol, a_ruleTo, a_ruleTop, a_ruleBelow, a_edges, a_finals, a_hereStack, a_weights, a_traceRules, a_traceStates, a_traceHeights, a_traceStacks, a_workStack, a_vector, a_nextVector, a_marked, a_nextMarked) (nI (d + 1)) := by
  match d, hb with
  | 0, hb =>
    have e : f_toSolved = st_b b := hb
    subst e
    exact br_t rfl ⟨st_nrw b, h⟩
  | 1, hb =>
    have e : f_fromSolved = st_b b := hb
    subst e
    exact br_f (by decide) ⟨st_nrw b, h⟩
theorem xd_di0 {post : Int32 → SX → Prop} {d : Nat} (hd : d < 2) (hb : xr_sv d f_toSolved f_fromSolved = st_b false) (h : post (-2) (f_unreached, nI nS, nI nG, nI nN, nI nR, f_hereState, f_hereHeight, f_toSolved, f_fromSolved, f_toCount, f_fromCount, f_traceSize, f_workState, f_workHeight, a_ruleUsed, a_ruleFrom, a_ruleSymbol, a_ruleTo, a_ruleTop, a_ruleBelow, a_edges, a_finals, a_hereStack, a_weights, a_traceRules, a_traceStates, a_traceHeights, a_traceStacks, a_workStack, a_vector, a_nextVector, a_marked, a_nextMarked)) : wpX_distance post (f_unreached, nI nS, nI nG, nI nN, nI nR, f_hereState, f_hereHeight, f_toSolved, f_fromSolved, f_toCount, f_fromCount, f_traceSize, f_workState, f_workHeight, a_ruleUsed, a_ruleFrom, a_ruleSymbol, a_ruleTo, a_ruleTop, a_ruleBelow, a_edges, a_finals, a_hereStack, a_weights, a_traceRules, a_traceStates, a_traceHeights, a_traceStacks, a_workStack, a_vector, a_nextVector, a_marked, a_nextMarked) (nI (d + 1)) := by
  have h13 : wX_distance_13 post (nI (d + 1)) f_unreached (nI nS) (nI nG) (nI nN) (nI nR) f_hereState f_hereHeight f_toSolved f_fromSolved f_toCount f_fromCount f_traceSize f_workState f_workHeight a_ruleUsed a_ruleFrom a_ruleSymbol a_ruleTo a_ruleTop a_ruleBelow a_edges a_finals a_hereStack a_weights a_traceRules a_traceStates a_traceHeights a_traceStacks a_workStack a_vector a_nextVector a_marked a_nextMarked := by
    unfold wX_distance_13
    exact xd_is hd hb (br_t rfl h)
  exact pk_eq (d + 1) 1 (fun _ => h13) (fun e => pk_eq (d + 1) 2 (fun _ => h13) (fun e2 => absurd e2 (by omega)))
theorem xd_tr0 {post : Int32 → SX → Prop} {d : Nat} (hd : d < 2) (hb : xr_sv d f_toSolved f_fromSolved = st_b false) (h : post (-2) (f_unreached, nI nS, nI nG, nI nN, nI nR, f_hereState, f_hereHeight, f_toSolved, f_fromSolved, f_toCount, f_fromCount, f_traceSize, f_workState, f_workHeight, a_ruleUsed, a_ruleFrom, a_ruleSymbol, a_ruleTo, a_ruleTop, a_ruleBelow, a_edges, a_finals, a_hereStack, a_weights, a_traceRules, a_traceStates, a_traceHeights, a_traceStacks, a_workStack, a_vector, a_nextVector, a_marked, a_nextMarked)) : wpX_trace post (f_unreached, nI nS, nI nG, nI nN, nI nR, f_hereState, f_hereHeight, f_toSolved, f_fromSolved, f_toCount, f_fromCount, f_traceSize, f_workState, f_workHeight, a_ruleUsed, a_ruleFrom, a_ruleSymbol, a_ruleTo, a_ruleTop, a_ruleBelow, a_edges, a_finals, a_hereStack, a_weights, a_traceRules, a_traceStates, a_traceHeights, a_traceStacks, a_workStack, a_vector, a_nextVector, a_marked, a_nextMarked) (nI (d + 1)) := by
  have h13 : wX_trace_13 post (nI (d + 1)) f_unreached (nI nS) (nI nG) (nI nN) (nI nR) f_hereState f_hereHeight f_toSolved f_fromSolved f_toCount f_fromCount f_traceSize f_workState f_workHeight a_ruleUsed a_ruleFrom a_ruleSymbol a_ruleTo a_ruleTop a_ruleBelow a_edges a_finals a_hereStack a_weights a_traceRules a_traceStates a_traceHeights a_traceStacks a_workStack a_vector a_nextVector a_marked a_nextMarked := by
    unfold wX_trace_13
    exact xd_is hd hb (br_t rfl h)
  exact pk_eq (d + 1) 1 (fun _ => h13) (fun e => pk_eq (d + 1) 2 (fun _ => h13) (fun e2 => absurd e2 (by omega)))
theorem xd_di {post : Int32 → SX → Prop} {d p : Nat} {w : List Nat} {W : sa_C → Nat} (ok : sy_ok nS nG nN nR T E F) (hd : d < 2) (hb : xr_sv d f_toSolved f_fromSolved = st_b true) (hW : wa_R 24 d a_weights W) (hF : sa_Fx 1000000 (sy_XI d nN T E) W) (hfi : xr_Fi F a_finals) (hc : tr_ok nS nG (p, w)) (hl : w.length ≤ 12) (hk : st_Stk a_hereStack 0 w) (h : ∀ (f1 f2 : Int32) (S V N : Nat → Int32), post (ms_an 1000000 (ms_X W F p w)) (f_unreached, nI nS, nI nG, nI nN, nI nR, nI p, nI w.length, f_toSolved, f_fromSolved, f_toCount, f_fromCount, f_traceSize, f1, f2, a_ruleUsed, a_ruleFrom, a_ruleSymbol, a_ruleTo, a_ruleTop, a_ruleBelow, a_edges, a_finals, a_hereStack, a_weights, a_traceRules, a_traceStates, a_traceHeights, a_traceStacks, S, V, N, a_marked, a_nextMarked)) : wpX_distance post (f_unreached, nI nS, nI nG, nI nN, nI nR, nI p, nI w.length, f_toSolved, f_fromSolved, f_toCount, f_fromCount, f_traceSize, f_workState, f_workHeight, a_ruleUsed, a_ruleFrom, a_ruleSymbol, a_ruleTo, a_ruleTop, a_ruleBelow, a_edges, a_finals, a_hereStack, a_weights, a_traceRules, a_traceStates, a_traceHeights, a_traceStacks, a_workStack, a_vector, a_nextVector, a_marked, a_nextMarked) (nI (d + 1)) := by
  have hle : ms_X W F p w ≤ 1000000 := by have := (xq_Rp ok hc hF).1; omega
  have h13 : wX_distance_13 post (nI (d + 1)) f_unreached (nI nS) (nI nG) (nI nN) (nI nR) (nI p) (nI w.length) f_toSolved f_fromSolved f_toCount f_fromCount f_traceSize f_workState f_workHeight a_ruleUsed a_ruleFrom a_ruleSymbol a_ruleTo a_ruleTop a_ruleBelow a_edges a_finals a_hereStack a_weights a_traceRules a_traceStates a_traceHeights a_traceStacks a_workStack a_vector a_nextVector a_marked a_nextMarked := by
    unfold wX_distance_13
    refine xd_is hd hb (br_f (by decide) ?_)
    refine xq_hm ok hd hW hF hfi hc hl hk ?_
    intro S V N
    have h2 := h (nI p) (nI w.length) S V N
    unfold ms_an at h2
    refine pk_lt (ms_X W F p w) 1000000 (fun e => ?_) (fun e => ?_)
    · rw [if_pos e] at h2; exact h2
    · rw [if_neg (by omega)] at h2; exact h2
  exact pk_eq (d + 1) 1 (fun _ => h13) (fun e => pk_eq (d + 1) 2 (fun _ => h13) (fun e2 => absurd e2 (by omega)))
/-- rows of the kept trace, both ways -/
def tr_C' (d len : Nat) (C : Nat → tr_C) : Nat → tr_C := match d with
  | 0 => C
  | _ + 1 => fun j => C (len - j)
def tr_R' (d len : Nat) (R : Nat → Nat) : Nat → Nat := match d with
  | 0 => R
  | _ + 1 => fun j => R (len - 1 - j)
theorem xd_tr {post : Int32 → SX → Prop} {d p : Nat} {w : List Nat} {W : sa_C → Nat} (ok : sy_ok nS nG nN nR T E F) (hru : xr_Ru T a_ruleUsed a_ruleFrom a_ruleSymbol a_ruleTo a_ruleTop a_ruleBelow) (hd : d < 2) (hb : xr_sv d f_toSolved f_fromSolved = st_b true) (hW : wa_R 24 d a_weights W) (hF : sa_Fx 1000000 (sy_XI d nN T E) W) (hfi : xr_Fi F a_finals) (hc : tr_ok nS nG (p, w)) (hl : w.length ≤ 12) (hk : st_Stk a_hereStack 0 w)
    (h0 : 1000000 ≤ ms_X W F p w → ∀ (f1 f2 : Int32) (S V N : Nat → Int32), post (-1) (f_unreached, nI nS, nI nG, nI nN, nI nR, nI p, nI w.length, f_toSolved, f_fromSolved, f_toCount, f_fromCount, f_traceSize, f1, f2, a_ruleUsed, a_ruleFrom, a_ruleSymbol, a_ruleTo, a_ruleTop, a_ruleBelow, a_edges, a_finals, a_hereStack, a_weights, a_traceRules, a_traceStates, a_traceHeights, a_traceStacks, S, V, N, a_marked, a_nextMarked))
    (h5 : ms_X W F p w < 1000000 → 20 < ms_X W F p w → ∀ (f1 f2 : Int32) (S V N : Nat → Int32), post (-5) (f_unreached, nI nS, nI nG, nI nN, nI nR, nI p, nI w.length, f_toSolved, f_fromSolved, f_toCount, f_fromCount, f_traceSize, f1, f2, a_ruleUsed, a_ruleFrom, a_ruleSymbol, a_ruleTo, a_ruleTop, a_ruleBelow, a_edges, a_finals, a_hereStack, a_weights, a_traceRules, a_traceStates, a_traceHeights, a_traceStacks, S, V, N, a_marked, a_nextMarked))
    (C : Nat → tr_C) (R : Nat → Nat) (hC0 : C 0 = (p, w)) (hnx : ms_X W F p w ≤ 20 → ∀ i, i < ms_X W F p w → tr_Nx (sy_fw d) T E F (ms_X W F p w - 1 - i) (C i) (R i) (C (i + 1)))
    (h1 : ms_X W F p w ≤ 20 → ∀ (f1 f2 : Int32) (S V N TR St H K : Nat → Int32), (∀ j, j ≤ ms_X W F p w → (tr_C' d (ms_X W F p w) C j).2.length ≤ 32 ∧ xt_Row St H K j (tr_C' d (ms_X W F p w) C j)) → (∀ j, j < ms_X W F p w → TR j = nI (tr_R' d (ms_X W F p w) R j)) → post (nI (ms_X W F p w)) (f_unreached, nI nS, nI nG, nI nN, nI nR, nI p, nI w.length, f_toSolved, f_fromSolved, f_toCount, f_fromCount, nI (ms_X W F p w), f1, f2, a_ruleUsed, a_ruleFrom, a_ruleSymbol, a_ruleTo, a_ruleTop, a_ruleBelow, a_edges, a_finals, a_hereStack, a_weights, TR, St, H, K, S, V, N, a_marked, a_nextMarked)) : wpX_trace post (f_unreached, nI nS, nI nG, nI nN, nI nR, nI p, nI w.length, f_toSolved, f_fromSolved, f_toCount, f_fromCount, f_traceSize, f_workState, f_workHeight, a_ruleUsed, a_ruleFrom, a_ruleSymbol, a_ruleTo, a_ruleTop, a_ruleBelow, a_edges, a_finals, a_hereStack, a_weights, a_traceRules, a_traceStates, a_traceHeights, a_traceStacks, a_workStack, a_vector, a_nextVector, a_marked, a_nextMarked) (nI (d + 1)) := by
  have hle : ms_X W F p w ≤ 1000000 := by have := (xq_Rp ok hc hF).1; omega
  have h13 : wX_trace_13 post (nI (d + 1)) f_unreached (nI nS) (nI nG) (nI nN) (nI nR) (nI p) (nI w.length) f_toSolved f_fromSolved f_toCount f_fromCount f_traceSize f_workState f_workHeight a_ruleUsed a_ruleFrom a_ruleSymbol a_ruleTo a_ruleTop a_ruleBelow a_edges a_finals a_hereStack a_weights a_traceRules a_traceStates a_traceHeights a_traceStacks a_workStack a_vector a_nextVector a_marked a_nextMarked := by
    unfold wX_trace_13
    refine xd_is hd hb (br_f (by decide) ?_)
    refine xq_hm ok hd hW hF hfi hc hl hk ?_
    intro S V N
    refine pk_lt (ms_X W F p w) 1000000 (fun e => pk_le (ms_X W F p w) 20 (fun e2 => ?_) (fun e2 => h5 e e2 _ _ S V N)) (fun e => h0 e _ _ S V N)
    have hok := tr_seq_ok ok (C := C) (R := R) (fw := sy_fw d) (by rw [hC0]; exact hc) (hnx e2)
    have hC : ∀ i, i ≤ ms_X W F p w → tr_ok nS nG (C i) ∧ (C i).2.length ≤ 12 + i := by
      intro i hi
      have := hok i hi
      rw [hC0] at this
      refine ⟨this.1, ?_⟩
      have h3 := this.2
      dsimp only at h3
      omega
    match d, hnx, h1, hF, hW, hd with
    | 0, hnx, h1, hF, hW, hd =>
      refine br_t rfl ?_
      refine xt_tf ok hru hfi hW hF e2 hC0 hl hk hC (hnx e2) ?_
      intro f1 f2 S V N TR St H K hr ht
      exact h1 e2 f1 f2 S V N TR St H K (fun j hj => ⟨by have := hC j hj; show (C j).2.length ≤ 32; omega, hr j hj⟩) ht
    | 1, hnx, h1, hF, hW, hd =>
      refine br_f (by decide) ?_
      refine xt_tb ok hru hfi hW hF e2 hC0 hl hk hC (hnx e2) ?_
      intro f1 f2 S V N TR St H K hr ht
      exact h1 e2 f1 f2 S V N TR St H K (fun j hj => ⟨by have := hC (ms_X W F p w - j) (by omega); show (C (ms_X W F p w - j)).2.length ≤ 32; omega, hr j hj⟩) ht
  exact pk_eq (d + 1) 1 (fun _ => h13) (fun e => pk_eq (d + 1) 2 (fun _ => h13) (fun e2 => absurd e2 (by omega)))
end
end
section
/-! Y: the small methods -/
section
variable {nS nG nN nR : Nat} {g_traceLen g_changed : Int32} {b_used b_ruleP b_ruleG b_ruleQ b_ruleU b_edge b_fin b_solved b_weight b_reach b_rowState b_rowHeight b_rowStack b_traceRules : Nat → Int32}
variable {T : sy_T} {E : sy_E} {F : sy_F}
theorem yb_st_t {post : Int32 → Prop} {q : Nat} (hS : nS ≤ 4) (hq : q < nS) (h : post 1) : wpY_isState post (nI nS, nI nG, nI nN, nI nR, g_traceLen, g_changed, b_used, b_ruleP, b_ruleG, b_ruleQ, b_ruleU, b_edge, b_fin, b_solved, b_weight, b_reach, b_rowState, b_rowHeight, b_rowStack, b_traceRules) (nI q) := yb_st hS (fun _ _ _ => h) (fun hn => absurd rfl (hn q hq))
theorem yb_st_f {post : Int32 → Prop} {x : Int32} (hS : nS ≤ 4) (hx : ∀ n, n < nS → ¬ x = nI n) (h : post 0) : wpY_isState post (nI nS, nI nG, nI nN, nI nR, g_traceLen, g_changed, b_used, b_ruleP, b_ruleG, b_ruleQ, b_ruleU, b_edge, b_fin, b_solved, b_weight, b_reach, b_rowState, b_rowHeight, b_rowStack, b_traceRules) x := yb_st hS (fun n hn e => absurd e (hx n hn)) (fun _ => h)
theorem yb_nd_t {post : Int32 → Prop} {q : Nat} (hN : nN ≤ 8) (hq : q < nN) (h : post 1) : wpY_isNode post (nI nS, nI nG, nI nN, nI nR, g_traceLen, g_changed, b_used, b_ruleP, b_ruleG, b_ruleQ, b_ruleU, b_edge, b_fin, b_solved, b_weight, b_reach, b_rowState, b_rowHeight, b_rowStack, b_traceRules) (nI q) := yb_nd hN (fun _ _ _ => h) (fun hn => absurd rfl (hn q hq))
theorem yb_nd_f {post : Int32 → Prop} {x : Int32} (hN : nN ≤ 8) (hx : ∀ n, n < nN → ¬ x = nI n) (h : post 0) : wpY_isNode post (nI nS, nI nG, nI nN, nI nR, g_traceLen, g_changed, b_used, b_ruleP, b_ruleG, b_ruleQ, b_ruleU, b_edge, b_fin, b_solved, b_weight, b_reach, b_rowState, b_rowHeight, b_rowStack, b_traceRules) x := yb_nd hN (fun n hn e => absurd e (hx n hn)) (fun _ => h)
theorem yb_sy_t {post : Int32 → Prop} {q : Nat} (hG : nG ≤ 4) (hq : 1 ≤ q) (hq2 : q ≤ nG) (h : post 1) : wpY_isSymbol post (nI nS, nI nG, nI nN, nI nR, g_traceLen, g_changed, b_used, b_ruleP, b_ruleG, b_ruleQ, b_ruleU, b_edge, b_fin, b_solved, b_weight, b_reach, b_rowState, b_rowHeight, b_rowStack, b_traceRules) (nI q) := yb_sy hG (fun _ _ _ _ => h) (fun hn => absurd rfl (hn q hq hq2))
theorem yb_sy_f {post : Int32 → Prop} {x : Int32} (hG : nG ≤ 4) (hx : ∀ n, 1 ≤ n → n ≤ nG → ¬ x = nI n) (h : post 0) : wpY_isSymbol post (nI nS, nI nG, nI nN, nI nR, g_traceLen, g_changed, b_used, b_ruleP, b_ruleG, b_ruleQ, b_ruleU, b_edge, b_fin, b_solved, b_weight, b_reach, b_rowState, b_rowHeight, b_rowStack, b_traceRules) x := yb_sy hG (fun n hn hn2 e => absurd e (hx n hn hn2)) (fun _ => h)
theorem yb_ed_t {post : Int32 → Prop} {f g t : Nat} (ok : sy_ok nS nG nN nR T E F) (hf : f < nN) (hg : 1 ≤ g) (hg2 : g ≤ nG) (ht : nS ≤ t) (ht2 : t < nN) (h : post 1) : wpY_isEdge post (nI nS, nI nG, nI nN, nI nR, g_traceLen, g_changed, b_used, b_ruleP, b_ruleG, b_ruleQ, b_ruleU, b_edge, b_fin, b_solved, b_weight, b_reach, b_rowState, b_rowHeight, b_rowStack, b_traceRules) (nI f) (nI g) (nI t) := yb_ed ok (fun _ _ _ _ _ _ _ _ _ _ _ => h) (fun hn => absurd rfl (hn f g t hf hg hg2 ht ht2 rfl rfl))
theorem yb_ed_f {post : Int32 → Prop} {x y z : Int32} (ok : sy_ok nS nG nN nR T E F) (hx : ∀ f g t, f < nN → 1 ≤ g → g ≤ nG → nS ≤ t → t < nN → x = nI f → y = nI g → ¬ z = nI t) (h : post 0) : wpY_isEdge post (nI nS, nI nG, nI nN, nI nR, g_traceLen, g_changed, b_used, b_ruleP, b_ruleG, b_ruleQ, b_ruleU, b_edge, b_fin, b_solved, b_weight, b_reach, b_rowState, b_rowHeight, b_rowStack, b_traceRules) x y z := yb_ed ok (fun f g t h1 h2 h3 h4 h5 e1 e2 e3 => absurd e3 (hx f g t h1 h2 h3 h4 h5 e1 e2)) (fun _ => h)
theorem yb_wd_t {post : Int32 → Prop} {u : List Nat} (hG : nG ≤ 4) (hu : sy_wd nG u) (h : post 1) : wpY_isWord post (nI nS, nI nG, nI nN, nI nR, g_traceLen, g_changed, b_used, b_ruleP, b_ruleG, b_ruleQ, b_ruleU, b_edge, b_fin, b_solved, b_weight, b_reach, b_rowState, b_rowHeight, b_rowStack, b_traceRules) (nI (st_cd u)) := by
  rcases hu with e | ⟨a, e, ha⟩ | ⟨a, b, e, ha, ha2, hb, hb2⟩
  · subst e
    exact br_t (by decide) (br_t rfl h)
  · subst e
    refine br_t (nI_pos' (show a < 2 ^ 31 by omega)) (br_f (nI_ne0 (show 0 < a by omega) (show a < 2 ^ 31 by omega)) ?_)
    refine pk_le 10 a (fun z => absurd z (by omega)) (fun _ => ?_)
    exact yb_sy_t hG ha.1 ha.2 ⟨st_nrw true, h⟩
  · subst e
    have hw := st_w10 (a := a) (b := b) (by omega) (by omega)
    refine br_t (nI_pos' (show 10 * a + b < 2 ^ 31 by omega)) (br_f (nI_ne0 (show 0 < 10 * a + b by omega) (show 10 * a + b < 2 ^ 31 by omega)) ?_)
    refine pk_le 10 (10 * a + b) (fun _ => ⟨by decide, ?_⟩) (fun z => absurd z (by omega))
    have hs : wpY_isSymbol (fun r_28 => ((r_28 = 0 → post 0) ∧ (¬ r_28 = 0 → post 1))) (nI nS, nI nG, nI nN, nI nR, g_traceLen, g_changed, b_used, b_ruleP, b_ruleG, b_ruleQ, b_ruleU, b_edge, b_fin, b_solved, b_weight, b_reach, b_rowState, b_rowHeight, b_rowStack, b_traceRules) (nI (10 * a + b) - nI (10 * a + b) / 10 * 10) := by
      rw [hw.2]
      exact yb_sy_t hG hb hb2 (br_f (by decide) h)
    show wpY_isSymbol _ (nI nS, nI nG, nI nN, nI nR, g_traceLen, g_changed, b_used, b_ruleP, b_ruleG, b_ruleQ, b_ruleU, b_edge, b_fin, b_solved, b_weight, b_reach, b_rowState, b_rowHeight, b_rowStack, b_traceRules) (nI (10 * a + b) / 10)
    rw [hw.1]
    exact yb_sy_t hG ha ha2 (br_f (by decide) ⟨by decide, hs⟩)
theorem yb_wd_f {post : Int32 → Prop} {x : Int32} (hG : nG ≤ 4) (hx : ∀ u, sy_wd nG u → ¬ x = nI (st_cd u)) (h : post 0) : wpY_isWord post (nI nS, nI nG, nI nN, nI nR, g_traceLen, g_changed, b_used, b_ruleP, b_ruleG, b_ruleQ, b_ruleU, b_edge, b_fin, b_solved, b_weight, b_reach, b_rowState, b_rowHeight, b_rowStack, b_traceRules) x := by
  refine br_c (fun _ => br_f (hx [] (Or.inl rfl)) (br_c (fun _ => ⟨by decide, ?_⟩) (fun _ => ?_))) (fun _ => h)
  · by_cases ha : ∃ a, 1 ≤ a ∧ a ≤ nG ∧ x / 10 = nI a
    · obtain ⟨a, ha1, ha2, ea⟩ := ha
      by_cases hb : ∃ b, 1 ≤ b ∧ b ≤ nG ∧ x - x / 10 * 10 = nI b
      · obtain ⟨b, hb1, hb2, eb⟩ := hb
        exact absurd (st_w10n ea eb) (hx [a, b] (Or.inr (Or.inr ⟨a, b, rfl, ha1, ha2, hb1, hb2⟩)))
      · have hs : wpY_isSymbol (fun r_28 => ((r_28 = 0 → post 0) ∧ (¬ r_28 = 0 → post 1))) (nI nS, nI nG, nI nN, nI nR, g_traceLen, g_changed, b_used, b_ruleP, b_ruleG, b_ruleQ, b_ruleU, b_edge, b_fin, b_solved, b_weight, b_reach, b_rowState, b_rowHeight, b_rowStack, b_traceRules) (x - x / 10 * 10) := yb_sy_f hG (fun n h1 h2 e => hb ⟨n, h1, h2, e⟩) (br_t rfl h)
        rw [ea] at hs ⊢
        exact yb_sy_t hG ha1 ha2 (br_f (by decide) ⟨by decide, hs⟩)
    · exact yb_sy_f hG (fun n h1 h2 e => ha ⟨n, h1, h2, e⟩) (br_t rfl h)
  · exact yb_sy_f hG (fun n hn hn2 => hx [n] (Or.inr (Or.inl ⟨n, rfl, hn, hn2⟩))) ⟨st_nrw false, h⟩
theorem yb_edi {post : SY → Prop} (h : ∀ S : Nat → Int32, S 1 = 0 → S 2 = 0 → post (nI nS, nI nG, nI nN, nI nR, -1, g_changed, b_used, b_ruleP, b_ruleG, b_ruleQ, b_ruleU, b_edge, b_fin, S, b_weight, b_reach, b_rowState, b_rowHeight, b_rowStack, b_traceRules)) : wpY_edited post (nI nS, nI nG, nI nN, nI nR, g_traceLen, g_changed, b_used, b_ruleP, b_ruleG, b_ruleQ, b_ruleU, b_edge, b_fin, b_solved, b_weight, b_reach, b_rowState, b_rowHeight, b_rowStack, b_traceRules) := nm_e (nm_e (h _ rfl rfl))
theorem yd_39 {post : Int32 → SY → Prop} {p g q : Nat} {x4 : Int32} (ok : sy_ok nS nG nN nR T E F) (hru : yr_Ru T b_used b_ruleP b_ruleG b_ruleQ b_ruleU) (h0 : (∀ r, r < nR → T r ≠ none) → post (-4) (nI nS, nI nG, nI nN, nI nR, g_traceLen, g_changed, b_used, b_ruleP, b_ruleG, b_ruleQ, b_ruleU, b_edge, b_fin, b_solved, b_weight, b_reach, b_rowState, b_rowHeight, b_rowStack, b_traceRules)) (h1 : ∀ s, s < nR → T s = none → (∀ r, r < s → T r ≠ none) → wpY_edited (fun u => post (nI s) u) (nI nS, nI nG, nI nN, nI nR, g_traceLen, g_changed, upd b_used s 1, upd b_ruleP s (nI p), upd b_ruleG s (nI g), upd b_ruleQ s (nI q), upd b_ruleU s x4, b_edge, b_fin, b_solved, b_weight, b_reach, b_rowState, b_rowHeight, b_rowStack, b_traceRules)) : ∀ k r, r + k = nR → (∀ r', r' < r → T r' ≠ none) → wY_addRule_39 post (nI p) (nI g) (nI q) x4 (nI nS) (nI nG) (nI nN) (nI nR) g_traceLen g_changed b_used b_ruleP b_ruleG b_ruleQ b_ruleU b_edge b_fin b_solved b_weight b_reach b_rowState b_rowHeight b_rowStack b_traceRules (k + 1) (nI r) := by
  have hR : nR ≤ 12 := ok.2.2.2.2.2.2.2.2.2.2
  intro k
  induction k with
  | zero =>
    intro r hr hu
    have e : r = nR := by omega
    subst e
    exact pk_le r r (fun _ => h0 hu) (fun z => absurd z (by omega))
  | succ k ih =>
    intro r hr hu
    have hin : vp_in (nI r) 12 := vp_in_nI (by omega) (by omega)
    refine pk_le nR r (fun z => absurd z (by omega)) (fun _ => ⟨hin, ?_⟩)
    rw [nI_clamp (by omega)]
    cases hT : T r with
    | none =>
      rw [(hru r (by omega)).1 hT]
      exact br_t rfl ⟨hin, nm_e ⟨hin, nm_e ⟨hin, nm_e ⟨hin, nm_e ⟨hin, nm_e (h1 r (by omega) hT hu)⟩⟩⟩⟩⟩
    | some c =>
      obtain ⟨p', g', q', u'⟩ := c
      rw [((hru r (by omega)).2 _ _ _ _ hT).1]
      refine br_f (by decide) (nm_r (nI_1 r) (ih (r + 1) (by omega) ?_))
      intro r' hr'
      by_cases e : r' = r
      · subst e; rw [hT]; exact fun z => nomatch z
      · exact hu r' (by omega)
theorem yd_ar_f {post : Int32 → SY → Prop} {v1 v2 v3 v4 : Int32} (ok : sy_ok nS nG nN nR T E F) (hx : ∀ p g q u, p < nS → 1 ≤ g → g ≤ nG → q < nS → sy_wd nG u → v1 = nI p → v2 = nI g → v3 = nI q → ¬ v4 = nI (st_cd u)) (h : post (-3) (nI nS, nI nG, nI nN, nI nR, g_traceLen, g_changed, b_used, b_ruleP, b_ruleG, b_ruleQ, b_ruleU, b_edge, b_fin, b_solved, b_weight, b_reach, b_rowState, b_rowHeight, b_rowStack, b_traceRules)) : wpY_addRule post (nI nS, nI nG, nI nN, nI nR, g_traceLen, g_changed, b_used, b_ruleP, b_ruleG, b_ruleQ, b_ruleU, b_edge, b_fin, b_solved, b_weight, b_reach, b_rowState, b_rowHeight, b_rowStack, b_traceRules) v1 v2 v3 v4 := by
  have hG : nG ≤ 4 := ok.2.2.2.2.2.2.1
  have hS : nS ≤ 4 := ok.2.2.2.2.1
  unfold wpY_addRule
  by_cases h1 : ∃ p, p < nS ∧ v1 = nI p
  · obtain ⟨p, hp, rfl⟩ := h1
    refine yb_st_t hS hp (br_f (by decide) ?_)
    by_cases h2 : ∃ g, 1 ≤ g ∧ g ≤ nG ∧ v2 = nI g
    · obtain ⟨g, hg, hg2, rfl⟩ := h2
      refine yb_sy_t hG hg hg2 (br_f (by decide) ?_)
      by_cases h3 : ∃ q, q < nS ∧ v3 = nI q
      · obtain ⟨q, hq, rfl⟩ := h3
        refine yb_st_t hS hq (br_f (by decide) ?_)
        exact yb_wd_f hG (fun u hu => hx p g q u hp hg hg2 hq hu rfl rfl rfl) (br_t rfl h)
      · exact yb_st_f hS (fun n hn e => h3 ⟨n, hn, e⟩) (br_t rfl h)
    · exact yb_sy_f hG (fun n hn hn2 e => h2 ⟨n, hn, hn2, e⟩) (br_t rfl h)
  · exact yb_st_f hS (fun n hn e => h1 ⟨n, hn, e⟩) (br_t rfl h)
theorem yd_ar {post : Int32 → SY → Prop} {p g q : Nat} {u : List Nat} (ok : sy_ok nS nG nN nR T E F) (hru : yr_Ru T b_used b_ruleP b_ruleG b_ruleQ b_ruleU) (hp : p < nS) (hg : 1 ≤ g) (hg2 : g ≤ nG) (hq : q < nS) (hu : sy_wd nG u) (h0 : (∀ r, r < nR → T r ≠ none) → post (-4) (nI nS, nI nG, nI nN, nI nR, g_traceLen, g_changed, b_used, b_ruleP, b_ruleG, b_ruleQ, b_ruleU, b_edge, b_fin, b_solved, b_weight, b_reach, b_rowState, b_rowHeight, b_rowStack, b_traceRules)) (h1 : ∀ s, s < nR → T s = none → (∀ r, r < s → T r ≠ none) → ∀ us fr sy to wd S : Nat → Int32, yr_Ru (sy_add T s (some (p, g, q, u))) us fr sy to wd → S 1 = 0 → S 2 = 0 → post (nI s) (nI nS, nI nG, nI nN, nI nR, -1, g_changed, us, fr, sy, to, wd, b_edge, b_fin, S, b_weight, b_reach, b_rowState, b_rowHeight, b_rowStack, b_traceRules)) : wpY_addRule post (nI nS, nI nG, nI nN, nI nR, g_traceLen, g_changed, b_used, b_ruleP, b_ruleG, b_ruleQ, b_ruleU, b_edge, b_fin, b_solved, b_weight, b_reach, b_rowState, b_rowHeight, b_rowStack, b_traceRules) (nI p) (nI g) (nI q) (nI (st_cd u)) := by
  have hG : nG ≤ 4 := ok.2.2.2.2.2.2.1
  have hS : nS ≤ 4 := ok.2.2.2.2.1
  unfold wpY_addRule
  refine yb_st_t hS hp (br_f (by decide) (yb_sy_t hG hg hg2 (br_f (by decide) (yb_st_t hS hq (br_f (by decide) (yb_wd_t hG hu (br_f (by decide) ⟨nR + 1, ?_⟩)))))))
  refine yd_39 ok hru h0 ?_ nR 0 (by omega) (fun r z => absurd z (Nat.not_lt_zero _))
  intro s hs hT hall
  refine yb_edi (fun S h1' h2' => h1 s hs hT hall _ _ _ _ _ S ?_ h1' h2')
  intro r hr
  by_cases e : r = s
  · subst e
    rw [sy_add_s]
    refine ⟨(fun z => nomatch z), ?_⟩
    intro p' g' q' u' e
    injection e with e
    injection e with e1 e
    injection e with e2 e
    injection e with e3 e4
    subst e1 e2 e3 e4
    exact ⟨pk_us, pk_us, pk_us, pk_us, pk_us⟩
  · rw [sy_add_n e]
    refine ⟨fun z => by rw [pk_un e]; exact (hru r hr).1 z, ?_⟩
    intro p' g' q' u' hT
    have h1 := (hru r hr).2 _ _ _ _ hT
    exact ⟨by rw [pk_un e]; exact h1.1, by rw [pk_un e]; exact h1.2.1, by rw [pk_un e]; exact h1.2.2.1, by rw [pk_un e]; exact h1.2.2.2.1, by rw [pk_un e]; exact h1.2.2.2.2⟩
theorem yd_rr_t {post : Int32 → SY → Prop} {r : Nat} {c : Nat × Nat × Nat × List Nat} (ok : sy_ok nS nG nN nR T E F) (hru : yr_Ru T b_used b_ruleP b_ruleG b_ruleQ b_ruleU) (hT : T r = some c) (h : ∀ us S : Nat → Int32, yr_Ru (sy_add T r none) us b_ruleP b_ruleG b_ruleQ b_ruleU → S 1 = 0 → S 2 = 0 → post 1 (nI nS, nI nG, nI nN, nI nR, -1, g_changed, us, b_ruleP, b_ruleG, b_ruleQ, b_ruleU, b_edge, b_fin, S, b_weight, b_reach, b_rowState, b_rowHeight, b_rowStack, b_traceRules)) : wpY_removeRule post (nI nS, nI nG, nI nN, nI nR, g_traceLen, g_changed, b_used, b_ruleP, b_ruleG, b_ruleQ, b_ruleU, b_edge, b_fin, b_solved, b_weight, b_reach, b_rowState, b_rowHeight, b_rowStack, b_traceRules) (nI r) := by
  have hR : nR ≤ 12 := ok.2.2.2.2.2.2.2.2.2.2
  obtain ⟨p, g, q, u⟩ := c
  have hr : r < nR := (ok.1 _ _ _ _ _ hT).1
  have hin : vp_in (nI r) 12 := vp_in_nI (by omega) (by omega)
  refine br_f (nI_pos (by omega)) (pk_le nR r (fun z => absurd z (by omega)) (fun _ => ⟨hin, ?_⟩))
  rw [nI_clamp (by omega), ((hru r (by omega)).2 _ _ _ _ hT).1]
  refine br_f (by decide) ⟨hin, nm_e (yb_edi (fun S h1 h2 => h _ S ?_ h1 h2))⟩
  intro r' hr'
  by_cases e : r' = r
  · subst e
    rw [sy_add_s]
    exact ⟨fun _ => pk_us, fun p g q u z => nomatch z⟩
  · rw [sy_add_n e, pk_un e]
    exact hru r' hr'
/-- a slot that is free, or none -/
theorem yd_ru_f {A B : Prop} {x : Int32} (ok : sy_ok nS nG nN nR T E F) (hru : yr_Ru T b_used b_ruleP b_ruleG b_ruleQ b_ruleU) (hx : ∀ r c, T r = some c → ¬ x = nI r) (h : A) : (x < 0 → A) ∧ (¬ x < 0 → ((nI nR ≤ x → A) ∧ (¬ nI nR ≤ x → (vp_in x 12 ∧ ((b_used x.toNatClampNeg = 0 → A) ∧ (¬ b_used x.toNatClampNeg = 0 → B)))))) := by
  have hR : nR ≤ 12 := ok.2.2.2.2.2.2.2.2.2.2
  refine br_c (fun _ => h) (fun z => ?_)
  obtain ⟨j, hj, rfl⟩ := nI_of z
  refine pk_le nR j (fun _ => h) (fun h3 => ⟨vp_in_nI (by omega) (by omega), ?_⟩)
  rw [nI_clamp (by omega)]
  cases hT : T j with
  | none =>
    rw [(hru j (by omega)).1 hT]
    exact br_t rfl h
  | some c => exact absurd rfl (hx j c hT)
theorem yd_rr_f {post : Int32 → SY → Prop} {x : Int32} (ok : sy_ok nS nG nN nR T E F) (hru : yr_Ru T b_used b_ruleP b_ruleG b_ruleQ b_ruleU) (hx : ∀ r c, T r = some c → ¬ x = nI r) (h : post (-3) (nI nS, nI nG, nI nN, nI nR, g_traceLen, g_changed, b_used, b_ruleP, b_ruleG, b_ruleQ, b_ruleU, b_edge, b_fin, b_solved, b_weight, b_reach, b_rowState, b_rowHeight, b_rowStack, b_traceRules)) : wpY_removeRule post (nI nS, nI nG, nI nN, nI nR, g_traceLen, g_changed, b_used, b_ruleP, b_ruleG, b_ruleQ, b_ruleU, b_edge, b_fin, b_solved, b_weight, b_reach, b_rowState, b_rowHeight, b_rowStack, b_traceRules) x := yd_ru_f ok hru hx h
theorem yd_rf {post : Int32 → Prop} {x y : Int32} (ok : sy_ok nS nG nN nR T E F) (hru : yr_Ru T b_used b_ruleP b_ruleG b_ruleQ b_ruleU) (h0 : (∀ r f, r < nR → f < 4 → x = nI r → ¬ y = nI f) → post (-3)) (h1 : ∀ r f, r < nR → f < 4 → x = nI r → y = nI f → T r = none → post (-1)) (h2 : ∀ r f c, r < nR → f < 4 → x = nI r → y = nI f → T r = some c → post (rf_an c f)) : wpY_ruleField post (nI nS, nI nG, nI nN, nI nR, g_traceLen, g_changed, b_used, b_ruleP, b_ruleG, b_ruleQ, b_ruleU, b_edge, b_fin, b_solved, b_weight, b_reach, b_rowState, b_rowHeight, b_rowStack, b_traceRules) x y := by
  have hR : nR ≤ 12 := ok.2.2.2.2.2.2.2.2.2.2
  refine br_c (fun z => h0 ?_) (fun z => ?_)
  · intro r f hr _ e
    rw [e] at z
    exact absurd z (nI_pos (by omega))
  obtain ⟨r, hr31, rfl⟩ := nI_of z
  refine pk_le nR r (fun z => h0 ?_) (fun hr => ?_)
  · intro r' f hr' _ e
    rw [nI_eq hr31 (by omega)] at e
    omega
  refine br_c (fun z => h0 ?_) (fun z => ?_)
  · intro r' f _ hf _ e
    rw [e] at z
    exact absurd z (nI_pos (by omega))
  obtain ⟨f, hf31, rfl⟩ := nI_of z
  refine pk_le f 3 (fun hf => ⟨vp_in_nI (by omega) (by omega), ?_⟩) (fun z => h0 ?_)
  · have hin : vp_in (nI r) 12 := vp_in_nI (by omega) (by omega)
    rw [nI_clamp (by omega)]
    cases hT : T r with
    | none =>
      rw [(hru r (by omega)).1 hT]
      exact br_t rfl (h1 r f hr (by omega) rfl rfl hT)
    | some c =>
      obtain ⟨p, g, q, u⟩ := c
      have hx := (hru r (by omega)).2 _ _ _ _ hT
      have h3 := h2 r f _ hr (by omega) rfl rfl hT
      unfold rf_an at h3
      rw [hx.1, hx.2.1, hx.2.2.1, hx.2.2.2.1, hx.2.2.2.2]
      refine br_f (by decide) (pk_eq f 0 (fun e => ⟨hin, ?_⟩) (fun e => pk_eq f 1 (fun e1 => ⟨hin, ?_⟩) (fun e1 => pk_eq f 2 (fun e2 => ⟨hin, ?_⟩) (fun e2 => ⟨hin, ?_⟩))))
      · rw [if_pos e] at h3; exact h3
      · rw [if_neg e, if_pos e1] at h3; exact h3
      · rw [if_neg e, if_neg e1, if_pos e2] at h3; exact h3
      · rw [if_neg e, if_neg e1, if_neg e2] at h3; exact h3
  · intro r' f' _ hf' _ e
    rw [nI_eq hf31 (by omega)] at e
    omega
theorem yd_se_t {post : Int32 → SY → Prop} {f g t : Nat} {b : Bool} (ok : sy_ok nS nG nN nR T E F) (hed : yr_Ed E b_edge) (hf : f < nN) (hg : 1 ≤ g) (hg2 : g ≤ nG) (ht : nS ≤ t) (ht2 : t < nN) (h0 : E f g t = b → post 0 (nI nS, nI nG, nI nN, nI nR, g_traceLen, g_changed, b_used, b_ruleP, b_ruleG, b_ruleQ, b_ruleU, b_edge, b_fin, b_solved, b_weight, b_reach, b_rowState, b_rowHeight, b_rowStack, b_traceRules)) (h1 : ¬ E f g t = b → ∀ A S : Nat → Int32, yr_Ed (sy_E1 E f g t b) A → S 1 = 0 → S 2 = 0 → post 1 (nI nS, nI nG, nI nN, nI nR, -1, g_changed, b_used, b_ruleP, b_ruleG, b_ruleQ, b_ruleU, A, b_fin, S, b_weight, b_reach, b_rowState, b_rowHeight, b_rowStack, b_traceRules)) : wpY_setEdge post (nI nS, nI nG, nI nN, nI nR, g_traceLen, g_changed, b_used, b_ruleP, b_ruleG, b_ruleQ, b_ruleU, b_edge, b_fin, b_solved, b_weight, b_reach, b_rowState, b_rowHeight, b_rowStack, b_traceRules) (nI f) (nI g) (nI t) (st_b b) := by
  have hN : nN ≤ 8 := ok.2.2.2.2.2.2.2.2.1
  have hG : nG ≤ 4 := ok.2.2.2.2.2.2.1
  unfold wpY_setEdge
  refine yb_ed_t ok hf hg hg2 ht ht2 (br_f (by decide) ?_)
  unfold wpY_edgeCell
  dsimp only
  rw [ix_e5, nI_clamp (by omega), hed f g t (by omega) hg (by omega) (by omega), st_nar]
  have hin : vp_in (nI ((f * 5 + g) * 8 + t)) 320 := vp_in_nI (by omega) (by omega)
  have hnew : yr_Ed (sy_E1 E f g t b) (upd b_edge ((f * 5 + g) * 8 + t) (st_b b)) := by
    intro f' g' t' hf' hg' hg'' ht'
    unfold sy_E1
    by_cases e : f' = f ∧ g' = g ∧ t' = t
    · rw [if_pos e]
      obtain ⟨rfl, rfl, rfl⟩ := e
      exact pk_us
    · rw [if_neg e, pk_un (by omega)]
      exact hed f' g' t' hf' hg' hg'' ht'
  exact ⟨hin, br_c (fun e => h0 (st_bj.mp e)) (fun e => ⟨hin, nm_e (yb_edi (fun S h2 h3 => h1 (fun z => e (st_bj.mpr z)) _ S hnew h2 h3))⟩)⟩
theorem yd_se_f {post : Int32 → SY → Prop} {x y z v : Int32} (ok : sy_ok nS nG nN nR T E F) (hx : ∀ f g t, f < nN → 1 ≤ g → g ≤ nG → nS ≤ t → t < nN → x = nI f → y = nI g → ¬ z = nI t) (h : post (-3) (nI nS, nI nG, nI nN, nI nR, g_traceLen, g_changed, b_used, b_ruleP, b_ruleG, b_ruleQ, b_ruleU, b_edge, b_fin, b_solved, b_weight, b_reach, b_rowState, b_rowHeight, b_rowStack, b_traceRules)) : wpY_setEdge post (nI nS, nI nG, nI nN, nI nR, g_traceLen, g_changed, b_used, b_ruleP, b_ruleG, b_ruleQ, b_ruleU, b_edge, b_fin, b_solved, b_weight, b_reach, b_rowState, b_rowHeight, b_rowStack, b_traceRules) x y z v := by
  unfold wpY_setEdge
  exact yb_ed_f ok hx (br_t rfl h)
theorem yd_he_f {post : Int32 → Prop} {x y z : Int32} (ok : sy_ok nS nG nN nR T E F) (hx : ∀ f g t, f < nN → 1 ≤ g → g ≤ nG → nS ≤ t → t < nN → x = nI f → y = nI g → ¬ z = nI t) (h : post 0) : wpY_hasEdge post (nI nS, nI nG, nI nN, nI nR, g_traceLen, g_changed, b_used, b_ruleP, b_ruleG, b_ruleQ, b_ruleU, b_edge, b_fin, b_solved, b_weight, b_reach, b_rowState, b_rowHeight, b_rowStack, b_traceRules) x y z := by
  unfold wpY_hasEdge
  exact yb_ed_f ok hx (br_t rfl h)
theorem yd_sf_t {post : Int32 → SY → Prop} {f : Nat} {b : Bool} (ok : sy_ok nS nG nN nR T E F) (hfi : yr_Fi F b_fin) (hf : f < nN) (h0 : F f = b → post 0 (nI nS, nI nG, nI nN, nI nR, g_traceLen, g_changed, b_used, b_ruleP, b_ruleG, b_ruleQ, b_ruleU, b_edge, b_fin, b_solved, b_weight, b_reach, b_rowState, b_rowHeight, b_rowStack, b_traceRules)) (h1 : ¬ F f = b → ∀ A S : Nat → Int32, yr_Fi (sy_F1 F f b) A → S 1 = 0 → S 2 = 0 → post 1 (nI nS, nI nG, nI nN, nI nR, -1, g_changed, b_used, b_ruleP, b_ruleG, b_ruleQ, b_ruleU, b_edge, A, S, b_weight, b_reach, b_rowState, b_rowHeight, b_rowStack, b_traceRules)) : wpY_setFinal post (nI nS, nI nG, nI nN, nI nR, g_traceLen, g_changed, b_used, b_ruleP, b_ruleG, b_ruleQ, b_ruleU, b_edge, b_fin, b_solved, b_weight, b_reach, b_rowState, b_rowHeight, b_rowStack, b_traceRules) (nI f) (st_b b) := by
  have hN : nN ≤ 8 := ok.2.2.2.2.2.2.2.2.1
  unfold wpY_setFinal
  refine yb_nd_t hN hf (br_f (by decide) ?_)
  have hin : vp_in (nI f) 8 := vp_in_nI (by omega) (by omega)
  rw [nI_clamp (by omega), hfi f (by omega), st_nar]
  have hnew : yr_Fi (sy_F1 F f b) (upd b_fin f (st_b b)) := by
    intro f' hf'
    unfold sy_F1
    by_cases e : f' = f
    · rw [if_pos e]; subst e; exact pk_us
    · rw [if_neg e, pk_un e]; exact hfi f' hf'
  exact ⟨hin, br_c (fun e => h0 (st_bj.mp e)) (fun e => ⟨hin, nm_e (yb_edi (fun S h2 h3 => h1 (fun z => e (st_bj.mpr z)) _ S hnew h2 h3))⟩)⟩
theorem yd_sf_f {post : Int32 → SY → Prop} {x v : Int32} (ok : sy_ok nS nG nN nR T E F) (hx : ∀ f, f < nN → ¬ x = nI f) (h : post (-3) (nI nS, nI nG, nI nN, nI nR, g_traceLen, g_changed, b_used, b_ruleP, b_ruleG, b_ruleQ, b_ruleU, b_edge, b_fin, b_solved, b_weight, b_reach, b_rowState, b_rowHeight, b_rowStack, b_traceRules)) : wpY_setFinal post (nI nS, nI nG, nI nN, nI nR, g_traceLen, g_changed, b_used, b_ruleP, b_ruleG, b_ruleQ, b_ruleU, b_edge, b_fin, b_solved, b_weight, b_reach, b_rowState, b_rowHeight, b_rowStack, b_traceRules) x v := by
  have hN : nN ≤ 8 := ok.2.2.2.2.2.2.2.2.1
  unfold wpY_setFinal
  exact yb_nd_f hN hx (br_t rfl h)
theorem yd_if_f {post : Int32 → Prop} {x : Int32} (ok : sy_ok nS nG nN nR T E F) (hx : ∀ f, f < nN → ¬ x = nI f) (h : post 0) : wpY_isFinal post (nI nS, nI nG, nI nN, nI nR, g_traceLen, g_changed, b_used, b_ruleP, b_ruleG, b_ruleQ, b_ruleU, b_edge, b_fin, b_solved, b_weight, b_reach, b_rowState, b_rowHeight, b_rowStack, b_traceRules) x := by
  have hN : nN ≤ 8 := ok.2.2.2.2.2.2.2.2.1
  unfold wpY_isFinal
  exact yb_nd_f hN hx (br_t rfl h)
theorem yd_pl_t {post : Int32 → SY → Prop} {q : Nat} (hS : nS ≤ 4) (hq : q < nS) (h : ∀ St H : Nat → Int32, yt_Row St H b_rowStack 21 (q, []) → yt_Kr 21 b_rowState b_rowHeight b_rowStack St H b_rowStack → post 1 (nI nS, nI nG, nI nN, nI nR, g_traceLen, g_changed, b_used, b_ruleP, b_ruleG, b_ruleQ, b_ruleU, b_edge, b_fin, b_solved, b_weight, b_reach, St, H, b_rowStack, b_traceRules)) : wpY_place post (nI nS, nI nG, nI nN, nI nR, g_traceLen, g_changed, b_used, b_ruleP, b_ruleG, b_ruleQ, b_ruleU, b_edge, b_fin, b_solved, b_weight, b_reach, b_rowState, b_rowHeight, b_rowStack, b_traceRules) (nI q) := by
  unfold wpY_place
  exact yb_st_t hS hq (br_f (by decide) (nm_e (nm_e (h _ _ ⟨pk_us, pk_us, trivial⟩ (yt_Kr_i (fun _ _ => rfl))))))
theorem yd_pl_f {post : Int32 → SY → Prop} {x : Int32} (hS : nS ≤ 4) (hx : ∀ n, n < nS → ¬ x = nI n) (h : post (-3) (nI nS, nI nG, nI nN, nI nR, g_traceLen, g_changed, b_used, b_ruleP, b_ruleG, b_ruleQ, b_ruleU, b_edge, b_fin, b_solved, b_weight, b_reach, b_rowState, b_rowHeight, b_rowStack, b_traceRules)) : wpY_place post (nI nS, nI nG, nI nN, nI nR, g_traceLen, g_changed, b_used, b_ruleP, b_ruleG, b_ruleQ, b_ruleU, b_edge, b_fin, b_solved, b_weight, b_reach, b_rowState, b_rowHeight, b_rowStack, b_traceRules) x := by
  unfold wpY_place
  exact yb_st_f hS hx (br_t rfl h)
theorem yt_Kr_h {j : Nat} {St H K K' : Nat → Int32} {y : Int32} (h : ∀ z, (z < j * 40 ∨ j * 40 + 40 ≤ z) → K' z = K z) : yt_Kr j St H K St (upd H j y) K' := by
  rintro i c hne hl ⟨r1, r2, r3⟩
  refine ⟨r1, by rw [pk_un hne]; exact r2, st_stk_cg (fun z hz => h _ ?_) r3⟩
  omega
theorem yd_pu_t {post : Int32 → SY → Prop} {p g : Nat} {w : List Nat} (hG : nG ≤ 4) (hg : 1 ≤ g) (hg2 : g ≤ nG) (hl : w.length ≤ 12) (hr : yt_Row b_rowState b_rowHeight b_rowStack 21 (p, w)) (h1 : w.length < 12 → ∀ H K : Nat → Int32, yt_Row b_rowState H K 21 (p, g :: w) → yt_Kr 21 b_rowState b_rowHeight b_rowStack b_rowState H K → post 1 (nI nS, nI nG, nI nN, nI nR, g_traceLen, g_changed, b_used, b_ruleP, b_ruleG, b_ruleQ, b_ruleU, b_edge, b_fin, b_solved, b_weight, b_reach, b_rowState, H, K, b_traceRules)) (h0 : 12 ≤ w.length → post (-4) (nI nS, nI nG, nI nN, nI nR, g_traceLen, g_changed, b_used, b_ruleP, b_ruleG, b_ruleQ, b_ruleU, b_edge, b_fin, b_solved, b_weight, b_reach, b_rowState, b_rowHeight, b_rowStack, b_traceRules)) : wpY_push post (nI nS, nI nG, nI nN, nI nR, g_traceLen, g_changed, b_used, b_ruleP, b_ruleG, b_ruleQ, b_ruleU, b_edge, b_fin, b_solved, b_weight, b_reach, b_rowState, b_rowHeight, b_rowStack, b_traceRules) (nI g) := by
  unfold wpY_push
  refine yb_sy_t hG hg hg2 (br_f (by decide) (nm_r (e' := nI w.length) hr.2.1 ?_))
  have ei : 840 + nI w.length = nI (840 + w.length) := nI_add 840 w.length
  refine pk_lt w.length 12 (fun z => ?_) h0
  rw [ei, nI_clamp (by omega), nI_1]
  refine ⟨vp_in_nI (by omega) (by omega), nm_e (nm_e (h1 z _ _ ⟨hr.1, pk_us, st_stk_push rfl hr.2.2⟩ (yt_Kr_h (fun z hz => pk_un (by omega)))))⟩
theorem yd_pu_f {post : Int32 → SY → Prop} {x : Int32} (hG : nG ≤ 4) (hx : ∀ n, 1 ≤ n → n ≤ nG → ¬ x = nI n) (h : post (-3) (nI nS, nI nG, nI nN, nI nR, g_traceLen, g_changed, b_used, b_ruleP, b_ruleG, b_ruleQ, b_ruleU, b_edge, b_fin, b_solved, b_weight, b_reach, b_rowState, b_rowHeight, b_rowStack, b_traceRules)) : wpY_push post (nI nS, nI nG, nI nN, nI nR, g_traceLen, g_changed, b_used, b_ruleP, b_ruleG, b_ruleQ, b_ruleU, b_edge, b_fin, b_solved, b_weight, b_reach, b_rowState, b_rowHeight, b_rowStack, b_traceRules) x := by
  unfold wpY_push
  exact yb_sy_f hG hx (br_t rfl h)
theorem yd_dr_0 {post : Int32 → SY → Prop} {p : Nat} (hr : yt_Row b_rowState b_rowHeight b_rowStack 21 (p, [])) (h : post (-1) (nI nS, nI nG, nI nN, nI nR, g_traceLen, g_changed, b_used, b_ruleP, b_ruleG, b_ruleQ, b_ruleU, b_edge, b_fin, b_solved, b_weight, b_reach, b_rowState, b_rowHeight, b_rowStack, b_traceRules)) : wpY_drop post (nI nS, nI nG, nI nN, nI nR, g_traceLen, g_changed, b_used, b_ruleP, b_ruleG, b_ruleQ, b_ruleU, b_edge, b_fin, b_solved, b_weight, b_reach, b_rowState, b_rowHeight, b_rowStack, b_traceRules) := nm_r (e' := nI 0) hr.2.1 (br_t rfl h)
theorem yd_dr_1 {post : Int32 → SY → Prop} {p a : Nat} {w : List Nat} (hl : w.length < 12) (hr : yt_Row b_rowState b_rowHeight b_rowStack 21 (p, a :: w)) (h : ∀ H : Nat → Int32, yt_Row b_rowState H b_rowStack 21 (p, w) → yt_Kr 21 b_rowState b_rowHeight b_rowStack b_rowState H b_rowStack → post (nI a) (nI nS, nI nG, nI nN, nI nR, g_traceLen, g_changed, b_used, b_ruleP, b_ruleG, b_ruleQ, b_ruleU, b_edge, b_fin, b_solved, b_weight, b_reach, b_rowState, H, b_rowStack, b_traceRules)) : wpY_drop post (nI nS, nI nG, nI nN, nI nR, g_traceLen, g_changed, b_used, b_ruleP, b_ruleG, b_ruleQ, b_ruleU, b_edge, b_fin, b_solved, b_weight, b_reach, b_rowState, b_rowHeight, b_rowStack, b_traceRules) := by
  refine nm_r (e' := nI (w.length + 1)) hr.2.1 (br_f (nI_ne0 (by omega) (by omega)) ?_)
  have e1 : (840 + nI (w.length + 1)) - 1 = nI (840 + w.length) := by
    show (nI 840 + nI (w.length + 1)) - nI 1 = _
    rw [nI_add, pk_sub (by omega)]
    exact congrArg nI (by omega)
  have hk1 : b_rowStack (840 + w.length) = nI a := hr.2.2.1
  rw [nI_pred, e1, nI_clamp (by omega), hk1]
  exact nm_e ⟨vp_in_nI (by omega) (by omega), h _ ⟨hr.1, pk_us, hr.2.2.2⟩ (yt_Kr_h (fun _ _ => rfl))⟩
theorem yd_fi_f {post : Int32 → SY → Prop} {x : Int32} (ok : sy_ok nS nG nN nR T E F) (hru : yr_Ru T b_used b_ruleP b_ruleG b_ruleQ b_ruleU) (hx : ∀ r c, T r = some c → ¬ x = nI r) (h : post (-3) (nI nS, nI nG, nI nN, nI nR, g_traceLen, g_changed, b_used, b_ruleP, b_ruleG, b_ruleQ, b_ruleU, b_edge, b_fin, b_solved, b_weight, b_reach, b_rowState, b_rowHeight, b_rowStack, b_traceRules)) : wpY_fire post (nI nS, nI nG, nI nN, nI nR, g_traceLen, g_changed, b_used, b_ruleP, b_ruleG, b_ruleQ, b_ruleU, b_edge, b_fin, b_solved, b_weight, b_reach, b_rowState, b_rowHeight, b_rowStack, b_traceRules) x := yd_ru_f ok hru hx h
/-- rows up to 21 stand -/
def yt_K0 (St H K St' H' K' : Nat → Int32) : Prop := ∀ i c, i ≤ 20 → c.2.length ≤ 40 → yt_Row St H K i c → yt_Row St' H' K' i c
theorem yd_fi_t {post : Int32 → SY → Prop} {r : Nat} {c : tr_C} {t : Nat × Nat × Nat × List Nat} (ok : sy_ok nS nG nN nR T E F) (hru : yr_Ru T b_used b_ruleP b_ruleG b_ruleQ b_ruleU) (hT : T r = some t) (hc : tr_ok nS nG c) (hl : c.2.length ≤ 12) (hr : yt_Row b_rowState b_rowHeight b_rowStack 21 c) (h1 : ∀ (c' : tr_C) (St H K : Nat → Int32), tr_Ft true T r c c' → c'.2.length ≤ 12 → yt_Row St H K 21 c' → yt_K0 b_rowState b_rowHeight b_rowStack St H K → post 1 (nI nS, nI nG, nI nN, nI nR, g_traceLen, g_changed, b_used, b_ruleP, b_ruleG, b_ruleQ, b_ruleU, b_edge, b_fin, b_solved, b_weight, b_reach, St, H, K, b_traceRules)) (h2 : ∀ (c' : tr_C) (St H K : Nat → Int32), tr_Ft true T r c c' → 12 < c'.2.length → yt_Row St H K 21 c → yt_K0 b_rowState b_rowHeight b_rowStack St H K → post (-4) (nI nS, nI nG, nI nN, nI nR, g_traceLen, g_changed, b_used, b_ruleP, b_ruleG, b_ruleQ, b_ruleU, b_edge, b_fin, b_solved, b_weight, b_reach, St, H, K, b_traceRules)) (h0 : (∀ c', ¬ tr_Ft true T r c c') → post (-1) (nI nS, nI nG, nI nN, nI nR, g_traceLen, g_changed, b_used, b_ruleP, b_ruleG, b_ruleQ, b_ruleU, b_edge, b_fin, b_solved, b_weight, b_reach, b_rowState, b_rowHeight, b_rowStack, b_traceRules)) : wpY_fire post (nI nS, nI nG, nI nN, nI nR, g_traceLen, g_changed, b_used, b_ruleP, b_ruleG, b_ruleQ, b_ruleU, b_edge, b_fin, b_solved, b_weight, b_reach, b_rowState, b_rowHeight, b_rowStack, b_traceRules) (nI r) := by
  have hS : nS ≤ 4 := ok.2.2.2.2.1
  have hG : nG ≤ 4 := ok.2.2.2.2.2.2.1
  have hR : nR ≤ 12 := ok.2.2.2.2.2.2.2.2.2.2
  obtain ⟨p, g, q, u⟩ := t
  have ho := ok.1 _ _ _ _ _ hT
  have hx := (hru r (by omega)).2 _ _ _ _ hT
  have hin : vp_in (nI r) 12 := vp_in_nI (by omega) (by omega)
  have hcp : c.1 < nS := hc.1
  refine br_f (nI_pos (by omega)) (pk_le nR r (fun z => absurd z (by omega)) (fun _ => ⟨hin, ?_⟩))
  rw [nI_clamp (by omega), hx.1, hx.2.1, hx.2.2.1, hx.2.2.2.1, hx.2.2.2.2]
  refine br_f (by decide) ⟨hin, hin, hin, hin, ?_⟩
  refine yt_rw (i := 21) (j := 22) (c := c) (u1 := [g]) (u2 := u) (by omega) (by omega) (by omega) (by omega) hr (by omega) (by omega) hG (sy_wd1 ho.2.2.1 ho.2.2.2.1) ho.2.2.2.2.2 (fun a ha => by have := hc.2 a ha; omega) ?_ ?_
  · intro v St H K e1 e2 hr' hk'
    have hft : tr_Ft true T r c (q, u ++ v) := ⟨g, u, v, by rw [e1]; exact hT, e2, rfl⟩
    have hlen := (tr_Ft_ok ok hft hc).2.1
    dsimp only at hlen
    refine br_f (by decide) ?_
    rw [hr'.2.1]
    refine pk_le (u ++ v).length 12 (fun z => ?_) (fun z => h2 _ St H K hft z (hk' 21 c (by omega) (by omega) hr) (fun i c'' hi hl'' hri => hk' i c'' (by omega) hl'' hri))
    refine yt_cp (i := 22) (j := 21) (by omega) (by omega) (by omega) ?_
    intro K2 hK1 hK2
    refine h1 (q, u ++ v) _ _ K2 hft z ?_ ?_
    · exact ⟨by rw [pk_us]; exact hr'.1, by rw [pk_us]; exact hr'.2.1, st_stk_cg (fun y hy => hK1 y (by have : y < (u ++ v).length := hy; omega)) hr'.2.2⟩
    · intro i c'' hi hl'' hri
      exact yt_Kr_i hK2 i c'' (by omega) hl'' (hk' i c'' (by omega) hl'' hri)
  · intro hno
    refine br_t rfl (h0 ?_)
    rintro c' ⟨g', u', v, hT', hw, _⟩
    rw [hT] at hT'
    injection hT' with e
    injection e with e1 e
    injection e with e2 _
    refine hno v e1.symm ?_
    rw [hw, ← e2]
    rfl
end
end
section
/-! Y: inSet, looking, summary, trace -/
def en_b (b : Bool) : Nat := if b = true then 0 else 1000
theorem en_b_le (b : Bool) : en_b b ≤ 1000 := by cases b <;> decide
section
variable {nS nG nN nR : Nat} {g_traceLen g_changed : Int32} {b_used b_ruleP b_ruleG b_ruleQ b_ruleU b_edge b_fin b_solved b_weight b_reach b_rowState b_rowHeight b_rowStack b_traceRules : Nat → Int32}
variable {T : sy_T} {E : sy_E} {F : sy_F}
theorem ix_21 {i s : Nat} : (nI i * 21) + nI s = nI (i * 21 + s) := by
  show nI i * nI 21 + nI s = _
  rw [pk_mul, nI_add]
theorem ix_21s {i s : Nat} : ((nI i + 1) * 21) + nI s = nI ((i + 1) * 21 + s) := by
  rw [nI_1]
  exact ix_21
theorem ye_102 {post : Int32 → SY → Prop} {J50 J73 : (Int32 → (Nat → Int32) → (Nat → Int32) → (Nat → Int32) → (Nat → Int32) → (Nat → Int32) → (Nat → Int32) → (Nat → Int32) → (Nat → Int32) → (Nat → Int32) → (Nat → Int32) → (Nat → Int32) → (Nat → Int32) → (Nat → Int32) → (Nat → Int32) → Prop)} {h i g t : Nat} {M : Nat → Bool} (hN : nN ≤ 8) (hi : i ≤ 38) (hg : 1 ≤ g) (hg2 : g ≤ 4) (ht : t < nN) (hed : yr_Ed E b_edge) (hJ : ∀ Rc : Nat → Int32, (∀ s, s < nN → Rc (i * 21 + s) = nI (en_b (M s))) → (∀ t', t' < t → Rc ((i + 1) * 21 + t') = nI (en_b (mk_st E nN g M t'))) → Rc ((i + 1) * 21 + t) = nI (en_b (mk_st E nN g M t)) → J73 (nI (t + 1)) b_used b_ruleP b_ruleG b_ruleQ b_ruleU b_edge b_fin b_solved b_weight Rc b_rowState b_rowHeight b_rowStack b_traceRules) : ∀ k s, s + k = nN → ∀ Rc : Nat → Int32, (∀ s, s < nN → Rc (i * 21 + s) = nI (en_b (M s))) → (∀ t', t' < t → Rc ((i + 1) * 21 + t') = nI (en_b (mk_st E nN g M t'))) → Rc ((i + 1) * 21 + t) = nI (en_b (bo_any (fun s => M s && E s g t) s)) → wY_inSet_102 post J50 J73 (nI h) (nI i) (nI g) (nI t) (nI nS) (nI nG) (nI nN) (nI nR) g_traceLen g_changed (k + 1) (nI s) b_used b_ruleP b_ruleG b_ruleQ b_ruleU b_edge b_fin b_solved b_weight Rc b_rowState b_rowHeight b_rowStack b_traceRules := by
  intro k
  induction k with
  | zero =>
    intro s hs Rc h1 h2 h3
    have e : s = nN := by omega
    subst e
    exact pk_le s s (fun _ => nm_r (nI_1 t) (hJ Rc h1 h2 h3)) (fun z => absurd z (by omega))
  | succ k ih =>
    intro s hs Rc h1 h2 h3
    have e0 : bo_any (fun s => M s && E s g t) (s + 1) = (bo_any (fun s => M s && E s g t) s || (M s && E s g t)) := rfl
    have hn := ih (s + 1) (by omega)
    rw [e0] at hn
    have hle := en_b_le (M s)
    refine pk_le nN s (fun z => absurd z (by omega)) (fun _ => ?_)
    rw [ix_21, nI_clamp (show i * 21 + s < 2 ^ 31 by omega), h1 s (by omega)]
    refine ⟨vp_in_nI (by omega) (by omega), ?_⟩
    cases hMs : M s with
    | false =>
      rw [hMs, Bool.false_and, Bool.or_false] at hn
      exact br_f (show ¬ nI (en_b false) = 0 by decide) (nm_r (nI_1 s) (hn Rc h1 h2 h3))
    | true =>
      refine br_t (show nI (en_b true) = 0 by decide) ?_
      unfold wpY_edgeCell
      dsimp only
      rw [ix_e5, nI_clamp (show (s * 5 + g) * 8 + t < 2 ^ 31 by omega), hed s g t (by omega) hg hg2 (by omega)]
      refine ⟨vp_in_nI (by omega) (by omega), ?_⟩
      cases hE : E s g t with
      | false =>
        rw [hMs, hE, Bool.and_false, Bool.or_false] at hn
        exact br_t rfl (nm_r (nI_1 s) (hn Rc h1 h2 h3))
      | true =>
        rw [hMs, hE, Bool.and_true, Bool.or_true] at hn
        refine br_f (by decide) ?_
        rw [ix_21s, nI_clamp (show (i + 1) * 21 + t < 2 ^ 31 by omega)]
        refine ⟨vp_in_nI (by omega) (by omega), nm_e (nm_r (nI_1 s) (hn _ ?_ ?_ ?_))⟩
        · intro s' hs'
          rw [pk_un (by omega)]
          exact h1 s' hs'
        · intro t' ht'
          rw [pk_un (by omega)]
          exact h2 t' ht'
        · rw [pk_us]
          rfl
theorem ye_73 {post : Int32 → SY → Prop} {J50 : (Int32 → (Nat → Int32) → (Nat → Int32) → (Nat → Int32) → (Nat → Int32) → (Nat → Int32) → (Nat → Int32) → (Nat → Int32) → (Nat → Int32) → (Nat → Int32) → (Nat → Int32) → (Nat → Int32) → (Nat → Int32) → (Nat → Int32) → (Nat → Int32) → Prop)} {h i g : Nat} {M : Nat → Bool} (hN : nN ≤ 8) (hi : i ≤ 38) (hg : 1 ≤ g) (hg2 : g ≤ 4) (hed : yr_Ed E b_edge) (hJ : ∀ Rc : Nat → Int32, (∀ t, t < nN → Rc ((i + 1) * 21 + t) = nI (en_b (mk_st E nN g M t))) → J50 (nI (i + 1)) b_used b_ruleP b_ruleG b_ruleQ b_ruleU b_edge b_fin b_solved b_weight Rc b_rowState b_rowHeight b_rowStack b_traceRules) : ∀ k t, t + k = nN → ∀ Rc : Nat → Int32, (∀ s, s < nN → Rc (i * 21 + s) = nI (en_b (M s))) → (∀ t', t' < t → Rc ((i + 1) * 21 + t') = nI (en_b (mk_st E nN g M t'))) → wY_inSet_73 post J50 (nI h) (nI i) (nI g) (nI nS) (nI nG) (nI nN) (nI nR) g_traceLen g_changed (k + 1) (nI t) b_used b_ruleP b_ruleG b_ruleQ b_ruleU b_edge b_fin b_solved b_weight Rc b_rowState b_rowHeight b_rowStack b_traceRules := by
  intro k
  induction k with
  | zero =>
    intro t ht Rc h1 h2
    exact pk_le nN t (fun _ => nm_r (nI_1 i) (hJ Rc (fun t' ht' => h2 t' (by omega)))) (fun z => absurd z (by omega))
  | succ k ih =>
    intro t ht Rc h1 h2
    refine pk_le nN t (fun z => absurd z (by omega)) (fun _ => ?_)
    rw [ix_21s, nI_clamp (show (i + 1) * 21 + t < 2 ^ 31 by omega)]
    refine ⟨vp_in_nI (by omega) (by omega), nm_e ⟨nN + 1, ?_⟩⟩
    refine ye_102 (M := M) hN hi hg hg2 (by omega) hed ?_ nN 0 (by omega) _ ?_ ?_ ?_
    · intro Rc' h1' h2' h3'
      refine ih (t + 1) (by omega) Rc' h1' ?_
      intro t' ht'
      by_cases e : t' = t
      · subst e; exact h3'
      · exact h2' t' (by omega)
    · intro s' hs'
      rw [pk_un (by omega)]
      exact h1 s' hs'
    · intro t' ht'
      rw [pk_un (by omega)]
      exact h2 t' ht'
    · rw [pk_us]
      rfl
theorem ye_178 {post : Int32 → SY → Prop} {h : Nat} {M : Nat → Bool} (hN : nN ≤ 8) (hh : h ≤ 38) (hfi : yr_Fi F b_fin) (hM : ∀ s, s < nN → b_reach (h * 21 + s) = nI (en_b (M s))) (hp : post (st_b (bo_any (fun t => M t && F t) nN)) (nI nS, nI nG, nI nN, nI nR, g_traceLen, g_changed, b_used, b_ruleP, b_ruleG, b_ruleQ, b_ruleU, b_edge, b_fin, b_solved, b_weight, b_reach, b_rowState, b_rowHeight, b_rowStack, b_traceRules)) : ∀ k s, s + k = nN → bo_any (fun t => M t && F t) s = false → wY_inSet_178 post (nI h) (nI nS) (nI nG) (nI nN) (nI nR) g_traceLen g_changed b_used b_ruleP b_ruleG b_ruleQ b_ruleU b_edge b_fin b_solved b_weight b_reach b_rowState b_rowHeight b_rowStack b_traceRules (k + 1) (nI s) := by
  have hmono : ∀ k s, bo_any (fun t => M t && F t) s = true → bo_any (fun t => M t && F t) (s + k) = true := by
    intro k
    induction k with
    | zero => intro s hs; exact hs
    | succ k ih =>
      intro s hs
      show (bo_any (fun t => M t && F t) (s + k) || _) = true
      rw [ih s hs]
      rfl
  intro k
  induction k with
  | zero =>
    intro s hs h0
    have e : s = nN := by omega
    subst e
    rw [h0] at hp
    exact pk_le s s (fun _ => hp) (fun z => absurd z (by omega))
  | succ k ih =>
    intro s hs h0
    have e0 : bo_any (fun t => M t && F t) (s + 1) = (bo_any (fun t => M t && F t) s || (M s && F s)) := rfl
    rw [h0, Bool.false_or] at e0
    refine pk_le nN s (fun z => absurd z (by omega)) (fun _ => ?_)
    rw [ix_21, nI_clamp (show h * 21 + s < 2 ^ 31 by omega), hM s (by omega)]
    refine ⟨vp_in_nI (by omega) (by omega), ?_⟩
    cases hMs : M s with
    | false =>
      rw [hMs, Bool.false_and] at e0
      exact br_f (show ¬ nI (en_b false) = 0 by decide) (nm_r (nI_1 s) (ih (s + 1) (by omega) e0))
    | true =>
      refine br_t (show nI (en_b true) = 0 by decide) ⟨vp_in_nI (by omega) (by omega), ?_⟩
      rw [nI_clamp (show s < 2 ^ 31 by omega), hfi s (by omega)]
      cases hF : F s with
      | false =>
        rw [hMs, hF, Bool.and_false] at e0
        exact br_t rfl (nm_r (nI_1 s) (ih (s + 1) (by omega) e0))
      | true =>
        rw [hMs, hF, Bool.and_true] at e0
        have e1 := hmono (nN - (s + 1)) (s + 1) e0
        rw [show s + 1 + (nN - (s + 1)) = nN by omega] at e1
        rw [e1] at hp
        exact br_f (by decide) hp
theorem ye_50 {post : Int32 → SY → Prop} {h : Nat} (hN : nN ≤ 8) (hh : h ≤ 12) (hed : yr_Ed E b_edge) (hfi : yr_Fi F b_fin) : ∀ (w : List Nat) (i : Nat) (M : Nat → Bool) (Rc : Nat → Int32), i + w.length = h → (∀ a, a ∈ w → 1 ≤ a ∧ a ≤ 4) → st_Stk b_rowStack (21 * 40) w → (∀ s, s < nN → Rc (i * 21 + s) = nI (en_b (M s))) → (∀ Rc' : Nat → Int32, post (st_b (bo_any (fun t => mk_rd E nN w M t && F t) nN)) (nI nS, nI nG, nI nN, nI nR, g_traceLen, g_changed, b_used, b_ruleP, b_ruleG, b_ruleQ, b_ruleU, b_edge, b_fin, b_solved, b_weight, Rc', b_rowState, b_rowHeight, b_rowStack, b_traceRules)) → wY_inSet_50 post (nI h) (nI nS) (nI nG) (nI nN) (nI nR) g_traceLen g_changed (w.length + 1) (nI i) b_used b_ruleP b_ruleG b_ruleQ b_ruleU b_edge b_fin b_solved b_weight Rc b_rowState b_rowHeight b_rowStack b_traceRules := by
  intro w
  induction w with
  | nil =>
    intro i M Rc hi _ _ hM hp
    have e : i = h := by simpa using hi
    subst e
    refine pk_le i i (fun _ => ⟨nN + 1, ?_⟩) (fun z => absurd z (by omega))
    exact ye_178 hN (by omega) hfi hM (hp Rc) nN 0 (by omega) rfl
  | cons a w ih =>
    intro i M Rc hi hs hk hM hp
    simp only [List.length_cons] at hi
    have ha := hs a (List.mem_cons_self ..)
    refine pk_le h i (fun z => absurd z (by omega)) (fun _ => ?_)
    have ei : ((840 + nI h) - 1) - nI i = nI (840 + w.length) := by
      show ((nI 840 + nI h) - nI 1) - nI i = _
      rw [nI_add, pk_sub (by omega), pk_sub (by omega)]
      exact congrArg nI (by omega)
    have hk1 : b_rowStack (840 + w.length) = nI a := hk.1
    rw [ei, nI_clamp (by omega), hk1]
    refine ⟨vp_in_nI (by omega) (by omega), nm_e ⟨nN + 1, ?_⟩⟩
    refine ye_73 hN (by omega) ha.1 ha.2 hed ?_ nN 0 (by omega) Rc hM (fun t' z => absurd z (Nat.not_lt_zero _))
    intro Rc' hRc'
    exact ih (i + 1) _ Rc' (by omega) (fun b hb => hs b (List.mem_cons_of_mem _ hb)) hk.2 hRc' hp
theorem ye_in {post : Int32 → SY → Prop} {p : Nat} {w : List Nat} (ok : sy_ok nS nG nN nR T E F) (hed : yr_Ed E b_edge) (hfi : yr_Fi F b_fin) (hc : tr_ok nS nG (p, w)) (hl : w.length ≤ 12) (hr : yt_Row b_rowState b_rowHeight b_rowStack 21 (p, w)) (h : ∀ Rc : Nat → Int32, post (st_b (mk_an E F nN p w)) (nI nS, nI nG, nI nN, nI nR, g_traceLen, g_changed, b_used, b_ruleP, b_ruleG, b_ruleQ, b_ruleU, b_edge, b_fin, b_solved, b_weight, Rc, b_rowState, b_rowHeight, b_rowStack, b_traceRules)) : wpY_inSet post (nI nS, nI nG, nI nN, nI nR, g_traceLen, g_changed, b_used, b_ruleP, b_ruleG, b_ruleQ, b_ruleU, b_edge, b_fin, b_solved, b_weight, b_reach, b_rowState, b_rowHeight, b_rowStack, b_traceRules) := by
  have hN : nN ≤ 8 := ok.2.2.2.2.2.2.2.2.1
  have hS : nS ≤ 4 := ok.2.2.2.2.1
  have hG : nG ≤ 4 := ok.2.2.2.2.2.2.1
  have hp : p < nS := hc.1
  have hL : ∀ k t, t + k = nN → ∀ Rc : Nat → Int32, (∀ t', t' < t → Rc t' = nI (en_b (mk_0 p t'))) → wY_inSet_10 post (nI w.length) (nI nS) (nI nG) (nI nN) (nI nR) g_traceLen g_changed (k + 1) (nI t) b_used b_ruleP b_ruleG b_ruleQ b_ruleU b_edge b_fin b_solved b_weight Rc b_rowState b_rowHeight b_rowStack b_traceRules := by
    intro k
    induction k with
    | zero =>
      intro t ht Rc hRc
      refine pk_le nN t (fun _ => ⟨w.length + 1, ?_⟩) (fun z => absurd z (by omega))
      refine ye_50 hN hl hed hfi w 0 (mk_0 p) Rc (by omega) (fun a ha => by have := hc.2 a ha; omega) hr.2.2 ?_ h
      intro s hs
      rw [Nat.zero_mul, Nat.zero_add]
      exact hRc s (by omega)
    | succ k ih =>
      intro t ht Rc hRc
      have hin : vp_in (nI t) 840 := vp_in_nI (by omega) (by omega)
      have hnew : ∀ x : Nat, x = en_b (mk_0 p t) → ∀ t', t' < t + 1 → upd Rc t (nI x) t' = nI (en_b (mk_0 p t')) := by
        intro x hx t' ht'
        by_cases e : t' = t
        · subst e; rw [pk_us, hx]
        · rw [pk_un e]; exact hRc t' (by omega)
      refine pk_le nN t (fun z => absurd z (by omega)) (fun _ => ?_)
      have hst : b_rowState 21 = nI p := hr.1
      rw [nI_clamp (by omega), hst]
      refine pk_eq t p (fun e => ⟨hin, nm_e (nm_r (nI_1 t) (ih (t + 1) (by omega) _ (hnew 0 ?_)))⟩) (fun e => ⟨hin, nm_e (nm_r (nI_1 t) (ih (t + 1) (by omega) _ (hnew 1000 ?_)))⟩)
      · rw [show mk_0 p t = true from decide_eq_true e]; rfl
      · rw [show mk_0 p t = false from decide_eq_false e]; rfl
  exact nm_r (e' := nI w.length) hr.2.1 ⟨nN + 1, hL nN 0 (by omega) b_reach (fun t' z => absurd z (Nat.not_lt_zero _))⟩
theorem ye_ro {post : Int32 → Prop} {x : Int32} {tl : tr_L} (htr : yr_Tr tl g_traceLen b_traceRules b_rowState b_rowHeight b_rowStack) (h1 : x = -1 → post (nI 21)) (h2 : ∀ len C R j, tl = some (len, C, R) → j ≤ len → x = nI j → post (nI j)) (h0 : ¬ x = -1 → (∀ len C R j, tl = some (len, C, R) → j ≤ len → ¬ x = nI j) → post (-3)) : wpY_rowOf post (nI nS, nI nG, nI nN, nI nR, g_traceLen, g_changed, b_used, b_ruleP, b_ruleG, b_ruleQ, b_ruleU, b_edge, b_fin, b_solved, b_weight, b_reach, b_rowState, b_rowHeight, b_rowStack, b_traceRules) x := by
  refine br_c h1 (fun hx => ?_)
  match tl, htr, h2, h0 with
  | none, htr, h2, h0 =>
    have e : g_traceLen = -1 := htr
    subst e
    have h3 := h0 hx (fun _ _ _ _ z => nomatch z)
    refine br_c (fun _ => h3) (fun z => br_t ?_ h3)
    obtain ⟨j, hj, rfl⟩ := nI_of z
    rw [Int32.lt_iff_toInt_lt, nI_toInt hj]
    have e1 : (-1 : Int32).toInt = -1 := by decide
    omega
  | some (len, C, R), htr, h2, h0 =>
    obtain ⟨e, hl, _⟩ := htr
    subst e
    refine br_c (fun z => h0 hx ?_) (fun z => ?_)
    · intro len' C' R' j e hj ex
      injection e with e
      injection e with e1 _
      rw [ex] at z
      exact absurd z (nI_pos (by omega))
    · obtain ⟨j, hj, rfl⟩ := nI_of z
      refine pk_lt len j (fun z => h0 hx ?_) (fun z => h2 len C R j rfl z rfl)
      intro len' C' R' j' e hj' ex
      injection e with e
      injection e with e1 _
      rw [nI_eq hj (by omega)] at ex
      omega
theorem ye_sta {post : Int32 → Prop} {x : Int32} {c : tr_C} {tl : tr_L} (htr : yr_Tr tl g_traceLen b_traceRules b_rowState b_rowHeight b_rowStack) (hr : yt_Row b_rowState b_rowHeight b_rowStack 21 c) (h1 : x = -1 → post (nI c.1)) (h2 : ∀ len C R j, tl = some (len, C, R) → j ≤ len → x = nI j → post (nI (C j).1)) (h0 : ¬ x = -1 → (∀ len C R j, tl = some (len, C, R) → j ≤ len → ¬ x = nI j) → post (-3)) : wpY_state post (nI nS, nI nG, nI nN, nI nR, g_traceLen, g_changed, b_used, b_ruleP, b_ruleG, b_ruleQ, b_ruleU, b_edge, b_fin, b_solved, b_weight, b_reach, b_rowState, b_rowHeight, b_rowStack, b_traceRules) x := by
  unfold wpY_state
  refine ye_ro htr (fun e => br_t (by decide) ⟨vp_in_nI (by omega) (by omega), ?_⟩) (fun len C R j et hj ex => ?_) (fun e e2 => br_f (by decide) (h0 e e2))
  · rw [nI_clamp (by omega), hr.1]
    exact h1 e
  · subst et
    obtain ⟨_, hl, hrj, _⟩ := htr
    refine br_t (nI_pos' (by omega)) ⟨vp_in_nI (by omega) (by omega), ?_⟩
    rw [nI_clamp (by omega), (hrj j hj).2.1]
    exact h2 len C R j rfl hj ex
theorem ye_hei {post : Int32 → Prop} {x : Int32} {c : tr_C} {tl : tr_L} (htr : yr_Tr tl g_traceLen b_traceRules b_rowState b_rowHeight b_rowStack) (hr : yt_Row b_rowState b_rowHeight b_rowStack 21 c) (h1 : x = -1 → post (nI c.2.length)) (h2 : ∀ len C R j, tl = some (len, C, R) → j ≤ len → x = nI j → post (nI (C j).2.length)) (h0 : ¬ x = -1 → (∀ len C R j, tl = some (len, C, R) → j ≤ len → ¬ x = nI j) → post (-3)) : wpY_height post (nI nS, nI nG, nI nN, nI nR, g_traceLen, g_changed, b_used, b_ruleP, b_ruleG, b_ruleQ, b_ruleU, b_edge, b_fin, b_solved, b_weight, b_reach, b_rowState, b_rowHeight, b_rowStack, b_traceRules) x := by
  unfold wpY_height
  refine ye_ro htr (fun e => br_t (by decide) ⟨vp_in_nI (by omega) (by omega), ?_⟩) (fun len C R j et hj ex => ?_) (fun e e2 => br_f (by decide) (h0 e e2))
  · rw [nI_clamp (by omega), hr.2.1]
    exact h1 e
  · subst et
    obtain ⟨_, hl, hrj, _⟩ := htr
    refine br_t (nI_pos' (by omega)) ⟨vp_in_nI (by omega) (by omega), ?_⟩
    rw [nI_clamp (by omega), (hrj j hj).2.2.1]
    exact h2 len C R j rfl hj ex
theorem ye_sy1 {post : Int32 → Prop} {row : Nat} {y : Int32} {c : tr_C} (hrow : row ≤ 21) (hl : c.2.length ≤ 32) (hr : yt_Row b_rowState b_rowHeight b_rowStack row c) (h : post (sm_an c.2 y)) : ((y < 0 → post 0) ∧ (¬ y < 0 → (vp_in (nI row) 23 ∧ ((y < b_rowHeight (nI row).toNatClampNeg → (vp_in (nI row) 23 ∧ (vp_in ((((nI row * 40) + b_rowHeight (nI row).toNatClampNeg) - 1) - y) 920 ∧ post (b_rowStack ((((nI row * 40) + b_rowHeight (nI row).toNatClampNeg) - 1) - y).toNatClampNeg)))) ∧ (¬ y < b_rowHeight (nI row).toNatClampNeg → post 0))))) := by
  have hin : vp_in (nI row) 23 := vp_in_nI (by omega) (by omega)
  rw [nI_clamp (show row < 2 ^ 31 by omega), hr.2.1]
  refine br_c (fun z => ?_) (fun z => ?_)
  · unfold sm_an at h; rw [if_pos z] at h; exact h
  · obtain ⟨n, hn, rfl⟩ := nI_of z
    refine ⟨hin, pk_lt n c.2.length (fun hlt => ⟨hin, ?_⟩) (fun hge => ?_)⟩
    · have ei : (((nI row * 40) + nI c.2.length) - 1) - nI n = nI (row * 40 + (c.2.length - 1 - n)) := by
        show (((nI row * nI 40) + nI c.2.length) - nI 1) - nI n = _
        rw [pk_mul, nI_add, pk_sub (by omega), pk_sub (by omega)]
        exact congrArg nI (by omega)
      have hg := st_stk_get hr.2.2 n hlt
      rw [ei, nI_clamp (by omega), hg]
      rw [sm_i hn] at h
      exact ⟨vp_in_nI (by omega) (by omega), h⟩
    · rw [sm_o hge hn] at h; exact h
theorem ye_sym {post : Int32 → Prop} {x y : Int32} {c : tr_C} {tl : tr_L} (htr : yr_Tr tl g_traceLen b_traceRules b_rowState b_rowHeight b_rowStack) (hr : yt_Row b_rowState b_rowHeight b_rowStack 21 c) (hl : c.2.length ≤ 12) (h1 : x = -1 → post (sm_an c.2 y)) (h2 : ∀ len C R j, tl = some (len, C, R) → j ≤ len → x = nI j → post (sm_an (C j).2 y)) (h0 : ¬ x = -1 → (∀ len C R j, tl = some (len, C, R) → j ≤ len → ¬ x = nI j) → post (-3)) : wpY_symbol post (nI nS, nI nG, nI nN, nI nR, g_traceLen, g_changed, b_used, b_ruleP, b_ruleG, b_ruleQ, b_ruleU, b_edge, b_fin, b_solved, b_weight, b_reach, b_rowState, b_rowHeight, b_rowStack, b_traceRules) x y := by
  unfold wpY_symbol
  refine ye_ro htr (fun e => br_t (by decide) ?_) (fun len C R j et hj ex => ?_) (fun e e2 => br_f (by decide) (h0 e e2))
  · exact ye_sy1 (row := 21) (by omega) (by omega) hr (h1 e)
  · subst et
    obtain ⟨_, hl, hrj, _⟩ := htr
    refine br_t (nI_pos' (by omega)) ?_
    exact ye_sy1 (row := j) (by omega) (hrj j hj).1 (hrj j hj).2 (h2 len C R j rfl hj ex)
theorem ye_tl {post : Int32 → Prop} {tl : tr_L} (htr : yr_Tr tl g_traceLen b_traceRules b_rowState b_rowHeight b_rowStack) (h : post (tl_an tl)) : wpY_traceLength post (nI nS, nI nG, nI nN, nI nR, g_traceLen, g_changed, b_used, b_ruleP, b_ruleG, b_ruleQ, b_ruleU, b_edge, b_fin, b_solved, b_weight, b_reach, b_rowState, b_rowHeight, b_rowStack, b_traceRules) := by
  match tl, htr, h with
  | none, htr, h =>
    have e : g_traceLen = -1 := htr
    subst e
    exact br_f (by decide) h
  | some (len, C, R), htr, h =>
    obtain ⟨e, hl, _⟩ := htr
    subst e
    exact br_t (nI_pos' (by omega)) h
theorem ye_trr {post : Int32 → Prop} {x : Int32} {tl : tr_L} (htr : yr_Tr tl g_traceLen b_traceRules b_rowState b_rowHeight b_rowStack) (h2 : ∀ len C R j, tl = some (len, C, R) → j < len → x = nI j → post (nI (R j))) (h0 : (∀ len C R j, tl = some (len, C, R) → j < len → ¬ x = nI j) → post (-1)) : wpY_traceRule post (nI nS, nI nG, nI nN, nI nR, g_traceLen, g_changed, b_used, b_ruleP, b_ruleG, b_ruleQ, b_ruleU, b_edge, b_fin, b_solved, b_weight, b_reach, b_rowState, b_rowHeight, b_rowStack, b_traceRules) x := by
  match tl, htr, h2, h0 with
  | none, htr, h2, h0 =>
    have e : g_traceLen = -1 := htr
    subst e
    have h3 := h0 (fun _ _ _ _ z => nomatch z)
    refine br_c (fun _ => h3) (fun z => br_f ?_ h3)
    obtain ⟨j, hj, rfl⟩ := nI_of z
    rw [Int32.lt_iff_toInt_lt, nI_toInt hj]
    have e1 : (-1 : Int32).toInt = -1 := by decide
    omega
  | some (len, C, R), htr, h2, h0 =>
    obtain ⟨e, hl, _, hR⟩ := htr
    subst e
    refine br_c (fun z => h0 ?_) (fun z => ?_)
    · intro len' C' R' j e hj ex
      injection e with e
      injection e with e1 _
      rw [ex] at z
      exact absurd z (nI_pos (by omega))
    · obtain ⟨j, hj, rfl⟩ := nI_of z
      refine pk_lt j len (fun z => ⟨vp_in_nI (by omega) (by omega), ?_⟩) (fun z => h0 ?_)
      · rw [nI_clamp (by omega), hR j z]
        exact h2 len C R j rfl z rfl
      · intro len' C' R' j' e hj' ex
        injection e with e
        injection e with e1 _
        rw [nI_eq hj (by omega)] at ex
        omega
theorem ye_su_t {post : Int32 → Prop} {p g q : Nat} {W : sa_C → Nat} (ok : sy_ok nS nG nN nR T E F) (hsv : b_solved 1 = 1) (hW : wa_R 21 0 b_weight W) (hR : sa_Rg 1000 W) (hp : p < nS) (hg : 1 ≤ g) (hg2 : g ≤ nG) (hq : q < nS) (h : post (ms_an 1000 (W (p, g, q)))) : wpY_summary post (nI nS, nI nG, nI nN, nI nR, g_traceLen, g_changed, b_used, b_ruleP, b_ruleG, b_ruleQ, b_ruleU, b_edge, b_fin, b_solved, b_weight, b_reach, b_rowState, b_rowHeight, b_rowStack, b_traceRules) (nI p) (nI g) (nI q) := by
  have hS : nS ≤ 4 := ok.2.2.2.2.1
  have hG : nG ≤ 4 := ok.2.2.2.2.2.2.1
  have hle := hR (p, g, q)
  unfold wpY_summary
  refine yb_st_t hS hp (br_f (by decide) (yb_sy_t hG hg hg2 (br_f (by decide) (yb_st_t hS hq (br_f (by decide) ?_)))))
  rw [hsv]
  refine br_f (by decide) ?_
  refine yw_cell (d := 0) ⟨vp_in_nI (by omega) (by omega), ?_⟩
  rw [nI_clamp (by omega), hW p g q (by omega) (by omega) (by omega)]
  unfold ms_an at h
  refine nm_e (pk_lt (W (p, g, q)) 1000 (fun e => ?_) (fun e => ?_))
  · rw [if_pos e] at h; exact h
  · rw [if_neg (by omega)] at h; exact h
theorem ye_su_u {post : Int32 → Prop} {p g q : Nat} (ok : sy_ok nS nG nN nR T E F) (hsv : b_solved 1 = 0) (hp : p < nS) (hg : 1 ≤ g) (hg2 : g ≤ nG) (hq : q < nS) (h : post (-2)) : wpY_summary post (nI nS, nI nG, nI nN, nI nR, g_traceLen, g_changed, b_used, b_ruleP, b_ruleG, b_ruleQ, b_ruleU, b_edge, b_fin, b_solved, b_weight, b_reach, b_rowState, b_rowHeight, b_rowStack, b_traceRules) (nI p) (nI g) (nI q) := by
  have hS : nS ≤ 4 := ok.2.2.2.2.1
  have hG : nG ≤ 4 := ok.2.2.2.2.2.2.1
  unfold wpY_summary
  refine yb_st_t hS hp (br_f (by decide) (yb_sy_t hG hg hg2 (br_f (by decide) (yb_st_t hS hq (br_f (by decide) ?_)))))
  rw [hsv]
  exact br_t rfl h
theorem ye_su_f {post : Int32 → Prop} {v1 v2 v3 : Int32} (ok : sy_ok nS nG nN nR T E F) (hx : ∀ p g q, p < nS → 1 ≤ g → g ≤ nG → q < nS → v1 = nI p → v2 = nI g → ¬ v3 = nI q) (h : post (-3)) : wpY_summary post (nI nS, nI nG, nI nN, nI nR, g_traceLen, g_changed, b_used, b_ruleP, b_ruleG, b_ruleQ, b_ruleU, b_edge, b_fin, b_solved, b_weight, b_reach, b_rowState, b_rowHeight, b_rowStack, b_traceRules) v1 v2 v3 := by
  have hG : nG ≤ 4 := ok.2.2.2.2.2.2.1
  have hS : nS ≤ 4 := ok.2.2.2.2.1
  unfold wpY_summary
  by_cases h1 : ∃ p, p < nS ∧ v1 = nI p
  · obtain ⟨p, hp, rfl⟩ := h1
    refine yb_st_t hS hp (br_f (by decide) ?_)
    by_cases h2 : ∃ g, 1 ≤ g ∧ g ≤ nG ∧ v2 = nI g
    · obtain ⟨g, hg, hg2, rfl⟩ := h2
      refine yb_sy_t hG hg hg2 (br_f (by decide) ?_)
      exact yb_st_f hS (fun q hq e => hx p g q hp hg hg2 hq rfl rfl e) (br_t rfl h)
    · exact yb_sy_f hG (fun n hn hn2 e => h2 ⟨n, hn, hn2, e⟩) (br_t rfl h)
  · exact yb_st_f hS (fun n hn e => h1 ⟨n, hn, e⟩) (br_t rfl h)
theorem ye_tr0 {post : Int32 → SY → Prop} {d : Nat} (hd : d < 2) (hsv : b_solved (d + 1) = 0) (h : post (-2) (nI nS, nI nG, nI nN, nI nR, g_traceLen, g_changed, b_used, b_ruleP, b_ruleG, b_ruleQ, b_ruleU, b_edge, b_fin, b_solved, b_weight, b_reach, b_rowState, b_rowHeight, b_rowStack, b_traceRules)) : wpY_trace post (nI nS, nI nG, nI nN, nI nR, g_traceLen, g_changed, b_used, b_ruleP, b_ruleG, b_ruleQ, b_ruleU, b_edge, b_fin, b_solved, b_weight, b_reach, b_rowState, b_rowHeight, b_rowStack, b_traceRules) (nI (d + 1)) := by
  unfold wpY_trace
  exact yq_di0 hd hsv (br_f (by decide) h)
theorem ye_tr {post : Int32 → SY → Prop} {d p : Nat} {w : List Nat} {W : sa_C → Nat} (ok : sy_ok nS nG nN nR T E F) (hru : yr_Ru T b_used b_ruleP b_ruleG b_ruleQ b_ruleU) (hd : d < 2) (hsv : b_solved (d + 1) = 1) (hW : wa_R 21 d b_weight W) (hF : sa_Fx 1000 (sy_YI d nG T E F) W) (hc : tr_ok nS nG (p, w)) (hl : w.length ≤ 12) (hr : yt_Row b_rowState b_rowHeight b_rowStack 21 (p, w))
    (h0 : 1000 ≤ ms_Y W p w → ∀ Rc : Nat → Int32, post (-1) (nI nS, nI nG, nI nN, nI nR, g_traceLen, g_changed, b_used, b_ruleP, b_ruleG, b_ruleQ, b_ruleU, b_edge, b_fin, b_solved, b_weight, Rc, b_rowState, b_rowHeight, b_rowStack, b_traceRules))
    (h5 : ms_Y W p w < 1000 → 20 < ms_Y W p w → ∀ Rc : Nat → Int32, post (-5) (nI nS, nI nG, nI nN, nI nR, g_traceLen, g_changed, b_used, b_ruleP, b_ruleG, b_ruleQ, b_ruleU, b_edge, b_fin, b_solved, b_weight, Rc, b_rowState, b_rowHeight, b_rowStack, b_traceRules))
    (C : Nat → tr_C) (R : Nat → Nat) (hC0 : C 0 = (p, w)) (hnx : ms_Y W p w ≤ 20 → ∀ i, i < ms_Y W p w → tr_Nx (sy_fw d) T E F (ms_Y W p w - 1 - i) (C i) (R i) (C (i + 1)))
    (h1 : ms_Y W p w ≤ 20 → ∀ (Rc TR St H K : Nat → Int32), yt_Row St H K 21 (p, w) → (∀ j, j ≤ ms_Y W p w → (tr_C' d (ms_Y W p w) C j).2.length ≤ 32 ∧ yt_Row St H K j (tr_C' d (ms_Y W p w) C j)) → (∀ j, j < ms_Y W p w → TR j = nI (tr_R' d (ms_Y W p w) R j)) → post (nI (ms_Y W p w)) (nI nS, nI nG, nI nN, nI nR, nI (ms_Y W p w), g_changed, b_used, b_ruleP, b_ruleG, b_ruleQ, b_ruleU, b_edge, b_fin, b_solved, b_weight, Rc, St, H, K, TR)) : wpY_trace post (nI nS, nI nG, nI nN, nI nR, g_traceLen, g_changed, b_used, b_ruleP, b_ruleG, b_ruleQ, b_ruleU, b_edge, b_fin, b_solved, b_weight, b_reach, b_rowState, b_rowHeight, b_rowStack, b_traceRules) (nI (d + 1)) := by
  have hle : ms_Y W p w ≤ 1000 := by have := (yq_Rp ok hc hF).1; omega
  unfold wpY_trace
  refine yq_di (c := (p, w)) ok hd hsv hW hF hc (by show w.length ≤ 32; omega) hr ?_
  intro Rc
  by_cases hB : ms_Y W p w < 1000
  · have ea : ms_an 1000 (ms_Y W p w) = nI (ms_Y W p w) := if_pos hB
    dsimp only
    rw [ea]
    refine br_t (nI_pos' (by omega)) (pk_le (ms_Y W p w) 20 (fun e2 => ?_) (fun e2 => h5 hB e2 Rc))
    have hok := tr_seq_ok ok (C := C) (R := R) (fw := sy_fw d) (by rw [hC0]; exact hc) (hnx e2)
    have hC : ∀ i, i ≤ ms_Y W p w → tr_ok nS nG (C i) ∧ (C i).2.length ≤ 12 + i := by
      intro i hi
      have := hok i hi
      rw [hC0] at this
      refine ⟨this.1, ?_⟩
      have h3 := this.2
      dsimp only at h3
      omega
    match d, hnx, h1, hF, hW, hd with
    | 0, hnx, h1, hF, hW, hd =>
      refine br_t rfl (br_f (by decide) ?_)
      refine yt_49 (at_ := 0) (c := (p, w)) (by omega) hl hr ?_
      intro St H K h21 hat
      refine ⟨ms_Y W p w + 1, ?_⟩
      refine yt_55f ok hru hW hF e2 hC (hnx e2) (p, w) hl ?_ (ms_Y W p w) 0 (by omega) St H K Rc _ h21 ?_ (fun j z => absurd z (Nat.not_lt_zero _))
      · intro St H K Rc TR h21 hrows hrules
        exact h1 e2 Rc TR St H K h21 (fun j hj => ⟨by have := hC j hj; show (C j).2.length ≤ 32; omega, hrows j hj⟩) hrules
      · intro j hj
        have e : j = 0 := by omega
        subst e
        rw [hC0]
        exact hat
    | 1, hnx, h1, hF, hW, hd =>
      refine br_f (by decide) (br_t rfl ?_)
      refine yt_49 (c := (p, w)) e2 hl hr ?_
      intro St H K h21 hat
      refine ⟨ms_Y W p w + 1, ?_⟩
      refine yt_55b ok hru hW hF e2 hC (hnx e2) (p, w) hl ?_ (ms_Y W p w) 0 (by omega) St H K Rc _ h21 ?_ (fun j z z2 => absurd z2 (by omega))
      · intro St H K Rc TR h21 hrows hrules
        exact h1 e2 Rc TR St H K h21 (fun j hj => ⟨by have := hC (ms_Y W p w - j) (by omega); show (C (ms_Y W p w - j)).2.length ≤ 32; omega, hrows j hj⟩) hrules
      · intro j hj hj2
        have e : j = ms_Y W p w := by omega
        subst e
        rw [Nat.sub_self, hC0]
        exact hat
  · have ea : ms_an 1000 (ms_Y W p w) = -1 := if_neg hB
    dsimp only
    rw [ea]
    exact br_f (by decide) (h0 (by omega) Rc)
end
end
section
/-! the relation -/
def xr_B (nS nG nN : Nat) (T : sy_T) (E : sy_E) (F : sy_F) (w : List Nat) (bT bF : Bool) (tl : tr_L) (s1 s2 c1 c2 ts : Int32) (us fr sy to tp bl ed fi hs wt TR St H K : Nat → Int32) : Prop :=
  xr_Ru T us fr sy to tp bl ∧ xr_Ed E ed ∧ xr_Fi F fi ∧ st_Stk hs 0 w ∧ xr_So nS nG nN T E F 0 bT s1 c1 wt ∧ xr_So nS nG nN T E F 1 bF s2 c2 wt ∧ xr_Tr tl ts TR St H K
def yr_B (nG : Nat) (T : sy_T) (E : sy_E) (F : sy_F) (p : Nat) (w : List Nat) (bT bF : Bool) (tl : tr_L) (ts : Int32) (us fr sy to wd ed fi sv wt St H K TR : Nat → Int32) : Prop :=
  yr_Ru T us fr sy to wd ∧ yr_Ed E ed ∧ yr_Fi F fi ∧ yt_Row St H K 21 (p, w) ∧ yr_So nG T E F 0 bT sv wt ∧ yr_So nG T E F 1 bF sv wt ∧ yr_Tr tl ts TR St H K
def xr_A (nS nG nN nR : Nat) (T : sy_T) (E : sy_E) (F : sy_F) (p : Nat) (w : List Nat) (bT bF : Bool) (tl : tr_L) (u : SX) : Prop := match u with
  | (f_unreached, f_stateCount, f_symbolCount, f_nodeCount, f_slotCount, f_hereState, f_hereHeight, f_toSolved, f_fromSolved, f_toCount, f_fromCount, f_traceSize, f_workState, f_workHeight, a_ruleUsed, a_ruleFrom, a_ruleSymbol, a_ruleTo, a_ruleTop, a_ruleBelow, a_edges, a_finals, a_hereStack, a_weights, a_traceRules, a_traceStates, a_traceHeights, a_traceStacks, a_workStack, a_vector, a_nextVector, a_marked, a_nextMarked) => f_stateCount = nI nS ∧ f_symbolCount = nI nG ∧ f_nodeCount = nI nN ∧ f_slotCount = nI nR ∧ f_hereState = nI p ∧ f_hereHeight = nI w.length ∧ xr_B nS nG nN T E F w bT bF tl f_toSolved f_fromSolved f_toCount f_fromCount f_traceSize a_ruleUsed a_ruleFrom a_ruleSymbol a_ruleTo a_ruleTop a_ruleBelow a_edges a_finals a_hereStack a_weights a_traceRules a_traceStates a_traceHeights a_traceStacks
def yr_A (nS nG nN nR : Nat) (T : sy_T) (E : sy_E) (F : sy_F) (p : Nat) (w : List Nat) (bT bF : Bool) (tl : tr_L) (v : SY) : Prop := match v with
  | (g_states, g_symbols, g_nodes, g_slots, g_traceLen, g_changed, b_used, b_ruleP, b_ruleG, b_ruleQ, b_ruleU, b_edge, b_fin, b_solved, b_weight, b_reach, b_rowState, b_rowHeight, b_rowStack, b_traceRules) => g_states = nI nS ∧ g_symbols = nI nG ∧ g_nodes = nI nN ∧ g_slots = nI nR ∧ yr_B nG T E F p w bT bF tl g_traceLen b_used b_ruleP b_ruleG b_ruleQ b_ruleU b_edge b_fin b_solved b_weight b_rowState b_rowHeight b_rowStack b_traceRules
/-- the two hold one system, one configuration, one trace, and the tables of the same ways -/
def i_Rel (_ : Nat) (u : SX) (v : SY) : Prop := ∃ nS nG nN nR T E F p w bT bF tl, sy_ok nS nG nN nR T E F ∧ tr_ok nS nG (p, w) ∧ w.length ≤ 12 ∧ xr_A nS nG nN nR T E F p w bT bF tl u ∧ yr_A nS nG nN nR T E F p w bT bF tl v
theorem i_up {k : Nat} {u : SX} {v : SY} (h : i_Rel k u v) : i_Rel (k + 5) u v := h
theorem re_el {P : SX → SY → Prop} {k : Nat} {u : SX} {v : SY} (I : i_Rel k u v) (h : ∀ (nS nG nN nR : Nat) (T : sy_T) (E : sy_E) (F : sy_F) (p : Nat) (w : List Nat) (bT bF : Bool) (tl : tr_L), sy_ok nS nG nN nR T E F → tr_ok nS nG (p, w) → w.length ≤ 12 → ∀ (f_unreached f_toSolved f_fromSolved f_toCount f_fromCount f_traceSize f_workState f_workHeight : Int32) (a_ruleUsed a_ruleFrom a_ruleSymbol a_ruleTo a_ruleTop a_ruleBelow a_edges a_finals a_hereStack a_weights a_traceRules a_traceStates a_traceHeights a_traceStacks a_workStack a_vector a_nextVector a_marked a_nextMarked : Nat → Int32) (g_traceLen g_changed : Int32) (b_used b_ruleP b_ruleG b_ruleQ b_ruleU b_edge b_fin b_solved b_weight b_reach b_rowState b_rowHeight b_rowStack b_traceRules : Nat → Int32), xr_B nS nG nN T E F w bT bF tl f_toSolved f_fromSolved f_toCount f_fromCount f_traceSize a_ruleUsed a_ruleFrom a_ruleSymbol a_ruleTo a_ruleTop a_ruleBelow a_edges a_finals a_hereStack a_weights a_traceRules a_traceStates a_traceHeights a_traceStacks → yr_B nG T E F p w bT bF tl g_traceLen b_used b_ruleP b_ruleG b_ruleQ b_ruleU b_edge b_fin b_solved b_weight b_rowState b_rowHeight b_rowStack b_traceRules → P (f_unreached, nI nS, nI nG, nI nN, nI nR, nI p, nI w.length, f_toSolved, f_fromSolved, f_toCount, f_fromCount, f_traceSize, f_workState, f_workHeight, a_ruleUsed, a_ruleFrom, a_ruleSymbol, a_ruleTo, a_ruleTop, a_ruleBelow, a_edges, a_finals, a_hereStack, a_weights, a_traceRules, a_traceStates, a_traceHeights, a_traceStacks, a_workStack, a_vector, a_nextVector, a_marked, a_nextMarked) (nI nS, nI nG, nI nN, nI nR, g_traceLen, g_changed, b_used, b_ruleP, b_ruleG, b_ruleQ, b_ruleU, b_edge, b_fin, b_solved, b_weight, b_reach, b_rowState, b_rowHeight, b_rowStack, b_traceRules)) : P u v := by
  obtain ⟨nS, nG, nN, nR, T, E, F, p, w, bT, bF, tl, ok, hc, hl, hx, hy⟩ := I
  obtain ⟨f_unreached, f_stateCount, f_symbolCount, f_nodeCount, f_slotCount, f_hereState, f_hereHeight, f_toSolved, f_fromSolved, f_toCount, f_fromCount, f_traceSize, f_workState, f_workHeight, a_ruleUsed, a_ruleFrom, a_ruleSymbol, a_ruleTo, a_ruleTop, a_ruleBelow, a_edges, a_finals, a_hereStack, a_weights, a_traceRules, a_traceStates, a_traceHeights, a_traceStacks, a_workStack, a_vector, a_nextVector, a_marked, a_nextMarked⟩ := u
  obtain ⟨g_states, g_symbols, g_nodes, g_slots, g_traceLen, g_changed, b_used, b_ruleP, b_ruleG, b_ruleQ, b_ruleU, b_edge, b_fin, b_solved, b_weight, b_reach, b_rowState, b_rowHeight, b_rowStack, b_traceRules⟩ := v
  obtain ⟨rfl, rfl, rfl, rfl, rfl, rfl, hX⟩ := hx
  obtain ⟨rfl, rfl, rfl, rfl, hY⟩ := hy
  exact h nS nG nN nR T E F p w bT bF tl ok hc hl _ _ _ _ _ _ _ _ _ _ _ _ _ _ _ _ _ _ _ _ _ _ _ _ _ _ _ _ _ _ _ _ _ _ _ _ _ _ _ _ _ _ _ hX hY
section
variable {nS nG nN nR : Nat} {f_unreached f_hereState f_hereHeight f_toSolved f_fromSolved f_toCount f_fromCount f_traceSize f_workState f_workHeight : Int32} {a_ruleUsed a_ruleFrom a_ruleSymbol a_ruleTo a_ruleTop a_ruleBelow a_edges a_finals a_hereStack a_weights a_traceRules a_traceStates a_traceHeights a_traceStacks a_workStack a_vector a_nextVector a_marked a_nextMarked : Nat → Int32}
variable {g_traceLen g_changed : Int32} {b_used b_ruleP b_ruleG b_ruleQ b_ruleU b_edge b_fin b_solved b_weight b_reach b_rowState b_rowHeight b_rowStack b_traceRules : Nat → Int32}
variable {T : sy_T} {E : sy_E} {F : sy_F}
theorem re_mk {k p : Nat} {w : List Nat} {bT bF : Bool} {tl : tr_L} (ok : sy_ok nS nG nN nR T E F) (hc : tr_ok nS nG (p, w)) (hl : w.length ≤ 12) (hX : xr_B nS nG nN T E F w bT bF tl f_toSolved f_fromSolved f_toCount f_fromCount f_traceSize a_ruleUsed a_ruleFrom a_ruleSymbol a_ruleTo a_ruleTop a_ruleBelow a_edges a_finals a_hereStack a_weights a_traceRules a_traceStates a_traceHeights a_traceStacks) (hY : yr_B nG T E F p w bT bF tl g_traceLen b_used b_ruleP b_ruleG b_ruleQ b_ruleU b_edge b_fin b_solved b_weight b_rowState b_rowHeight b_rowStack b_traceRules) : i_Rel k (f_unreached, nI nS, nI nG, nI nN, nI nR, nI p, nI w.length, f_toSolved, f_fromSolved, f_toCount, f_fromCount, f_traceSize, f_workState, f_workHeight, a_ruleUsed, a_ruleFrom, a_ruleSymbol, a_ruleTo, a_ruleTop, a_ruleBelow, a_edges, a_finals, a_hereStack, a_weights, a_traceRules, a_traceStates, a_traceHeights, a_traceStacks, a_workStack, a_vector, a_nextVector, a_marked, a_nextMarked) (nI nS, nI nG, nI nN, nI nR, g_traceLen, g_changed, b_used, b_ruleP, b_ruleG, b_ruleQ, b_ruleU, b_edge, b_fin, b_solved, b_weight, b_reach, b_rowState, b_rowHeight, b_rowStack, b_traceRules) :=
  ⟨nS, nG, nN, nR, T, E, F, p, w, bT, bF, tl, ok, hc, hl, ⟨rfl, rfl, rfl, rfl, rfl, rfl, hX⟩, ⟨rfl, rfl, rfl, rfl, hY⟩⟩
theorem re_so {d : Nat} {bT bF : Bool} (hd : d < 2) (x0 : xr_So nS nG nN T E F 0 bT f_toSolved f_toCount a_weights) (x1 : xr_So nS nG nN T E F 1 bF f_fromSolved f_fromCount a_weights) (y0 : yr_So nG T E F 0 bT b_solved b_weight) (y1 : yr_So nG T E F 1 bF b_solved b_weight) : ∃ b, xr_sv d f_toSolved f_fromSolved = st_b b ∧ b_solved (d + 1) = st_b b ∧ (b = true → (∃ W, wa_R 24 d a_weights W ∧ sa_Fx 1000000 (sy_XI d nN T E) W) ∧ ∃ W, wa_R 21 d b_weight W ∧ sa_Fx 1000 (sy_YI d nG T E F) W) := by
  match d, hd with
  | 0, _ =>
    refine ⟨bT, x0.1, y0.1, fun e => ⟨?_, y0.2 e⟩⟩
    obtain ⟨W, h1, h2, _⟩ := x0.2 e
    exact ⟨W, h1, h2⟩
  | 1, _ =>
    refine ⟨bF, x1.1, y1.1, fun e => ⟨?_, y1.2 e⟩⟩
    obtain ⟨W, h1, h2, _⟩ := x1.2 e
    exact ⟨W, h1, h2⟩
end
theorem xr_So0 {nS nG nN d : Nat} {T : sy_T} {E : sy_E} {F : sy_F} {c : Int32} {A : Nat → Int32} : xr_So nS nG nN T E F d false 0 c A := ⟨rfl, fun z => nomatch z⟩
theorem yr_So0 {nG d : Nat} {T : sy_T} {E : sy_E} {F : sy_F} {S A : Nat → Int32} (h : S (d + 1) = 0) : yr_So nG T E F d false S A := ⟨h, fun z => nomatch z⟩
theorem yr_Tr_k {tl : tr_L} {ts : Int32} {TR St H K St' H' K' : Nat → Int32} (h : yr_Tr tl ts TR St H K) (hk : ∀ i c, i ≤ 20 → c.2.length ≤ 40 → yt_Row St H K i c → yt_Row St' H' K' i c) : yr_Tr tl ts TR St' H' K' := by
  match tl, h with
  | none, h => exact h
  | some (len, C, R), h =>
    obtain ⟨h1, h2, h3, h4⟩ := h
    exact ⟨h1, h2, fun j hj => ⟨(h3 j hj).1, hk j (C j) (by omega) (by have := (h3 j hj).1; omega) (h3 j hj).2⟩, h4⟩
theorem yr_Kp_row {St H K St' H' K' : Nat → Int32} (h : yr_Kp St H K St' H' K') {i : Nat} {c : tr_C} (hi : i < 22) (hl : c.2.length ≤ 40) (hr : yt_Row St H K i c) : yt_Row St' H' K' i c :=
  ⟨by rw [h.1 i hi]; exact hr.1, by rw [h.2.1 i hi]; exact hr.2.1, st_stk_cg (fun z hz => h.2.2 _ (by omega)) hr.2.2⟩
/-- both constructors clamp alike -/
theorem re_cl (x : Int32) {m : Nat} (hm : 1 ≤ m) (hm2 : m ≤ 12) : ∃ n, 1 ≤ n ∧ n ≤ m ∧ (∀ (post : Int32 → Prop) (u : SX), post (nI n) → wpX_clamp post u x (nI m)) ∧ (∀ (post : Int32 → Prop) (v : SY), post (nI n) → wpY_clamp post v x (nI m)) := by
  by_cases h1 : 1 ≤ x
  · by_cases h2 : x ≤ nI m
    · have h0 : ¬ x < 1 := Int32.not_lt.mpr h1
      obtain ⟨n, hn1, hn, rfl⟩ := nI_ge1 h0
      have hnm : n ≤ m := (nI_leI hn (by omega)).mp h2
      refine ⟨n, hn1, hnm, ?_, ?_⟩
      · rintro post ⟨f_unreached, f_stateCount, f_symbolCount, f_nodeCount, f_slotCount, f_hereState, f_hereHeight, f_toSolved, f_fromSolved, f_toCount, f_fromCount, f_traceSize, f_workState, f_workHeight, a_ruleUsed, a_ruleFrom, a_ruleSymbol, a_ruleTo, a_ruleTop, a_ruleBelow, a_edges, a_finals, a_hereStack, a_weights, a_traceRules, a_traceStates, a_traceHeights, a_traceStacks, a_workStack, a_vector, a_nextVector, a_marked, a_nextMarked⟩ h
        exact br_t h1 (br_t h2 h)
      · rintro post ⟨g_states, g_symbols, g_nodes, g_slots, g_traceLen, g_changed, b_used, b_ruleP, b_ruleG, b_ruleQ, b_ruleU, b_edge, b_fin, b_solved, b_weight, b_reach, b_rowState, b_rowHeight, b_rowStack, b_traceRules⟩ h
        exact br_t h1 (br_t h2 h)
    · refine ⟨m, hm, Nat.le_refl _, ?_, ?_⟩
      · rintro post ⟨f_unreached, f_stateCount, f_symbolCount, f_nodeCount, f_slotCount, f_hereState, f_hereHeight, f_toSolved, f_fromSolved, f_toCount, f_fromCount, f_traceSize, f_workState, f_workHeight, a_ruleUsed, a_ruleFrom, a_ruleSymbol, a_ruleTo, a_ruleTop, a_ruleBelow, a_edges, a_finals, a_hereStack, a_weights, a_traceRules, a_traceStates, a_traceHeights, a_traceStacks, a_workStack, a_vector, a_nextVector, a_marked, a_nextMarked⟩ h
        exact br_t h1 (br_f h2 h)
      · rintro post ⟨g_states, g_symbols, g_nodes, g_slots, g_traceLen, g_changed, b_used, b_ruleP, b_ruleG, b_ruleQ, b_ruleU, b_edge, b_fin, b_solved, b_weight, b_reach, b_rowState, b_rowHeight, b_rowStack, b_traceRules⟩ h
        exact br_t h1 (br_f h2 h)
  · refine ⟨1, Nat.le_refl _, hm, ?_, ?_⟩
    · rintro post ⟨f_unreached, f_stateCount, f_symbolCount, f_nodeCount, f_slotCount, f_hereState, f_hereHeight, f_toSolved, f_fromSolved, f_toCount, f_fromCount, f_traceSize, f_workState, f_workHeight, a_ruleUsed, a_ruleFrom, a_ruleSymbol, a_ruleTo, a_ruleTop, a_ruleBelow, a_edges, a_finals, a_hereStack, a_weights, a_traceRules, a_traceStates, a_traceHeights, a_traceStacks, a_workStack, a_vector, a_nextVector, a_marked, a_nextMarked⟩ h
      exact br_f h1 h
    · rintro post ⟨g_states, g_symbols, g_nodes, g_slots, g_traceLen, g_changed, b_used, b_ruleP, b_ruleG, b_ruleQ, b_ruleU, b_edge, b_fin, b_solved, b_weight, b_reach, b_rowState, b_rowHeight, b_rowStack, b_traceRules⟩ h
      exact br_f h1 h
theorem i_vc0 (k0 : Int32) (k1 : Int32) (k2 : Int32) (k3 : Int32) : wpX_init (fun u => wpY_init (fun v => i_Rel 4 u v) k0 k1 k2 k3) k0 k1 k2 k3 := by
  obtain ⟨a, ha, ha2, aX, aY⟩ := re_cl k0 (m := 4) (by omega) (by omega)
  obtain ⟨b, hb, hb2, bX, bY⟩ := re_cl k1 (m := 4) (by omega) (by omega)
  obtain ⟨c, hc, hc2, cX, cY⟩ := re_cl k2 (m := 4) (by omega) (by omega)
  obtain ⟨d, hd, hd2, dX, dY⟩ := re_cl k3 (m := 12) (by omega) (by omega)
  unfold wpX_init
  refine aX _ _ (bX _ _ (cX _ _ (nm_r (nI_add a c) (dX _ _ ?_))))
  unfold wpY_init
  refine aY _ _ (bY _ _ (cY _ _ (nm_r (nI_add a c) (dY _ _ ?_))))
  refine re_mk (p := 0) (w := []) (bT := false) (bF := false) (tl := none) (T := fun _ => none) (E := fun _ _ _ => false) (F := fun _ => false) ?_ ?_ (by decide) ⟨?_, ?_, ?_, trivial, xr_So0, xr_So0, rfl⟩ ⟨?_, ?_, ?_, ⟨rfl, rfl, trivial⟩, yr_So0 rfl, yr_So0 rfl, rfl⟩
  · refine ⟨(fun _ _ _ _ _ z => nomatch z), (fun _ _ _ z => nomatch z), (fun _ z => nomatch z), by omega, by omega, by omega, by omega, by omega, by omega, by omega, by omega⟩
  · exact ⟨by show 0 < a; omega, fun x hx => absurd hx List.not_mem_nil⟩
  · exact fun r hr => ⟨fun _ => rfl, fun _ _ _ _ z => nomatch z⟩
  · exact fun f g t _ _ _ _ => rfl
  · exact fun f _ => rfl
  · exact fun r hr => ⟨fun _ => rfl, fun _ _ _ _ z => nomatch z⟩
  · exact fun f g t _ _ _ _ => rfl
  · exact fun f _ => rfl
end
section
/-! the owed statements: edits -/
theorem i_vc_addRule {k : Nat} {u : SX} {v : SY} (I : i_Rel k u v) (hk : k + 5 ≤ 2564) (v1 : Int32) (v2 : Int32) (v3 : Int32) (v4 : Int32) : wpX_addRule (fun r u' => wpY_addRule (fun r' v' => r' = r ∧ i_Rel (k + 5) u' v') v v1 v2 v3 v4) u v1 v2 v3 v4 := by
  refine re_el (P := fun u v => wpX_addRule (fun r u' => wpY_addRule (fun r' v' => r' = r ∧ i_Rel (k + 5) u' v') v v1 v2 v3 v4) u v1 v2 v3 v4) I ?_
  intros nS nG nN nR T E F p w bT bF tl ok hc hl
  intros
  rename_i hX hY
  obtain ⟨xru, xed, xfi, xk, xs0, xs1, xtr⟩ := hX
  obtain ⟨yru, yed, yfi, yrw, ys0, ys1, ytr⟩ := hY
  by_cases hv : ∃ p g q u, p < nS ∧ 1 ≤ g ∧ g ≤ nG ∧ q < nS ∧ sy_wd nG u ∧ v1 = nI p ∧ v2 = nI g ∧ v3 = nI q ∧ v4 = nI (st_cd u)
  · obtain ⟨p', g', q', u', h1, h2, h3, h4, h5, rfl, rfl, rfl, rfl⟩ := hv
    by_cases hf : ∃ s, s < nR ∧ T s = none
    · obtain ⟨s, ⟨hs, hT⟩, hle⟩ := pk_least (fun s => s < nR ∧ T s = none) hf
      have hall : ∀ r, r < s → T r ≠ none := fun r hr e => hle r hr ⟨by omega, e⟩
      refine xb_ar_t ok xru h1 h2 h3 h4 h5 hT hs hall ?_
      intro us fr sy to tp bl hru
      refine yd_ar ok yru h1 h2 h3 h4 h5 (fun hn => absurd hT (hn s hs)) ?_
      intro s' hs' hT' hall' us' fr' sy' to' wd' S hru' e1 e2
      have es : s' = s := by
        by_cases hlt : s' < s
        · exact absurd hT' (hall s' hlt)
        · by_cases hgt : s < s'
          · exact absurd hT (hall' s hgt)
          · omega
      subst es
      refine ⟨rfl, re_mk (bT := false) (bF := false) (tl := none) ?_ hc hl ⟨hru, xed, xfi, xk, xr_So0, xr_So0, rfl⟩ ⟨hru', yed, yfi, yrw, yr_So0 e1, yr_So0 e2, rfl⟩⟩
      refine ⟨?_, ok.2⟩
      intro r p g q u hT2
      by_cases e : r = s'
      · subst e
        rw [sy_add_s] at hT2
        injection hT2 with e
        injection e with e3 e
        injection e with e4 e
        injection e with e5 e6
        subst e3 e4 e5 e6
        exact ⟨hs, h1, h2, h3, h4, h5⟩
      · rw [sy_add_n e] at hT2
        exact ok.1 _ _ _ _ _ hT2
    · have hall : ∀ r, r < nR → T r ≠ none := fun r hr e => hf ⟨r, hr, e⟩
      refine xb_ar_n ok xru h1 h2 h3 h4 h5 hall ?_
      refine yd_ar ok yru h1 h2 h3 h4 h5 (fun _ => ?_) (fun s hs hT => absurd hT (hall s hs))
      exact ⟨rfl, re_mk ok hc hl ⟨xru, xed, xfi, xk, xs0, xs1, xtr⟩ ⟨yru, yed, yfi, yrw, ys0, ys1, ytr⟩⟩
  · have hx : ∀ p g q u, p < nS → 1 ≤ g → g ≤ nG → q < nS → sy_wd nG u → v1 = nI p → v2 = nI g → v3 = nI q → ¬ v4 = nI (st_cd u) := fun p g q u a1 a2 a3 a4 a5 a6 a7 a8 a9 => hv ⟨p, g, q, u, a1, a2, a3, a4, a5, a6, a7, a8, a9⟩
    refine xb_ar_f ok hx (yd_ar_f ok hx ?_)
    exact ⟨rfl, re_mk ok hc hl ⟨xru, xed, xfi, xk, xs0, xs1, xtr⟩ ⟨yru, yed, yfi, yrw, ys0, ys1, ytr⟩⟩
theorem i_vc_removeRule {k : Nat} {u : SX} {v : SY} (I : i_Rel k u v) (hk : k + 5 ≤ 2564) (v1 : Int32) : wpX_removeRule (fun r u' => wpY_removeRule (fun r' v' => r' = r ∧ i_Rel (k + 5) u' v') v v1) u v1 := by
  refine re_el (P := fun u v => wpX_removeRule (fun r u' => wpY_removeRule (fun r' v' => r' = r ∧ i_Rel (k + 5) u' v') v v1) u v1) I ?_
  intros nS nG nN nR T E F p w bT bF tl ok hc hl
  intros
  rename_i hX hY
  obtain ⟨xru, xed, xfi, xk, xs0, xs1, xtr⟩ := hX
  obtain ⟨yru, yed, yfi, yrw, ys0, ys1, ytr⟩ := hY
  by_cases hv : ∃ r c, T r = some c ∧ v1 = nI r
  · obtain ⟨r, c, hT, rfl⟩ := hv
    refine xb_rr_t ok xru hT ?_
    intro us hru
    refine yd_rr_t ok yru hT ?_
    intro us' S hru' e1 e2
    refine ⟨rfl, re_mk (bT := false) (bF := false) (tl := none) ?_ hc hl ⟨hru, xed, xfi, xk, xr_So0, xr_So0, rfl⟩ ⟨hru', yed, yfi, yrw, yr_So0 e1, yr_So0 e2, rfl⟩⟩
    refine ⟨?_, ok.2⟩
    intro r' p g q u hT2
    by_cases e : r' = r
    · subst e
      rw [sy_add_s] at hT2
      exact nomatch hT2
    · rw [sy_add_n e] at hT2
      exact ok.1 _ _ _ _ _ hT2
  · have hx : ∀ r c, T r = some c → ¬ v1 = nI r := fun r c h e => hv ⟨r, c, h, e⟩
    refine xb_rr_f ok xru hx (yd_rr_f ok yru hx ?_)
    exact ⟨rfl, re_mk ok hc hl ⟨xru, xed, xfi, xk, xs0, xs1, xtr⟩ ⟨yru, yed, yfi, yrw, ys0, ys1, ytr⟩⟩
theorem i_vc_ruleField {k : Nat} {u : SX} {v : SY} (I : i_Rel k u v) (hk : k + 5 ≤ 2564) (v1 : Int32) (v2 : Int32) : wpX_ruleField (fun r => wpY_ruleField (fun r' => r' = r ∧ i_Rel (k + 5) u v) v v1 v2) u v1 v2 := by
  refine re_el (P := fun u v => wpX_ruleField (fun r => wpY_ruleField (fun r' => r' = r ∧ i_Rel (k + 5) u v) v v1 v2) u v1 v2) I ?_
  intros nS nG nN nR T E F p w bT bF tl ok hc hl
  intros
  rename_i hX hY
  obtain ⟨xru, xed, xfi, xk, xs0, xs1, xtr⟩ := hX
  obtain ⟨yru, yed, yfi, yrw, ys0, ys1, ytr⟩ := hY
  have hR : nR ≤ 12 := ok.2.2.2.2.2.2.2.2.2.2
  refine xc_rf ok xru (fun hn => ?_) (fun r f hr hf e1 e2 hT => ?_) (fun r f c hr hf e1 e2 hT => ?_)
  · exact yd_rf ok yru (fun _ => ⟨rfl, re_mk ok hc hl ⟨xru, xed, xfi, xk, xs0, xs1, xtr⟩ ⟨yru, yed, yfi, yrw, ys0, ys1, ytr⟩⟩) (fun r f a1 a2 a3 a4 _ => absurd a4 (hn r f a1 a2 a3)) (fun r f c a1 a2 a3 a4 _ => absurd a4 (hn r f a1 a2 a3))
  · refine yd_rf ok yru (fun hn => absurd e2 (hn r f hr hf e1)) (fun _ _ _ _ _ _ _ => ⟨rfl, re_mk ok hc hl ⟨xru, xed, xfi, xk, xs0, xs1, xtr⟩ ⟨yru, yed, yfi, yrw, ys0, ys1, ytr⟩⟩) (fun r' f' c' a1 a2 a3 a4 hT' => ?_)
    rw [e1, nI_eq (by omega) (by omega)] at a3
    rw [← a3, hT] at hT'
    exact nomatch hT'
  · refine yd_rf ok yru (fun hn => absurd e2 (hn r f hr hf e1)) (fun r' f' a1 a2 a3 a4 hT' => ?_) (fun r' f' c' a1 a2 a3 a4 hT' => ?_)
    · rw [e1, nI_eq (by omega) (by omega)] at a3
      rw [← a3, hT] at hT'
      exact nomatch hT'
    · rw [e1, nI_eq (by omega) (by omega)] at a3
      rw [e2, nI_eq (by omega) (by omega)] at a4
      rw [← a3, hT] at hT'
      injection hT' with hT'
      subst hT' a4
      exact ⟨rfl, re_mk ok hc hl ⟨xru, xed, xfi, xk, xs0, xs1, xtr⟩ ⟨yru, yed, yfi, yrw, ys0, ys1, ytr⟩⟩
theorem sy_ok_E {nS nG nN nR : Nat} {T : sy_T} {E : sy_E} {F : sy_F} {f g t : Nat} {b : Bool} (ok : sy_ok nS nG nN nR T E F) (hf : f < nN) (hg : 1 ≤ g) (hg2 : g ≤ nG) (ht : nS ≤ t) (ht2 : t < nN) : sy_ok nS nG nN nR T (sy_E1 E f g t b) F := by
  refine ⟨ok.1, ?_, ok.2.2⟩
  intro f' g' t' h
  unfold sy_E1 at h
  by_cases e : f' = f ∧ g' = g ∧ t' = t
  · obtain ⟨rfl, rfl, rfl⟩ := e
    exact ⟨hf, hg, hg2, ht, ht2⟩
  · rw [if_neg e] at h
    exact ok.2.1 _ _ _ h
theorem sy_ok_F {nS nG nN nR : Nat} {T : sy_T} {E : sy_E} {F : sy_F} {f : Nat} {b : Bool} (ok : sy_ok nS nG nN nR T E F) (hf : f < nN) : sy_ok nS nG nN nR T E (sy_F1 F f b) := by
  refine ⟨ok.1, ok.2.1, ?_, ok.2.2.2⟩
  intro f' h
  unfold sy_F1 at h
  by_cases e : f' = f
  · subst e; exact hf
  · rw [if_neg e] at h
    exact ok.2.2.1 _ h
theorem i_vc_setEdge {k : Nat} {u : SX} {v : SY} (I : i_Rel k u v) (hk : k + 5 ≤ 2564) (v1 : Int32) (v2 : Int32) (v3 : Int32) (v4 : Int32) : wpX_setEdge (fun r u' => wpY_setEdge (fun r' v' => r' = r ∧ i_Rel (k + 5) u' v') v v1 v2 v3 (lw_bz v4)) u v1 v2 v3 (lw_bz v4) := by
  obtain ⟨b, hb⟩ := st_bz v4
  rw [hb]
  refine re_el (P := fun u v => wpX_setEdge (fun r u' => wpY_setEdge (fun r' v' => r' = r ∧ i_Rel (k + 5) u' v') v v1 v2 v3 (st_b b)) u v1 v2 v3 (st_b b)) I ?_
  intros nS nG nN nR T E F p w bT bF tl ok hc hl
  intros
  rename_i hX hY
  obtain ⟨xru, xed, xfi, xk, xs0, xs1, xtr⟩ := hX
  obtain ⟨yru, yed, yfi, yrw, ys0, ys1, ytr⟩ := hY
  by_cases hv : ∃ f g t, f < nN ∧ 1 ≤ g ∧ g ≤ nG ∧ nS ≤ t ∧ t < nN ∧ v1 = nI f ∧ v2 = nI g ∧ v3 = nI t
  · obtain ⟨f, g, t, h1, h2, h3, h4, h5, rfl, rfl, rfl⟩ := hv
    refine xc_se_t ok xed h1 h2 h3 h4 h5 (fun e => ?_) (fun e A hA => ?_)
    · refine yd_se_t ok yed h1 h2 h3 h4 h5 (fun _ => ?_) (fun e2 => absurd e e2)
      exact ⟨rfl, re_mk ok hc hl ⟨xru, xed, xfi, xk, xs0, xs1, xtr⟩ ⟨yru, yed, yfi, yrw, ys0, ys1, ytr⟩⟩
    · refine yd_se_t ok yed h1 h2 h3 h4 h5 (fun e2 => absurd e2 e) (fun _ A' S hA' e1 e2 => ?_)
      exact ⟨rfl, re_mk (bT := false) (bF := false) (tl := none) (sy_ok_E ok h1 h2 h3 h4 h5) hc hl ⟨xru, hA, xfi, xk, xr_So0, xr_So0, rfl⟩ ⟨yru, hA', yfi, yrw, yr_So0 e1, yr_So0 e2, rfl⟩⟩
  · have hx : ∀ f g t, f < nN → 1 ≤ g → g ≤ nG → nS ≤ t → t < nN → v1 = nI f → v2 = nI g → ¬ v3 = nI t := fun f g t a1 a2 a3 a4 a5 a6 a7 a8 => hv ⟨f, g, t, a1, a2, a3, a4, a5, a6, a7, a8⟩
    refine xc_se_f ok hx (yd_se_f ok hx ?_)
    exact ⟨rfl, re_mk ok hc hl ⟨xru, xed, xfi, xk, xs0, xs1, xtr⟩ ⟨yru, yed, yfi, yrw, ys0, ys1, ytr⟩⟩
theorem i_vc_hasEdge {k : Nat} {u : SX} {v : SY} (I : i_Rel k u v) (hk : k + 5 ≤ 2564) (v1 : Int32) (v2 : Int32) (v3 : Int32) : wpX_hasEdge (fun r => wpY_hasEdge (fun r' => r' = r ∧ i_Rel (k + 5) u v) v v1 v2 v3) u v1 v2 v3 := by
  refine re_el (P := fun u v => wpX_hasEdge (fun r => wpY_hasEdge (fun r' => r' = r ∧ i_Rel (k + 5) u v) v v1 v2 v3) u v1 v2 v3) I ?_
  intros nS nG nN nR T E F p w bT bF tl ok hc hl
  intros
  rename_i hX hY
  obtain ⟨xru, xed, xfi, xk, xs0, xs1, xtr⟩ := hX
  obtain ⟨yru, yed, yfi, yrw, ys0, ys1, ytr⟩ := hY
  have hN : nN ≤ 8 := ok.2.2.2.2.2.2.2.2.1
  have hG : nG ≤ 4 := ok.2.2.2.2.2.2.1
  by_cases hv : ∃ f g t, f < nN ∧ 1 ≤ g ∧ g ≤ nG ∧ nS ≤ t ∧ t < nN ∧ v1 = nI f ∧ v2 = nI g ∧ v3 = nI t
  · obtain ⟨f, g, t, h1, h2, h3, h4, h5, rfl, rfl, rfl⟩ := hv
    refine xc_he_t ok xed h1 h2 h3 h4 h5 (yb_he ok yed (by omega) (by omega) (by omega) ?_)
    exact ⟨rfl, re_mk ok hc hl ⟨xru, xed, xfi, xk, xs0, xs1, xtr⟩ ⟨yru, yed, yfi, yrw, ys0, ys1, ytr⟩⟩
  · have hx : ∀ f g t, f < nN → 1 ≤ g → g ≤ nG → nS ≤ t → t < nN → v1 = nI f → v2 = nI g → ¬ v3 = nI t := fun f g t a1 a2 a3 a4 a5 a6 a7 a8 => hv ⟨f, g, t, a1, a2, a3, a4, a5, a6, a7, a8⟩
    refine xc_he_f ok hx (yd_he_f ok hx ?_)
    exact ⟨rfl, re_mk ok hc hl ⟨xru, xed, xfi, xk, xs0, xs1, xtr⟩ ⟨yru, yed, yfi, yrw, ys0, ys1, ytr⟩⟩
theorem i_vc_setFinal {k : Nat} {u : SX} {v : SY} (I : i_Rel k u v) (hk : k + 5 ≤ 2564) (v1 : Int32) (v2 : Int32) : wpX_setFinal (fun r u' => wpY_setFinal (fun r' v' => r' = r ∧ i_Rel (k + 5) u' v') v v1 (lw_bz v2)) u v1 (lw_bz v2) := by
  obtain ⟨b, hb⟩ := st_bz v2
  rw [hb]
  refine re_el (P := fun u v => wpX_setFinal (fun r u' => wpY_setFinal (fun r' v' => r' = r ∧ i_Rel (k + 5) u' v') v v1 (st_b b)) u v1 (st_b b)) I ?_
  intros nS nG nN nR T E F p w bT bF tl ok hc hl
  intros
  rename_i hX hY
  obtain ⟨xru, xed, xfi, xk, xs0, xs1, xtr⟩ := hX
  obtain ⟨yru, yed, yfi, yrw, ys0, ys1, ytr⟩ := hY
  by_cases hv : ∃ f, f < nN ∧ v1 = nI f
  · obtain ⟨f, h1, rfl⟩ := hv
    refine xc_sf_t ok xfi h1 (fun e => ?_) (fun e A hA => ?_)
    · refine yd_sf_t ok yfi h1 (fun _ => ?_) (fun e2 => absurd e e2)
      exact ⟨rfl, re_mk ok hc hl ⟨xru, xed, xfi, xk, xs0, xs1, xtr⟩ ⟨yru, yed, yfi, yrw, ys0, ys1, ytr⟩⟩
    · refine yd_sf_t ok yfi h1 (fun e2 => absurd e2 e) (fun _ A' S hA' e1 e2 => ?_)
      exact ⟨rfl, re_mk (bT := false) (bF := false) (tl := none) (sy_ok_F ok h1) hc hl ⟨xru, xed, hA, xk, xr_So0, xr_So0, rfl⟩ ⟨yru, yed, hA', yrw, yr_So0 e1, yr_So0 e2, rfl⟩⟩
  · have hx : ∀ f, f < nN → ¬ v1 = nI f := fun f a1 a2 => hv ⟨f, a1, a2⟩
    refine xc_sf_f ok hx (yd_sf_f ok hx ?_)
    exact ⟨rfl, re_mk ok hc hl ⟨xru, xed, xfi, xk, xs0, xs1, xtr⟩ ⟨yru, yed, yfi, yrw, ys0, ys1, ytr⟩⟩
theorem i_vc_isFinal {k : Nat} {u : SX} {v : SY} (I : i_Rel k u v) (hk : k + 5 ≤ 2564) (v1 : Int32) : wpX_isFinal (fun r => wpY_isFinal (fun r' => r' = r ∧ i_Rel (k + 5) u v) v v1) u v1 := by
  refine re_el (P := fun u v => wpX_isFinal (fun r => wpY_isFinal (fun r' => r' = r ∧ i_Rel (k + 5) u v) v v1) u v1) I ?_
  intros nS nG nN nR T E F p w bT bF tl ok hc hl
  intros
  rename_i hX hY
  obtain ⟨xru, xed, xfi, xk, xs0, xs1, xtr⟩ := hX
  obtain ⟨yru, yed, yfi, yrw, ys0, ys1, ytr⟩ := hY
  have hN : nN ≤ 8 := ok.2.2.2.2.2.2.2.2.1
  by_cases hv : ∃ f, f < nN ∧ v1 = nI f
  · obtain ⟨f, h1, rfl⟩ := hv
    refine xc_if_t ok xfi h1 (yb_if ok yfi (by omega) ?_)
    exact ⟨rfl, re_mk ok hc hl ⟨xru, xed, xfi, xk, xs0, xs1, xtr⟩ ⟨yru, yed, yfi, yrw, ys0, ys1, ytr⟩⟩
  · have hx : ∀ f, f < nN → ¬ v1 = nI f := fun f a1 a2 => hv ⟨f, a1, a2⟩
    refine xc_if_f ok hx (yd_if_f ok hx ?_)
    exact ⟨rfl, re_mk ok hc hl ⟨xru, xed, xfi, xk, xs0, xs1, xtr⟩ ⟨yru, yed, yfi, yrw, ys0, ys1, ytr⟩⟩
end
section
/-! the owed statements: the configuration, looking -/
theorem i_vc_place {k : Nat} {u : SX} {v : SY} (I : i_Rel k u v) (hk : k + 5 ≤ 2564) (v1 : Int32) : wpX_place (fun r u' => wpY_place (fun r' v' => r' = r ∧ i_Rel (k + 5) u' v') v v1) u v1 := by
  refine re_el (P := fun u v => wpX_place (fun r u' => wpY_place (fun r' v' => r' = r ∧ i_Rel (k + 5) u' v') v v1) u v1) I ?_
  intros nS nG nN nR T E F p w bT bF tl ok hc hl
  intros
  rename_i hX hY
  obtain ⟨xru, xed, xfi, xk, xs0, xs1, xtr⟩ := hX
  obtain ⟨yru, yed, yfi, yrw, ys0, ys1, ytr⟩ := hY
  have hS : nS ≤ 4 := ok.2.2.2.2.1
  by_cases hv : ∃ q, q < nS ∧ v1 = nI q
  · obtain ⟨q, h1, rfl⟩ := hv
    refine xc_pl_t hS h1 (yd_pl_t hS h1 ?_)
    intro St H hr hk'
    exact ⟨rfl, re_mk (p := q) (w := []) ok ⟨h1, fun a ha => absurd ha List.not_mem_nil⟩ (by decide) ⟨xru, xed, xfi, trivial, xs0, xs1, xtr⟩ ⟨yru, yed, yfi, hr, ys0, ys1, yr_Tr_k ytr (fun i c hi hl hr => hk' i c (by omega) hl hr)⟩⟩
  · have hx : ∀ q, q < nS → ¬ v1 = nI q := fun f a1 a2 => hv ⟨f, a1, a2⟩
    refine xc_pl_f hS hx (yd_pl_f hS hx ?_)
    exact ⟨rfl, re_mk ok hc hl ⟨xru, xed, xfi, xk, xs0, xs1, xtr⟩ ⟨yru, yed, yfi, yrw, ys0, ys1, ytr⟩⟩
theorem i_vc_push {k : Nat} {u : SX} {v : SY} (I : i_Rel k u v) (hk : k + 5 ≤ 2564) (v1 : Int32) : wpX_push (fun r u' => wpY_push (fun r' v' => r' = r ∧ i_Rel (k + 5) u' v') v v1) u v1 := by
  refine re_el (P := fun u v => wpX_push (fun r u' => wpY_push (fun r' v' => r' = r ∧ i_Rel (k + 5) u' v') v v1) u v1) I ?_
  intros nS nG nN nR T E F p w bT bF tl ok hc hl
  intros
  rename_i hX hY
  obtain ⟨xru, xed, xfi, xk, xs0, xs1, xtr⟩ := hX
  obtain ⟨yru, yed, yfi, yrw, ys0, ys1, ytr⟩ := hY
  have hG : nG ≤ 4 := ok.2.2.2.2.2.2.1
  by_cases hv : ∃ g, 1 ≤ g ∧ g ≤ nG ∧ v1 = nI g
  · obtain ⟨g, h1, h2, rfl⟩ := hv
    refine xc_pu_t hG h1 h2 xk (fun hlt A hA => ?_) (fun hge => ?_) hl
    · refine yd_pu_t hG h1 h2 hl yrw (fun _ H K hr hk' => ?_) (fun z => absurd z (by omega))
      refine ⟨rfl, re_mk (p := p) (w := g :: w) ok ⟨hc.1, ?_⟩ hlt ⟨xru, xed, xfi, hA, xs0, xs1, xtr⟩ ⟨yru, yed, yfi, hr, ys0, ys1, yr_Tr_k ytr (fun i c hi hl hr => hk' i c (by omega) hl hr)⟩⟩
      intro a ha
      rcases List.mem_cons.mp ha with rfl | ha
      · exact ⟨h1, h2⟩
      · exact hc.2 a ha
    · refine yd_pu_t hG h1 h2 hl yrw (fun z => absurd z (by omega)) (fun _ => ?_)
      exact ⟨rfl, re_mk ok hc hl ⟨xru, xed, xfi, xk, xs0, xs1, xtr⟩ ⟨yru, yed, yfi, yrw, ys0, ys1, ytr⟩⟩
  · have hx : ∀ g, 1 ≤ g → g ≤ nG → ¬ v1 = nI g := fun f a1 a2 a3 => hv ⟨f, a1, a2, a3⟩
    refine xc_pu_f hG hx (yd_pu_f hG hx ?_)
    exact ⟨rfl, re_mk ok hc hl ⟨xru, xed, xfi, xk, xs0, xs1, xtr⟩ ⟨yru, yed, yfi, yrw, ys0, ys1, ytr⟩⟩
theorem i_vc_drop {k : Nat} {u : SX} {v : SY} (I : i_Rel k u v) (hk : k + 5 ≤ 2564) : wpX_drop (fun r u' => wpY_drop (fun r' v' => r' = r ∧ i_Rel (k + 5) u' v') v) u := by
  refine re_el (P := fun u v => wpX_drop (fun r u' => wpY_drop (fun r' v' => r' = r ∧ i_Rel (k + 5) u' v') v) u) I ?_
  intros nS nG nN nR T E F p w bT bF tl ok hc hl
  intros
  rename_i hX hY
  obtain ⟨xru, xed, xfi, xk, xs0, xs1, xtr⟩ := hX
  obtain ⟨yru, yed, yfi, yrw, ys0, ys1, ytr⟩ := hY
  cases w with
  | nil =>
    refine xc_dr_0 (yd_dr_0 yrw ?_)
    exact ⟨rfl, re_mk (p := p) (w := []) ok hc hl ⟨xru, xed, xfi, xk, xs0, xs1, xtr⟩ ⟨yru, yed, yfi, yrw, ys0, ys1, ytr⟩⟩
  | cons a w =>
    have hl' : w.length < 12 := hl
    refine xc_dr_1 hl' xk (yd_dr_1 hl' yrw ?_)
    intro H hr hk'
    exact ⟨rfl, re_mk (p := p) (w := w) ok ⟨hc.1, fun b hb => hc.2 b (List.mem_cons_of_mem _ hb)⟩ (by omega) ⟨xru, xed, xfi, xk.2, xs0, xs1, xtr⟩ ⟨yru, yed, yfi, hr, ys0, ys1, yr_Tr_k ytr (fun i c hi hl hr => hk' i c (by omega) hl hr)⟩⟩
theorem i_vc_fire {k : Nat} {u : SX} {v : SY} (I : i_Rel k u v) (hk : k + 5 ≤ 2564) (v1 : Int32) : wpX_fire (fun r u' => wpY_fire (fun r' v' => r' = r ∧ i_Rel (k + 5) u' v') v v1) u v1 := by
  refine re_el (P := fun u v => wpX_fire (fun r u' => wpY_fire (fun r' v' => r' = r ∧ i_Rel (k + 5) u' v') v v1) u v1) I ?_
  intros nS nG nN nR T E F p w bT bF tl ok hc hl
  intros
  rename_i hX hY
  obtain ⟨xru, xed, xfi, xk, xs0, xs1, xtr⟩ := hX
  obtain ⟨yru, yed, yfi, yrw, ys0, ys1, ytr⟩ := hY
  by_cases hv : ∃ r c, T r = some c ∧ v1 = nI r
  · obtain ⟨r, t, hT, rfl⟩ := hv
    refine xc_fi_t (c := (p, w)) ok xru hT hc hl xk (fun c' S hft hle hs => ?_) (fun c' hft hgt => ?_) (fun hno => ?_)
    · have hok := tr_Ft_ok ok hft hc
      refine yd_fi_t (c := (p, w)) ok yru hT hc hl yrw (fun c2 St H K hft2 _ hr hk0 => ?_) (fun c2 St H K hft2 hgt => ?_) (fun hno => absurd hft (hno c'))
      · have e := tr_Ft_fn hft hft2
        subst e
        exact ⟨rfl, re_mk (p := c'.1) (w := c'.2) ok hok.1 hle ⟨xru, xed, xfi, hs, xs0, xs1, xtr⟩ ⟨yru, yed, yfi, hr, ys0, ys1, yr_Tr_k ytr hk0⟩⟩
      · have e := tr_Ft_fn hft hft2
        subst e
        exact absurd hle (by omega)
    · refine yd_fi_t (c := (p, w)) ok yru hT hc hl yrw (fun c2 St H K hft2 hle => ?_) (fun c2 St H K hft2 _ hr hk0 => ?_) (fun hno => absurd hft (hno c'))
      · have e := tr_Ft_fn hft hft2
        subst e
        exact absurd hle (by omega)
      · exact ⟨rfl, re_mk (p := p) (w := w) ok hc hl ⟨xru, xed, xfi, xk, xs0, xs1, xtr⟩ ⟨yru, yed, yfi, hr, ys0, ys1, yr_Tr_k ytr hk0⟩⟩
    · refine yd_fi_t (c := (p, w)) ok yru hT hc hl yrw (fun c2 St H K hft2 => absurd hft2 (hno c2)) (fun c2 St H K hft2 => absurd hft2 (hno c2)) (fun _ => ?_)
      exact ⟨rfl, re_mk (p := p) (w := w) ok hc hl ⟨xru, xed, xfi, xk, xs0, xs1, xtr⟩ ⟨yru, yed, yfi, yrw, ys0, ys1, ytr⟩⟩
  · have hx : ∀ r c, T r = some c → ¬ v1 = nI r := fun r c h e => hv ⟨r, c, h, e⟩
    refine xc_fi_f ok xru hx (yd_fi_f ok yru hx ?_)
    exact ⟨rfl, re_mk ok hc hl ⟨xru, xed, xfi, xk, xs0, xs1, xtr⟩ ⟨yru, yed, yfi, yrw, ys0, ys1, ytr⟩⟩
theorem i_vc_inSet {k : Nat} {u : SX} {v : SY} (I : i_Rel k u v) (hk : k + 5 ≤ 2564) : wpX_inSet (fun r u' => wpY_inSet (fun r' v' => r' = r ∧ i_Rel (k + 5) u' v') v) u := by
  refine re_el (P := fun u v => wpX_inSet (fun r u' => wpY_inSet (fun r' v' => r' = r ∧ i_Rel (k + 5) u' v') v) u) I ?_
  intros nS nG nN nR T E F p w bT bF tl ok hc hl
  intros
  rename_i hX hY
  obtain ⟨xru, xed, xfi, xk, xs0, xs1, xtr⟩ := hX
  obtain ⟨yru, yed, yfi, yrw, ys0, ys1, ytr⟩ := hY
  refine xd_in ok xed xfi hc hl xk ?_
  intro A N
  refine ye_in ok yed yfi hc hl yrw ?_
  intro Rc
  exact ⟨rfl, re_mk ok hc hl ⟨xru, xed, xfi, xk, xs0, xs1, xtr⟩ ⟨yru, yed, yfi, yrw, ys0, ys1, ytr⟩⟩
theorem re_j {len len' : Nat} {C C' : Nat → tr_C} {R R' : Nat → Nat} {tl : tr_L} (h : tl = some (len, C, R)) (h' : tl = some (len', C', R')) : len = len' ∧ C = C' ∧ R = R' := by
  rw [h] at h'
  injection h' with h'
  injection h' with h1 h'
  injection h' with h2 h3
  exact ⟨h1, h2, h3⟩
theorem re_20 {tl : tr_L} {ts : Int32} {TR St H K : Nat → Int32} {len : Nat} {C : Nat → tr_C} {R : Nat → Nat} (h : xr_Tr tl ts TR St H K) (e : tl = some (len, C, R)) : len ≤ 20 := by
  subst e
  exact h.2.1
theorem i_vc_state {k : Nat} {u : SX} {v : SY} (I : i_Rel k u v) (hk : k + 5 ≤ 2564) (v1 : Int32) : wpX_state (fun r => wpY_state (fun r' => r' = r ∧ i_Rel (k + 5) u v) v v1) u v1 := by
  refine re_el (P := fun u v => wpX_state (fun r => wpY_state (fun r' => r' = r ∧ i_Rel (k + 5) u v) v v1) u v1) I ?_
  intros nS nG nN nR T E F p w bT bF tl ok hc hl
  intros
  rename_i hX hY
  obtain ⟨xru, xed, xfi, xk, xs0, xs1, xtr⟩ := hX
  obtain ⟨yru, yed, yfi, yrw, ys0, ys1, ytr⟩ := hY
  refine xd_sta xtr (fun e => ?_) (fun len C R j et hj ex => ?_) (fun e hn => ?_)
  · subst e
    refine ye_sta ytr yrw (fun _ => ⟨rfl, re_mk ok hc hl ⟨xru, xed, xfi, xk, xs0, xs1, xtr⟩ ⟨yru, yed, yfi, yrw, ys0, ys1, ytr⟩⟩) (fun len C R j et hj ex => ?_) (fun e _ => absurd rfl e)
    exact absurd ex.symm (nI_nm1 (by have := re_20 xtr et; omega))
  · have h20 := re_20 xtr et
    refine ye_sta ytr yrw (fun e => ?_) (fun len' C' R' j' et' hj' ex' => ?_) (fun _ hn => absurd ex (hn len C R j et hj))
    · rw [ex] at e
      exact absurd e (nI_nm1 (by omega))
    · obtain ⟨rfl, rfl, rfl⟩ := re_j et et'
      rw [ex, nI_eq (by omega) (by omega)] at ex'
      subst ex'
      exact ⟨rfl, re_mk ok hc hl ⟨xru, xed, xfi, xk, xs0, xs1, xtr⟩ ⟨yru, yed, yfi, yrw, ys0, ys1, ytr⟩⟩
  · exact ye_sta ytr yrw (fun e2 => absurd e2 e) (fun len C R j et hj ex => absurd ex (hn len C R j et hj)) (fun _ _ => ⟨rfl, re_mk ok hc hl ⟨xru, xed, xfi, xk, xs0, xs1, xtr⟩ ⟨yru, yed, yfi, yrw, ys0, ys1, ytr⟩⟩)
theorem i_vc_height {k : Nat} {u : SX} {v : SY} (I : i_Rel k u v) (hk : k + 5 ≤ 2564) (v1 : Int32) : wpX_height (fun r => wpY_height (fun r' => r' = r ∧ i_Rel (k + 5) u v) v v1) u v1 := by
  refine re_el (P := fun u v => wpX_height (fun r => wpY_height (fun r' => r' = r ∧ i_Rel (k + 5) u v) v v1) u v1) I ?_
  intros nS nG nN nR T E F p w bT bF tl ok hc hl
  intros
  rename_i hX hY
  obtain ⟨xru, xed, xfi, xk, xs0, xs1, xtr⟩ := hX
  obtain ⟨yru, yed, yfi, yrw, ys0, ys1, ytr⟩ := hY
  refine xd_hei xtr (fun e => ?_) (fun len C R j et hj ex => ?_) (fun e hn => ?_)
  · subst e
    refine ye_hei ytr yrw (fun _ => ⟨rfl, re_mk ok hc hl ⟨xru, xed, xfi, xk, xs0, xs1, xtr⟩ ⟨yru, yed, yfi, yrw, ys0, ys1, ytr⟩⟩) (fun len C R j et hj ex => ?_) (fun e _ => absurd rfl e)
    exact absurd ex.symm (nI_nm1 (by have := re_20 xtr et; omega))
  · have h20 := re_20 xtr et
    refine ye_hei ytr yrw (fun e => ?_) (fun len' C' R' j' et' hj' ex' => ?_) (fun _ hn => absurd ex (hn len C R j et hj))
    · rw [ex] at e
      exact absurd e (nI_nm1 (by omega))
    · obtain ⟨rfl, rfl, rfl⟩ := re_j et et'
      rw [ex, nI_eq (by omega) (by omega)] at ex'
      subst ex'
      exact ⟨rfl, re_mk ok hc hl ⟨xru, xed, xfi, xk, xs0, xs1, xtr⟩ ⟨yru, yed, yfi, yrw, ys0, ys1, ytr⟩⟩
  · exact ye_hei ytr yrw (fun e2 => absurd e2 e) (fun len C R j et hj ex => absurd ex (hn len C R j et hj)) (fun _ _ => ⟨rfl, re_mk ok hc hl ⟨xru, xed, xfi, xk, xs0, xs1, xtr⟩ ⟨yru, yed, yfi, yrw, ys0, ys1, ytr⟩⟩)
theorem i_vc_symbol {k : Nat} {u : SX} {v : SY} (I : i_Rel k u v) (hk : k + 5 ≤ 2564) (v1 : Int32) (v2 : Int32) : wpX_symbol (fun r => wpY_symbol (fun r' => r' = r ∧ i_Rel (k + 5) u v) v v1 v2) u v1 v2 := by
  refine re_el (P := fun u v => wpX_symbol (fun r => wpY_symbol (fun r' => r' = r ∧ i_Rel (k + 5) u v) v v1 v2) u v1 v2) I ?_
  intros nS nG nN nR T E F p w bT bF tl ok hc hl
  intros
  rename_i hX hY
  obtain ⟨xru, xed, xfi, xk, xs0, xs1, xtr⟩ := hX
  obtain ⟨yru, yed, yfi, yrw, ys0, ys1, ytr⟩ := hY
  refine xd_sym xtr hl xk (fun e => ?_) (fun len C R j et hj ex => ?_) (fun e hn => ?_)
  · subst e
    refine ye_sym ytr yrw hl (fun _ => ⟨rfl, re_mk ok hc hl ⟨xru, xed, xfi, xk, xs0, xs1, xtr⟩ ⟨yru, yed, yfi, yrw, ys0, ys1, ytr⟩⟩) (fun len C R j et hj ex => ?_) (fun e _ => absurd rfl e)
    exact absurd ex.symm (nI_nm1 (by have := re_20 xtr et; omega))
  · have h20 := re_20 xtr et
    refine ye_sym ytr yrw hl (fun e => ?_) (fun len' C' R' j' et' hj' ex' => ?_) (fun _ hn => absurd ex (hn len C R j et hj))
    · rw [ex] at e
      exact absurd e (nI_nm1 (by omega))
    · obtain ⟨rfl, rfl, rfl⟩ := re_j et et'
      rw [ex, nI_eq (by omega) (by omega)] at ex'
      subst ex'
      exact ⟨rfl, re_mk ok hc hl ⟨xru, xed, xfi, xk, xs0, xs1, xtr⟩ ⟨yru, yed, yfi, yrw, ys0, ys1, ytr⟩⟩
  · exact ye_sym ytr yrw hl (fun e2 => absurd e2 e) (fun len C R j et hj ex => absurd ex (hn len C R j et hj)) (fun _ _ => ⟨rfl, re_mk ok hc hl ⟨xru, xed, xfi, xk, xs0, xs1, xtr⟩ ⟨yru, yed, yfi, yrw, ys0, ys1, ytr⟩⟩)
theorem i_vc_traceLength {k : Nat} {u : SX} {v : SY} (I : i_Rel k u v) (hk : k + 5 ≤ 2564) : wpX_traceLength (fun r => wpY_traceLength (fun r' => r' = r ∧ i_Rel (k + 5) u v) v) u := by
  refine re_el (P := fun u v => wpX_traceLength (fun r => wpY_traceLength (fun r' => r' = r ∧ i_Rel (k + 5) u v) v) u) I ?_
  intros nS nG nN nR T E F p w bT bF tl ok hc hl
  intros
  rename_i hX hY
  obtain ⟨xru, xed, xfi, xk, xs0, xs1, xtr⟩ := hX
  obtain ⟨yru, yed, yfi, yrw, ys0, ys1, ytr⟩ := hY
  exact xd_tl xtr (ye_tl ytr ⟨rfl, re_mk ok hc hl ⟨xru, xed, xfi, xk, xs0, xs1, xtr⟩ ⟨yru, yed, yfi, yrw, ys0, ys1, ytr⟩⟩)
theorem i_vc_traceRule {k : Nat} {u : SX} {v : SY} (I : i_Rel k u v) (hk : k + 5 ≤ 2564) (v1 : Int32) : wpX_traceRule (fun r => wpY_traceRule (fun r' => r' = r ∧ i_Rel (k + 5) u v) v v1) u v1 := by
  refine re_el (P := fun u v => wpX_traceRule (fun r => wpY_traceRule (fun r' => r' = r ∧ i_Rel (k + 5) u v) v v1) u v1) I ?_
  intros nS nG nN nR T E F p w bT bF tl ok hc hl
  intros
  rename_i hX hY
  obtain ⟨xru, xed, xfi, xk, xs0, xs1, xtr⟩ := hX
  obtain ⟨yru, yed, yfi, yrw, ys0, ys1, ytr⟩ := hY
  refine xd_trr xtr (fun len C R j et hj ex => ?_) (fun hn => ?_)
  · have h20 := re_20 xtr et
    refine ye_trr ytr (fun len' C' R' j' et' hj' ex' => ?_) (fun hn => absurd ex (hn len C R j et hj))
    obtain ⟨rfl, rfl, rfl⟩ := re_j et et'
    rw [ex, nI_eq (by omega) (by omega)] at ex'
    subst ex'
    exact ⟨rfl, re_mk ok hc hl ⟨xru, xed, xfi, xk, xs0, xs1, xtr⟩ ⟨yru, yed, yfi, yrw, ys0, ys1, ytr⟩⟩
  · exact ye_trr ytr (fun len C R j et hj ex => absurd ex (hn len C R j et hj)) (fun _ => ⟨rfl, re_mk ok hc hl ⟨xru, xed, xfi, xk, xs0, xs1, xtr⟩ ⟨yru, yed, yfi, yrw, ys0, ys1, ytr⟩⟩)
end
section
/-! the owed statements: the questions -/
theorem re_d (x : Int32) : (∃ d, d < 2 ∧ x = nI (d + 1)) ∨ (¬ x = 1 ∧ ¬ x = 2) := by
  by_cases h1 : x = 1
  · exact Or.inl ⟨0, by omega, h1⟩
  · by_cases h2 : x = 2
    · exact Or.inl ⟨1, by omega, h2⟩
    · exact Or.inr ⟨h1, h2⟩
theorem xr_So_k {nS nG nN d d' : Nat} {T : sy_T} {E : sy_E} {F : sy_F} {b : Bool} {s c : Int32} {A A' : Nat → Int32} (hd : d ≠ d') (hk : wa_K 24 d A A') (h : xr_So nS nG nN T E F d' b s c A) : xr_So nS nG nN T E F d' b s c A' := by
  refine ⟨h.1, fun e => ?_⟩
  obtain ⟨W, h1, h2, h3⟩ := h.2 e
  exact ⟨W, wa_K_o (Or.inl rfl) hd hk h1, h2, h3⟩
theorem yr_So_k {nG d d' : Nat} {T : sy_T} {E : sy_E} {F : sy_F} {b : Bool} {S S' A A' : Nat → Int32} (hd : d ≠ d') (hs : S' (d' + 1) = S (d' + 1)) (hk : wa_K 21 d A A') (h : yr_So nG T E F d' b S A) : yr_So nG T E F d' b S' A' := by
  refine ⟨hs.trans h.1, fun e => ?_⟩
  obtain ⟨W, h1, h2⟩ := h.2 e
  exact ⟨W, wa_K_o (Or.inr rfl) hd hk h1, h2⟩
theorem i_vc_solve {k : Nat} {u : SX} {v : SY} (I : i_Rel k u v) (hk : k + 5 ≤ 2564) (v1 : Int32) : wpX_solve (fun r u' => wpY_solve (fun r' v' => r' = r ∧ i_Rel (k + 5) u' v') v v1) u v1 := by
  refine re_el (P := fun u v => wpX_solve (fun r u' => wpY_solve (fun r' v' => r' = r ∧ i_Rel (k + 5) u' v') v v1) u v1) I ?_
  intros nS nG nN nR T E F p w bT bF tl ok hc hl
  intros
  rename_i hX hY
  obtain ⟨xru, xed, xfi, xk, xs0, xs1, xtr⟩ := hX
  obtain ⟨yru, yed, yfi, yrw, ys0, ys1, ytr⟩ := hY
  have hrk : ∀ {St H K St' H' K' : Nat → Int32}, yr_Kp St H K St' H' K' → ∀ i c, i ≤ 20 → c.2.length ≤ 40 → yt_Row St H K i c → yt_Row St' H' K' i c := fun h i c hi hl hr => yr_Kp_row h (by omega) hl hr
  rcases re_d v1 with ⟨d, hd, rfl⟩ | ⟨h1, h2⟩
  · match d, hd with
    | 0, _ =>
      refine xq_sol0 ok xru xed xfi xs0 ?_
      intro f1 f2 c A S V N hK hso
      refine yq_sol (d := 0) ok yru yed yfi (by omega) ys0 ?_
      intro c' A' St H K Rc hK' hso' hkp
      refine ⟨rfl, re_mk (bT := true) (bF := bF) (tl := tl) ok hc hl ⟨xru, xed, xfi, xk, hso, xr_So_k (by omega) hK xs1, xtr⟩ ⟨yru, yed, yfi, yr_Kp_row hkp (by omega) (by show w.length ≤ 40; omega) yrw, hso', yr_So_k (by omega) ?_ hK' ys1, yr_Tr_k ytr (hrk hkp)⟩⟩
      exact pk_un (by omega)
    | 1, _ =>
      refine xq_sol1 ok xru xed xfi xs1 ?_
      intro f1 f2 c A S V N hK hso
      refine yq_sol (d := 1) ok yru yed yfi (by omega) ys1 ?_
      intro c' A' St H K Rc hK' hso' hkp
      refine ⟨rfl, re_mk (bT := bT) (bF := true) (tl := tl) ok hc hl ⟨xru, xed, xfi, xk, xr_So_k (by omega) hK xs0, hso, xtr⟩ ⟨yru, yed, yfi, yr_Kp_row hkp (by omega) (by show w.length ≤ 40; omega) yrw, yr_So_k (by omega) ?_ hK' ys0, hso', yr_Tr_k ytr (hrk hkp)⟩⟩
      exact pk_un (by omega)
  · refine br_f h1 (br_f h2 (br_f h1 (br_f h2 ?_)))
    exact ⟨rfl, re_mk ok hc hl ⟨xru, xed, xfi, xk, xs0, xs1, xtr⟩ ⟨yru, yed, yfi, yrw, ys0, ys1, ytr⟩⟩
theorem i_vc_distance {k : Nat} {u : SX} {v : SY} (I : i_Rel k u v) (hk : k + 5 ≤ 2564) (v1 : Int32) : wpX_distance (fun r u' => wpY_distance (fun r' v' => r' = r ∧ i_Rel (k + 5) u' v') v v1) u v1 := by
  refine re_el (P := fun u v => wpX_distance (fun r u' => wpY_distance (fun r' v' => r' = r ∧ i_Rel (k + 5) u' v') v v1) u v1) I ?_
  intros nS nG nN nR T E F p w bT bF tl ok hc hl
  intros
  rename_i hX hY
  obtain ⟨xru, xed, xfi, xk, xs0, xs1, xtr⟩ := hX
  obtain ⟨yru, yed, yfi, yrw, ys0, ys1, ytr⟩ := hY
  rcases re_d v1 with ⟨d, hd, rfl⟩ | ⟨h1, h2⟩
  · obtain ⟨b, hb, hb2, hs⟩ := re_so hd xs0 xs1 ys0 ys1
    cases b with
    | false =>
      refine xd_di0 hd hb (yq_di0 hd hb2 ?_)
      exact ⟨rfl, re_mk ok hc hl ⟨xru, xed, xfi, xk, xs0, xs1, xtr⟩ ⟨yru, yed, yfi, yrw, ys0, ys1, ytr⟩⟩
    | true =>
      obtain ⟨⟨W, hW, hF⟩, W', hW', hF'⟩ := hs rfl
      refine xd_di ok hd hb hW hF xfi hc hl xk ?_
      intro f1 f2 S V N
      refine yq_di (c := (p, w)) ok hd hb2 hW' hF' hc (by show w.length ≤ 32; omega) yrw ?_
      intro Rc
      exact ⟨ms_an_eq (xq_Rp ok hc hF) (yq_Rp ok hc hF'), re_mk ok hc hl ⟨xru, xed, xfi, xk, xs0, xs1, xtr⟩ ⟨yru, yed, yfi, yrw, ys0, ys1, ytr⟩⟩
  · refine br_f h1 (br_f h2 (br_f h1 (br_f h2 ?_)))
    exact ⟨rfl, re_mk ok hc hl ⟨xru, xed, xfi, xk, xs0, xs1, xtr⟩ ⟨yru, yed, yfi, yrw, ys0, ys1, ytr⟩⟩
theorem i_vc_summary {k : Nat} {u : SX} {v : SY} (I : i_Rel k u v) (hk : k + 5 ≤ 2564) (v1 : Int32) (v2 : Int32) (v3 : Int32) : wpX_summary (fun r => wpY_summary (fun r' => r' = r ∧ i_Rel (k + 5) u v) v v1 v2 v3) u v1 v2 v3 := by
  refine re_el (P := fun u v => wpX_summary (fun r => wpY_summary (fun r' => r' = r ∧ i_Rel (k + 5) u v) v v1 v2 v3) u v1 v2 v3) I ?_
  intros nS nG nN nR T E F p w bT bF tl ok hc hl
  intros
  rename_i hX hY
  obtain ⟨xru, xed, xfi, xk, xs0, xs1, xtr⟩ := hX
  obtain ⟨yru, yed, yfi, yrw, ys0, ys1, ytr⟩ := hY
  by_cases hv : ∃ p g q, p < nS ∧ 1 ≤ g ∧ g ≤ nG ∧ q < nS ∧ v1 = nI p ∧ v2 = nI g ∧ v3 = nI q
  · obtain ⟨p', g, q, h1, h2, h3, h4, rfl, rfl, rfl⟩ := hv
    cases bT with
    | false =>
      have e : _ = (0 : Int32) := xs0.1
      subst e
      refine xd_su_u ok h1 h2 h3 h4 (ye_su_u ok ys0.1 h1 h2 h3 h4 ?_)
      exact ⟨rfl, re_mk ok hc hl ⟨xru, xed, xfi, xk, xs0, xs1, xtr⟩ ⟨yru, yed, yfi, yrw, ys0, ys1, ytr⟩⟩
    | true =>
      obtain ⟨W, hW, hF, _⟩ := xs0.2 rfl
      obtain ⟨W', hW', hF'⟩ := ys0.2 rfl
      have e : _ = (1 : Int32) := xs0.1
      subst e
      refine xd_su_t ok hW (fun c => (hF c).1) h1 h2 h3 h4 (ye_su_t ok ys0.1 hW' (fun c => (hF' c).1) h1 h2 h3 h4 ?_)
      exact ⟨ms_an_eq (hF (p', g, q)) (wc_Rp_iff (fun n => (sy_XY ok h2).symm) (hF' (p', g, q))), re_mk ok hc hl ⟨xru, xed, xfi, xk, xs0, xs1, xtr⟩ ⟨yru, yed, yfi, yrw, ys0, ys1, ytr⟩⟩
  · have hx : ∀ p g q, p < nS → 1 ≤ g → g ≤ nG → q < nS → v1 = nI p → v2 = nI g → ¬ v3 = nI q := fun p g q a1 a2 a3 a4 a5 a6 a7 => hv ⟨p, g, q, a1, a2, a3, a4, a5, a6, a7⟩
    refine xd_su_f ok hx (ye_su_f ok hx ?_)
    exact ⟨rfl, re_mk ok hc hl ⟨xru, xed, xfi, xk, xs0, xs1, xtr⟩ ⟨yru, yed, yfi, yrw, ys0, ys1, ytr⟩⟩
theorem i_vc_trace {k : Nat} {u : SX} {v : SY} (I : i_Rel k u v) (hk : k + 5 ≤ 2564) (v1 : Int32) : wpX_trace (fun r u' => wpY_trace (fun r' v' => r' = r ∧ i_Rel (k + 5) u' v') v v1) u v1 := by
  refine re_el (P := fun u v => wpX_trace (fun r u' => wpY_trace (fun r' v' => r' = r ∧ i_Rel (k + 5) u' v') v v1) u v1) I ?_
  intros nS nG nN nR T E F p w bT bF tl ok hc hl
  intros
  rename_i hX hY
  obtain ⟨xru, xed, xfi, xk, xs0, xs1, xtr⟩ := hX
  obtain ⟨yru, yed, yfi, yrw, ys0, ys1, ytr⟩ := hY
  rcases re_d v1 with ⟨d, hd, rfl⟩ | ⟨h1, h2⟩
  · obtain ⟨b, hb, hb2, hs⟩ := re_so hd xs0 xs1 ys0 ys1
    cases b with
    | false =>
      refine xd_tr0 hd hb (ye_tr0 hd hb2 ?_)
      exact ⟨rfl, re_mk ok hc hl ⟨xru, xed, xfi, xk, xs0, xs1, xtr⟩ ⟨yru, yed, yfi, yrw, ys0, ys1, ytr⟩⟩
    | true =>
      obtain ⟨⟨W, hW, hF⟩, W', hW', hF'⟩ := hs rfl
      have rX := xq_Rp ok hc hF
      have rY := yq_Rp ok hc hF'
      have hq := wc_uq (by omega) (by omega) rX rY
      have hseq : ∃ (C : Nat → tr_C) (R : Nat → Nat), C 0 = (p, w) ∧ (ms_X W F p w ≤ 20 → ∀ i, i < ms_X W F p w → tr_Nx (sy_fw d) T E F (ms_X W F p w - 1 - i) (C i) (R i) (C (i + 1))) := by
        by_cases h20 : ms_X W F p w ≤ 20
        · obtain ⟨C, R, h0, hn⟩ := tr_seq (ms_X W F p w) (p, w) ((wc_Ls_iff (by omega) (by omega) rX).mp rfl)
          exact ⟨C, R, h0, fun _ => hn⟩
        · exact ⟨fun _ => (p, w), fun _ => 0, rfl, fun z => absurd z h20⟩
      obtain ⟨C, R, hC0, hnx⟩ := hseq
      have hnx' : ms_Y W' p w ≤ 20 → ∀ i, i < ms_Y W' p w → tr_Nx (sy_fw d) T E F (ms_Y W' p w - 1 - i) (C i) (R i) (C (i + 1)) := by
        intro h20
        have e : ms_Y W' p w = ms_X W F p w := by omega
        rw [e] at h20 ⊢
        exact hnx h20
      refine xd_tr ok xru hd hb hW hF xfi hc hl xk (fun e f1 f2 S V N => ?_) (fun e e2 f1 f2 S V N => ?_) C R hC0 hnx (fun e f1 f2 S V N TR St H K hr ht => ?_)
      · refine ye_tr ok yru hd hb2 hW' hF' hc hl yrw (fun _ Rc => ?_) (fun z => absurd z (by omega)) C R hC0 hnx' (fun z => absurd z (by omega))
        exact ⟨rfl, re_mk ok hc hl ⟨xru, xed, xfi, xk, xs0, xs1, xtr⟩ ⟨yru, yed, yfi, yrw, ys0, ys1, ytr⟩⟩
      · refine ye_tr ok yru hd hb2 hW' hF' hc hl yrw (fun z => absurd z (by omega)) (fun _ _ Rc => ?_) C R hC0 hnx' (fun z => absurd z (by omega))
        exact ⟨rfl, re_mk ok hc hl ⟨xru, xed, xfi, xk, xs0, xs1, xtr⟩ ⟨yru, yed, yfi, yrw, ys0, ys1, ytr⟩⟩
      · refine ye_tr ok yru hd hb2 hW' hF' hc hl yrw (fun z => absurd z (by omega)) (fun _ z => absurd z (by omega)) C R hC0 hnx' (fun _ Rc TR' St' H' K' h21 hr' ht' => ?_)
        have em : ms_Y W' p w = ms_X W F p w := by omega
        rw [em] at hr' ht' ⊢
        exact ⟨rfl, re_mk (bT := bT) (bF := bF) (tl := some (ms_X W F p w, tr_C' d (ms_X W F p w) C, tr_R' d (ms_X W F p w) R)) ok hc hl ⟨xru, xed, xfi, xk, xs0, xs1, ⟨rfl, e, hr, ht⟩⟩ ⟨yru, yed, yfi, h21, ys0, ys1, ⟨rfl, e, hr', ht'⟩⟩⟩
  · refine br_f h1 (br_f h2 (br_f h1 (br_f h2 (br_f (by decide) ?_))))
    exact ⟨rfl, re_mk ok hc hl ⟨xru, xed, xfi, xk, xs0, xs1, xtr⟩ ⟨yru, yed, yfi, yrw, ys0, ys1, ytr⟩⟩
end
