section
/-- how many i with lo ≤ i < lo + n have P i -/
def qf_ct (P : Nat → Bool) (lo : Nat) : Nat → Nat
  | 0 => 0
  | n + 1 => qf_ct P lo n + (if P (lo + n) = true then 1 else 0)
theorem qf_ct_s (P : Nat → Bool) (lo n : Nat) : qf_ct P lo (n + 1) = qf_ct P lo n + (if P (lo + n) = true then 1 else 0) := rfl
theorem qf_ct_congr {P Q : Nat → Bool} {lo n : Nat} (h : ∀ i, lo ≤ i → i < lo + n → P i = Q i) : qf_ct P lo n = qf_ct Q lo n := by
  induction n with
  | zero => rfl
  | succ n ih =>
    rw [qf_ct_s, qf_ct_s, ih (fun i a b => h i a (by omega)), h (lo + n) (by omega) (by omega)]
theorem qf_ct_add (P : Nat → Bool) (lo m n : Nat) : qf_ct P lo (m + n) = qf_ct P lo m + qf_ct P (lo + m) n := by
  induction n with
  | zero => rfl
  | succ n ih =>
    rw [show m + (n + 1) = (m + n) + 1 by omega, qf_ct_s, qf_ct_s, ih, show lo + (m + n) = lo + m + n by omega, Nat.add_assoc]
theorem qf_ct_shift (P : Nat → Bool) (lo k n : Nat) : qf_ct P (lo + k) n = qf_ct (fun i => P (i + k)) lo n := by
  induction n with
  | zero => rfl
  | succ n ih =>
    rw [qf_ct_s, qf_ct_s, ih, show lo + k + n = lo + n + k by omega]
theorem qf_ct_1 (P : Nat → Bool) (lo : Nat) : qf_ct P lo 1 = (if P lo = true then 1 else 0) := by
  rw [qf_ct_s, Nat.add_zero]
  exact Nat.zero_add _
theorem qf_ct_per {P : Nat → Bool} {N : Nat} (h : ∀ i, P (i + N) = P i) (lo : Nat) : qf_ct P lo N = qf_ct P 0 N := by
  induction lo with
  | zero => rfl
  | succ lo ih =>
    have e1 := qf_ct_add P lo 1 N
    have e2 := qf_ct_add P lo N 1
    have e3 := qf_ct_1 P lo
    have e4 := qf_ct_1 P (lo + N)
    rw [h lo, ← e3] at e4
    rw [Nat.add_comm 1 N] at e1
    omega
theorem qf_ct_le (P : Nat → Bool) (lo n : Nat) : qf_ct P lo n ≤ n := by
  induction n with
  | zero => exact Nat.le_refl 0
  | succ n ih =>
    rw [qf_ct_s]
    split <;> omega
theorem qf_ct_zero {P : Nat → Bool} {lo n : Nat} (h : ∀ i, lo ≤ i → i < lo + n → P i = false) : qf_ct P lo n = 0 := by
  induction n with
  | zero => rfl
  | succ n ih =>
    rw [qf_ct_s, ih (fun i a b => h i a (by omega)), h (lo + n) (by omega) (by omega)]
    rfl
theorem qf_ct_full {P : Nat → Bool} {lo n : Nat} (h : ∀ i, lo ≤ i → i < lo + n → P i = true) : qf_ct P lo n = n := by
  induction n with
  | zero => rfl
  | succ n ih =>
    rw [qf_ct_s, ih (fun i a b => h i a (by omega)), h (lo + n) (by omega) (by omega)]
    rfl
theorem qf_ct_lt {P : Nat → Bool} {lo n : Nat} (h : qf_ct P lo n < n) : ∃ i, lo ≤ i ∧ i < lo + n ∧ P i = false := by
  refine Classical.byContradiction (fun hc => ?_)
  have hf : qf_ct P lo n = n := qf_ct_full (fun i a b => by
    cases e : P i with
    | true => rfl
    | false => exact absurd ⟨i, a, b, e⟩ hc)
  omega
theorem qf_ct_ex {P : Nat → Bool} {lo n : Nat} (h : 0 < qf_ct P lo n) : ∃ i, lo ≤ i ∧ i < lo + n ∧ P i = true := by
  refine Classical.byContradiction (fun hc => ?_)
  have hf : qf_ct P lo n = 0 := qf_ct_zero (fun i a b => by
    cases e : P i with
    | false => rfl
    | true => exact absurd ⟨i, a, b, e⟩ hc)
  omega
theorem qf_ct_pos {P : Nat → Bool} {lo n i : Nat} (h1 : lo ≤ i) (h2 : i < lo + n) (h : P i = true) : 0 < qf_ct P lo n := by
  have e := qf_ct_add P lo (i - lo) (n - (i - lo))
  have e2 := qf_ct_add P i 1 (n - (i - lo) - 1)
  have e3 := qf_ct_1 P i
  rw [h] at e3
  rw [show i - lo + (n - (i - lo)) = n by omega, show lo + (i - lo) = i by omega] at e
  rw [show 1 + (n - (i - lo) - 1) = n - (i - lo) by omega] at e2
  simp only [if_true] at e3
  omega
/-- two disjoint conditions inside a third -/
theorem qf_ct_sub {P Q R : Nat → Bool} (lo n : Nat) (h1 : ∀ i, P i = true → R i = true ∧ Q i = false) (h2 : ∀ i, Q i = true → R i = true) : qf_ct P lo n + qf_ct Q lo n ≤ qf_ct R lo n := by
  induction n with
  | zero => exact Nat.le_refl 0
  | succ n ih =>
    rw [qf_ct_s, qf_ct_s, qf_ct_s]
    cases ep : P (lo + n) with
    | true =>
      rw [(h1 _ ep).1, (h1 _ ep).2]
      simp only [if_true, Bool.false_eq_true, if_false]
      omega
    | false =>
      cases eq : Q (lo + n) with
      | true =>
        rw [h2 _ eq]
        simp only [if_true, Bool.false_eq_true, if_false]
        omega
      | false =>
        simp only [Bool.false_eq_true, if_false]
        omega
/-- two disjoint conditions that make a third -/
theorem qf_ct_or {P Q R : Nat → Bool} (lo n : Nat) (h : ∀ i, R i = (P i || Q i)) (h2 : ∀ i, P i = true → Q i = false) : qf_ct R lo n = qf_ct P lo n + qf_ct Q lo n := by
  induction n with
  | zero => rfl
  | succ n ih =>
    rw [qf_ct_s, qf_ct_s, qf_ct_s, ih, h]
    cases ep : P (lo + n) with
    | true =>
      rw [h2 _ ep]
      simp only [Bool.true_or, if_true, Bool.false_eq_true, if_false]
      omega
    | false =>
      simp only [Bool.false_or, Bool.false_eq_true, if_false]
      omega
/-! periodic functions, a window's representatives -/
theorem qf_perk {α : Type} {N : Nat} {g : Nat → α} (h : ∀ i, g (i + N) = g i) (i k : Nat) : g (i + k * N) = g i := by
  induction k with
  | zero => rw [Nat.zero_mul, Nat.add_zero]
  | succ k ih => rw [Nat.succ_mul, ← Nat.add_assoc, h, ih]
theorem qf_pmod {α : Type} {N : Nat} {g : Nat → α} (h : ∀ i, g (i + N) = g i) (i : Nat) : g (i % N) = g i := by
  have e := Nat.mod_add_div i N
  have e2 := qf_perk h (i % N) (i / N)
  rw [Nat.mul_comm, e] at e2
  exact e2.symm
theorem qf_peq {α : Type} {N : Nat} {g : Nat → α} (h : ∀ i, g (i + N) = g i) {i j : Nat} (e : i % N = j % N) : g i = g j := by
  rw [← qf_pmod h i, e, qf_pmod h j]
theorem qf_inj0 {N i j : Nat} (h1 : i ≤ j) (h2 : j < i + N) (e : i % N = j % N) : i = j := by
  have e2 := Nat.sub_mod_eq_zero_of_mod_eq e.symm
  rw [Nat.mod_eq_of_lt (by omega)] at e2
  omega
theorem qf_inj {N a i j : Nat} (h1 : a ≤ i) (h2 : i < a + N) (h3 : a ≤ j) (h4 : j < a + N) (e : i % N = j % N) : i = j := by
  rcases Nat.le_total i j with h | h
  · exact qf_inj0 h (by omega) e
  · exact (qf_inj0 h (by omega) e.symm).symm
def qf_rep (N j i : Nat) : Nat := j + (i + j * N - j) % N
theorem qf_rep_lo (N j i : Nat) : j ≤ qf_rep N j i := Nat.le_add_right _ _
theorem qf_rep_hi {N : Nat} (hN : 0 < N) (j i : Nat) : qf_rep N j i < j + N := Nat.add_lt_add_left (Nat.mod_lt _ hN) _
theorem qf_rep_mod {N : Nat} (hN : 0 < N) (j i : Nat) : qf_rep N j i % N = i % N := by
  unfold qf_rep
  rw [Nat.add_mod_mod]
  have h : j ≤ j * N := Nat.le_mul_of_pos_right j hN
  rw [show j + (i + j * N - j) = i + j * N by omega, Nat.add_mul_mod_self_right]
theorem qf_rep_id {N : Nat} (hN : 0 < N) {j i : Nat} (h1 : j ≤ i) (h2 : i < j + N) : qf_rep N j i = i :=
  qf_inj (qf_rep_lo N j i) (qf_rep_hi hN j i) h1 h2 (qf_rep_mod hN j i)
theorem qf_rep_eq {N : Nat} (hN : 0 < N) (j : Nat) {i k : Nat} (e : i % N = k % N) : qf_rep N j i = qf_rep N j k :=
  qf_inj (qf_rep_lo N j i) (qf_rep_hi hN j i) (qf_rep_lo N j k) (qf_rep_hi hN j k) (by rw [qf_rep_mod hN, qf_rep_mod hN, e])
theorem qf_mod1 {N i k : Nat} (e : i % N = k % N) : (i + 1) % N = (k + 1) % N := by
  rw [Nat.add_mod, e, ← Nat.add_mod]
/-! the ring -/
def qf_R (N : Nat) (g : Nat → Nat) : Prop := (∀ i, g (i + N) = g i) ∧ (∀ i, g (i + 1) ≤ g i + 1) ∧ (∃ z, g z = 0)
theorem qf_lip {N : Nat} {g : Nat → Nat} (h : qf_R N g) {i j : Nat} (hij : i ≤ j) : i + g j ≤ j + g i := by
  obtain ⟨d, rfl⟩ := Nat.exists_eq_add_of_le hij
  clear hij
  induction d with
  | zero => exact Nat.le_refl _
  | succ d ih =>
    have e := h.2.1 (i + d)
    rw [show i + (d + 1) = i + d + 1 by omega]
    omega
theorem qf_freeIn {N : Nat} {g : Nat → Nat} (h : qf_R N g) (hN : 0 < N) (a : Nat) : ∃ z, a ≤ z ∧ z < a + N ∧ g z = 0 := by
  obtain ⟨z, hz⟩ := h.2.2
  refine ⟨qf_rep N a z, qf_rep_lo N a z, qf_rep_hi hN a z, ?_⟩
  rw [qf_peq h.1 (qf_rep_mod hN a z), hz]
theorem qf_gN {N : Nat} {g : Nat → Nat} (h : qf_R N g) (hN : 0 < N) (i : Nat) : g i < N := by
  obtain ⟨z, h1, h2, h3⟩ := qf_freeIn h hN (i + 1)
  have e := qf_lip h (show z ≤ i + N by omega)
  rw [h.1, h3] at e
  omega
/-- the next free position -/
theorem qf_next {N : Nat} {g : Nat → Nat} (h : qf_R N g) (hN : 0 < N) (a : Nat) : ∃ e, a ≤ e ∧ e < a + N ∧ g e = 0 ∧ ∀ r, a ≤ r → r < e → 1 ≤ g r := by
  obtain ⟨k, ⟨hk1, hk2⟩, hk3⟩ := pk_least (fun k => a ≤ k ∧ g k = 0) (by
    obtain ⟨z, h1, _, h3⟩ := qf_freeIn h hN a
    exact ⟨z, h1, h3⟩)
  obtain ⟨z, h1, h2, h3⟩ := qf_freeIn h hN a
  refine ⟨k, hk1, ?_, hk2, fun r hr1 hr2 => ?_⟩
  · rcases Nat.lt_or_ge z k with hz | hz
    · exact absurd ⟨h1, h3⟩ (hk3 z hz)
    · omega
  · rcases Nat.eq_zero_or_pos (g r) with hr | hr
    · exact absurd ⟨hr1, hr⟩ (hk3 r hr2)
    · exact hr
/-- the fingerprints: their upper bits name the slot that they belong to -/
def qf_P (N K : Nat) (g p : Nat → Nat) : Prop := qf_R N g ∧ (∀ i, p (i + N) = p i) ∧ (∀ i, 1 ≤ g i → p i < 256 ∧ p i / K = (i + 1 + N - g i) % N)
/-- how many of them have Q -/
def qf_C (N : Nat) (g p : Nat → Nat) (Q : Nat → Bool) : Nat := qf_ct (fun i => decide (1 ≤ g i) && Q (p i)) 0 N
/-- slot x is named -/
def qf_N (K : Nat) (g p : Nat → Nat) (x : Nat) : Prop := ∃ y, 1 ≤ g y ∧ p y / K = x
theorem qf_own {N K : Nat} {g p : Nat → Nat} (h : qf_P N K g p) {y x : Nat} (hy : 1 ≤ g y) (e : y + 1 = x + g y) : p y / K = x % N := by
  rw [(h.2.2 y hy).2, show y + 1 + N - g y = x + N by omega, Nat.add_mod_right]
theorem qf_nam {N K : Nat} {g p : Nat → Nat} (h : qf_P N K g p) (hN : 0 < N) {x : Nat} (hx : qf_N K g p (x % N)) : ∃ y, 1 ≤ g y ∧ y + 1 = x + g y := by
  obtain ⟨y, hy, e⟩ := hx
  rw [(h.2.2 y hy).2] at e
  have hg := qf_gN h.1 hN y
  have e2 : (y + 1 + N - g y + g y) % N = (x + g y) % N := by
    rw [Nat.add_mod, e, ← Nat.add_mod]
  rw [show y + 1 + N - g y + g y = y + 1 + N by omega, Nat.add_mod_right] at e2
  have e3 : g (x + g y - 1) = g y := by
    refine qf_peq h.1.1 ?_
    have e4 : (y + 1 + (N - 1)) % N = (x + g y + (N - 1)) % N := by
      rw [Nat.add_mod, e2, ← Nat.add_mod]
    rw [show y + 1 + (N - 1) = y + N by omega, Nat.add_mod_right, show x + g y + (N - 1) = x + g y - 1 + N by omega, Nat.add_mod_right] at e4
    exact e4.symm
  exact ⟨x + g y - 1, by omega, by omega⟩
/-- a named slot is occupied -/
theorem qf_nocc {N K : Nat} {g p : Nat → Nat} (h : qf_P N K g p) (hN : 0 < N) {x : Nat} (hx : qf_N K g p (x % N)) : 1 ≤ g x := by
  obtain ⟨y, hy, e⟩ := qf_nam h hN hx
  have e2 := qf_lip h.1 (show x ≤ y by omega)
  omega
theorem qf_ncase {N K : Nat} {g p : Nat → Nat} (h : qf_P N K g p) {x : Nat} (hx : g x = 1) : qf_N K g p (x % N) :=
  ⟨x, by omega, qf_own h (by omega) (by omega)⟩
theorem qf_C_per {N K : Nat} {g p : Nat → Nat} (h : qf_P N K g p) (Q : Nat → Bool) (a : Nat) : qf_C N g p Q = qf_ct (fun i => decide (1 ≤ g i) && Q (p i)) a N := by
  unfold qf_C
  refine (qf_ct_per (fun i => ?_) a).symm
  rw [h.1.1, h.2.1]
/-- no slot is named between the owners of two neighbours -/
theorem qf_gap {N K : Nat} {g p : Nat → Nat} (h : qf_P N K g p) (hN : 0 < N) {i x : Nat} (h0 : i + 1 < x + g i) (h1 : x + g (i + 1) < i + 2) : ¬ qf_N K g p (x % N) := by
  intro hx
  obtain ⟨y, hy, e⟩ := qf_nam h hN hx
  rcases Nat.lt_or_ge i y with z | z
  · have e2 := qf_lip h.1 (show i + 1 ≤ y by omega)
    omega
  · have e2 := qf_lip h.1 (show y ≤ i by omega)
    omega
end
section
theorem qf_sl : ∀ q, q < 7 → (1 : Int32) <<< (nI q &&& 31) = nI (2 ^ q) := by decide +kernel
theorem qf_af : ∀ q, q < 7 → ∀ s, s < 64 → (nI s + 1) &&& (nI (2 ^ q) - 1) = nI ((s + 1) % 2 ^ q) := by decide +kernel
theorem qf_bf : ∀ q, q < 7 → ∀ s, s < 64 → (nI s - 1) &&& (nI (2 ^ q) - 1) = nI ((s + (2 ^ q - 1)) % 2 ^ q) := by decide +kernel
theorem qf_so : ∀ q, q < 7 → ∀ p, p < 256 → nI p >>> ((8 - nI q) &&& 31) = nI (p / 2 ^ (8 - q)) := by decide +kernel
theorem qf_lw : ∀ q, q < 7 → ∀ p, p < 256 → nI p &&& (((1 : Int32) <<< ((8 - nI q) &&& 31)) - 1) = nI (p % 2 ^ (8 - q)) := by decide +kernel
theorem qf_cb : ∀ q, q < 7 → ∀ p, p < 256 → ((nI (p / 2 ^ (8 - q)) <<< ((8 - nI q) &&& 31)) ||| nI (p % 2 ^ (8 - q))).toInt16.toInt32 = nI p := by decide +kernel
theorem qf_b8 : ∀ p, p < 128 → (nI p).toInt8.toInt32 = nI p := by decide +kernel
theorem qf_p2 {q : Nat} (hq : q < 7) : 0 < 2 ^ q ∧ 2 ^ q ≤ 64 :=
  ⟨Nat.two_pow_pos q, Nat.pow_le_pow_right (n := 2) (by decide) (show q ≤ 6 by omega)⟩
theorem qf_m64 {q : Nat} (hq : q < 7) (i : Nat) : i % 2 ^ q < 64 :=
  Nat.lt_of_lt_of_le (Nat.mod_lt i (qf_p2 hq).1) (qf_p2 hq).2
theorem qf_base (f : Nat) : 64 * nI f = nI (64 * f) := pk_mul 64 f
theorem qf_ad (f s : Nat) : nI (64 * f) + nI s = nI (64 * f + s) := nI_add _ _
theorem qf_in {f s : Nat} (hf : f < 2) (hs : s < 64) : vp_in (nI (64 * f) + nI s) 128 := by
  rw [qf_ad]
  exact vp_in_nI (by omega) (by decide)
theorem qf_cl {f s : Nat} (hf : f < 2) (hs : s < 64) : (nI (64 * f) + nI s).toNatClampNeg = 64 * f + s := by
  rw [qf_ad]
  exact nI_clamp (by omega)
theorem qf_cf {f : Nat} (hf : f < 2) : (nI f).toNatClampNeg = f := nI_clamp (by omega)
theorem qf_if {f : Nat} (hf : f < 2) : vp_in (nI f) 2 := vp_in_nI hf (by decide)
def qf_b (b : Bool) : Int32 := if b = true then 1 else 0
theorem qf_b0 {b : Bool} : qf_b b = 0 ↔ b = false := by cases b <;> decide
theorem qf_bn (b : Bool) : vp_nar .boolean (qf_b b) = qf_b b := by cases b <;> decide
/-- the arrays show the ring -/
def qf_A (N K o : Nat) (g p : Nat → Nat) (a3 a4 a5 a6 : Nat → Int32) : Prop :=
  (∀ i, 1 ≤ g i → a3 (o + i % N) = nI (p i % K)) ∧ (∀ i, a4 (o + i % N) = 0 ↔ ¬ qf_N K g p (i % N)) ∧ (∀ i, a5 (o + (i + 1) % N) = qf_b (decide (2 ≤ g (i + 1) ∧ g (i + 1) = g i + 1))) ∧ (∀ i, a6 (o + i % N) = qf_b (decide (2 ≤ g i)))
theorem qf_freeI {N K o : Nat} {g p : Nat → Nat} {a3 a4 a5 a6 : Nat → Int32} (hP : qf_P N K g p) (hN : 0 < N) (hA : qf_A N K o g p a3 a4 a5 a6) (i : Nat) : (a4 (o + i % N) = 0 ∧ a5 (o + i % N) = 0 ∧ a6 (o + i % N) = 0) ↔ g i = 0 := by
  obtain ⟨_, h4, h5, h6⟩ := hA
  constructor
  · rintro ⟨e4, _, e6⟩
    rw [h6, qf_b0, decide_eq_false_iff_not] at e6
    rw [h4] at e4
    rcases Nat.lt_or_ge (g i) 1 with z | z
    · omega
    · exact absurd (qf_ncase hP (show g i = 1 by omega)) e4
  · intro e
    refine ⟨(h4 i).mpr (fun hn => ?_), ?_, ?_⟩
    · have := qf_nocc hP hN hn
      omega
    · have e2 := h5 (i + N - 1)
      rw [show i + N - 1 + 1 = i + N by omega, Nat.add_mod_right, hP.1.1, e] at e2
      rw [e2]
      rfl
    · rw [h6, e]
      rfl
section
variable {rc : Int32} {a1 a2 a3 a4 a5 a6 a7 : Nat → Int32} {f q : Nat}
theorem qf_slots {post : Int32 → Prop} (hf : f < 2) (h1 : a1 f = nI q) (hq : q < 7) (H : post (nI (2 ^ q))) : wpX_slots post (rc, a1, a2, a3, a4, a5, a6, a7) (nI f) := by
  unfold wpX_slots
  dsimp only
  rw [qf_cf hf, h1, qf_sl q hq]
  exact ⟨qf_if hf, H⟩
theorem qf_after {post : Int32 → Prop} (hf : f < 2) (h1 : a1 f = nI q) (hq : q < 7) (i : Nat) (H : post (nI ((i + 1) % 2 ^ q))) : wpX_after post (rc, a1, a2, a3, a4, a5, a6, a7) (nI f) (nI (i % 2 ^ q)) := by
  unfold wpX_after
  dsimp only
  refine qf_slots hf h1 hq ?_
  rw [qf_af q hq _ (qf_m64 hq i), Nat.mod_add_mod]
  exact H
theorem qf_before {post : Int32 → Prop} (hf : f < 2) (h1 : a1 f = nI q) (hq : q < 7) (i : Nat) (H : post (nI (i % 2 ^ q))) : wpX_beforeSlot post (rc, a1, a2, a3, a4, a5, a6, a7) (nI f) (nI ((i + 1) % 2 ^ q)) := by
  unfold wpX_beforeSlot
  dsimp only
  refine qf_slots hf h1 hq ?_
  have h0 := (qf_p2 hq).1
  rw [qf_bf q hq _ (qf_m64 hq (i + 1)), Nat.mod_add_mod, show i + 1 + (2 ^ q - 1) = i + 2 ^ q by omega, Nat.add_mod_right]
  exact H
theorem qf_slotOf {post : Int32 → Prop} {v : Nat} (hf : f < 2) (h1 : a1 f = nI q) (hq : q < 7) (hv : v < 256) (H : post (nI (v / 2 ^ (8 - q)))) : wpX_slotOf post (rc, a1, a2, a3, a4, a5, a6, a7) (nI f) (nI v) := by
  unfold wpX_slotOf
  dsimp only
  rw [qf_cf hf, h1, qf_so q hq v hv]
  exact ⟨qf_if hf, H⟩
theorem qf_lowerOf {post : Int32 → Prop} {v : Nat} (hf : f < 2) (h1 : a1 f = nI q) (hq : q < 7) (hv : v < 256) (H : post (nI (v % 2 ^ (8 - q)))) : wpX_lowerOf post (rc, a1, a2, a3, a4, a5, a6, a7) (nI f) (nI v) := by
  unfold wpX_lowerOf
  dsimp only
  rw [qf_cf hf, h1, qf_lw q hq v hv]
  exact ⟨qf_if hf, H⟩
theorem qf_baseW {post : Int32 → Prop} (H : post (nI (64 * f))) : wpX_base post (rc, a1, a2, a3, a4, a5, a6, a7) (nI f) := by
  unfold wpX_base
  dsimp only
  rw [qf_base]
  exact H
theorem qf_isFilter {post : Int32 → Prop} (hf : f < 2) (H : post 1) : wpX_isFilter post (rc, a1, a2, a3, a4, a5, a6, a7) (nI f) := by
  unfold wpX_isFilter
  dsimp only
  rcases (show f = 0 ∨ f = 1 by omega) with e | e
  · subst e
    exact br_t rfl H
  · subst e
    exact br_f (by decide) (br_t rfl H)
theorem qf_holds {post : Int32 → Prop} {s : Nat} (hf : f < 2) (hs : s < 64) (H0 : a4 (64 * f + s) = 0 ∧ a5 (64 * f + s) = 0 ∧ a6 (64 * f + s) = 0 → post 0) (H1 : ¬ (a4 (64 * f + s) = 0 ∧ a5 (64 * f + s) = 0 ∧ a6 (64 * f + s) = 0) → post 1) : wpX_holds post (rc, a1, a2, a3, a4, a5, a6, a7) (nI f) (nI s) := by
  unfold wpX_holds
  dsimp only
  refine qf_baseW ?_
  intro x hx
  rw [qf_ad] at hx
  have hi : vp_in x 128 := by
    rw [hx]
    exact vp_in_nI (by omega) (by decide)
  have hc : x.toNatClampNeg = 64 * f + s := by
    rw [hx]
    exact nI_clamp (by omega)
  rw [hc]
  exact ⟨hi, br_c (fun e4 => ⟨hi, br_c (fun e5 => ⟨hi, br_c (fun e6 => H0 ⟨e4, e5, e6⟩) (fun e6 => H1 (fun t => e6 t.2.2))⟩) (fun e5 => H1 (fun t => e5 t.2.1))⟩) (fun e4 => H1 (fun t => e4 t.1))⟩
theorem qf_isFree {post : Int32 → Prop} {s : Nat} (hf : f < 2) (hs : s < 64) (H0 : a4 (64 * f + s) = 0 ∧ a5 (64 * f + s) = 0 ∧ a6 (64 * f + s) = 0 → post 1) (H1 : ¬ (a4 (64 * f + s) = 0 ∧ a5 (64 * f + s) = 0 ∧ a6 (64 * f + s) = 0) → post 0) : wpX_isFree post (rc, a1, a2, a3, a4, a5, a6, a7) (nI f) (nI s) := by
  unfold wpX_isFree
  dsimp only
  exact qf_holds hf hs (fun h => br_t rfl (H0 h)) (fun h => br_f (by decide) (H1 h))
theorem qf_count {post : Int32 → Prop} (hf : f < 2) (H : post (a2 f)) : wpX_count post (rc, a1, a2, a3, a4, a5, a6, a7) (nI f) := by
  unfold wpX_count
  dsimp only
  refine qf_isFilter hf (br_f (by decide) ?_)
  rw [qf_cf hf]
  exact ⟨qf_if hf, H⟩
theorem qf_size {post : Int32 → Prop} (hf : f < 2) (h1 : a1 f = nI q) (hq : q < 7) (H : post (nI (2 ^ q))) : wpX_size post (rc, a1, a2, a3, a4, a5, a6, a7) (nI f) := by
  unfold wpX_size
  dsimp only
  exact qf_isFilter hf (br_f (by decide) (qf_slots hf h1 hq H))
theorem qf_free {post : St1 → Prop} {s : Nat} (hf : f < 2) (hs : s < 64) (H : post (rc, a1, a2, a3, upd a4 (64 * f + s) 0, upd a5 (64 * f + s) 0, upd a6 (64 * f + s) 0, a7)) : wpX_free post (rc, a1, a2, a3, a4, a5, a6, a7) (nI f) (nI s) := by
  unfold wpX_free
  dsimp only
  refine qf_baseW ?_
  intro x hx
  rw [qf_ad] at hx
  have hi : vp_in x 128 := by
    rw [hx]
    exact vp_in_nI (by omega) (by decide)
  have hc : x.toNatClampNeg = 64 * f + s := by
    rw [hx]
    exact nI_clamp (by omega)
  rw [hc]
  exact ⟨hi, nm_e ⟨hi, nm_e ⟨hi, nm_e H⟩⟩⟩
end
end
section
/-- s is where the run of slot b begins, or where it would -/
def qf_W (g : Nat → Nat) (b s : Nat) : Prop := b ≤ s ∧ b + g s ≤ s + 1 ∧ ((s = b ∧ g s = 1) ∨ s < b + g (s - 1))
theorem qf_W_U {N : Nat} {g : Nat → Nat} (h : qf_R N g) {b s y : Nat} (hw : qf_W g b s) (hy : y < s) (hg : 1 ≤ g y) : y + 1 < b + g y := by
  obtain ⟨w1, w2, w3⟩ := hw
  rcases w3 with ⟨w3, _⟩ | w3
  · omega
  · have e := qf_lip h (show y ≤ s - 1 by omega)
    omega
/-- the run is there -/
theorem qf_W_own {N K : Nat} {g p : Nat → Nat} (h : qf_P N K g p) (hN : 0 < N) {b s : Nat} (hw : qf_W g b s) (hn : qf_N K g p (b % N)) : s + 1 = b + g s ∧ 1 ≤ g s := by
  obtain ⟨y, hy, e⟩ := qf_nam h hN hn
  have e1 : s ≤ y := by
    rcases Nat.lt_or_ge y s with z | z
    · have := qf_W_U h.1 hw z hy
      omega
    · exact z
  have e2 := qf_lip h.1 e1
  obtain ⟨w1, w2, w3⟩ := hw
  omega
/-- to the next run -/
theorem qf_W_step {N K : Nat} {g p : Nat → Nat} (h : qf_P N K g p) {b b' s x0 : Nat} (h1 : b + g s ≤ s) (h2 : s = b + g (s - 1)) (h3 : b < s) (hb : b < b') (hx : b' ≤ x0) (ho : ∀ i, b ≤ i → i ≤ x0 → 1 ≤ g i) (hn : ∀ x, b + 1 ≤ x → x < b' → ¬ qf_N K g p (x % N)) : qf_W g b' s := by
  have key : 1 ≤ g s → b' + g s ≤ s + 1 := by
    intro z
    rcases Nat.lt_or_ge s (b' + g s - 1) with t | t
    · exact absurd ⟨s, z, qf_own h z (show s + 1 = (s + 1 - g s) + g s by omega)⟩ (hn (s + 1 - g s) (by omega) (by omega))
    · omega
  have e1 : b' ≤ s := by
    rcases Nat.lt_or_ge s b' with t | t
    · have := ho s (by omega) (by omega)
      have := key this
      omega
    · exact t
  refine ⟨e1, ?_, Or.inr (by omega)⟩
  rcases Nat.eq_zero_or_pos (g s) with z | z
  · omega
  · exact key z
section
variable {rc : Int32} {a1 a2 a3 a4 a5 a6 a7 : Nat → Int32} {f q K x0 : Nat} {g p : Nat → Nat}
theorem qf_run85 {post : Int32 → Prop} {J : Int32 → Int32 → Prop} {x2 x5 : Int32} (hf : f < 2) (hq : q < 7) (h1 : a1 f = nI q)
    (h4 : ∀ i, a4 (64 * f + i % 2 ^ q) = 0 ↔ ¬ (qf_N K g p (i % 2 ^ q) ∨ i % 2 ^ q = x0 % 2 ^ q)) :
    ∀ d b, b + d = x0 → (∀ b', b ≤ b' → b' ≤ x0 → (qf_N K g p (b' % 2 ^ q) ∨ b' % 2 ^ q = x0 % 2 ^ q) → (∀ x, b ≤ x → x < b' → ¬ qf_N K g p (x % 2 ^ q)) → J (nI (b' % 2 ^ q)) x5) →
      wX_runStart_85 post J (nI f) x2 (nI (64 * f)) x5 rc a1 a2 a3 a4 a5 a6 a7 (d + 1) (nI (b % 2 ^ q)) := by
  intro d
  induction d with
  | zero =>
    intro b hb H
    refine And.intro (qf_in hf (qf_m64 hq b)) ?_
    rw [qf_cl hf (qf_m64 hq b)]
    refine br_f (fun e => (h4 b).mp e (Or.inr (by rw [← hb]; rfl))) ?_
    exact H b (Nat.le_refl _) (by omega) (Or.inr (by rw [← hb]; rfl)) (fun x u v => absurd u (by omega))
  | succ d ih =>
    intro b hb H
    refine And.intro (qf_in hf (qf_m64 hq b)) ?_
    rw [qf_cl hf (qf_m64 hq b)]
    refine br_c (fun e => ?_) (fun e => ?_)
    · have e2 := (h4 b).mp e
      refine qf_after hf h1 hq b (ih (b + 1) (by omega) (fun b' u v w t => H b' (by omega) v w (fun x hx1 hx2 => ?_)))
      by_cases hxb : x = b
      · rw [hxb]
        exact fun c => e2 (Or.inl c)
      · exact t x (by omega) hx2
    · refine H b (Nat.le_refl _) (by omega) ?_ (fun x u v => absurd u (by omega))
      exact Classical.byContradiction (fun c => e ((h4 b).mpr c))
theorem qf_run52 {post : Int32 → Prop} {J : Int32 → Int32 → Prop} {x2 : Int32} {b : Nat} (hf : f < 2) (hq : q < 7) (h1 : a1 f = nI q) (hP : qf_P (2 ^ q) K g p)
    (h5 : ∀ i, a5 (64 * f + (i + 1) % 2 ^ q) = qf_b (decide (2 ≤ g (i + 1) ∧ g (i + 1) = g i + 1)))
    (H : ∀ s, b + g s ≤ s → s = b + g (s - 1) → b < s → ∃ n, wX_runStart_85 post J (nI f) x2 (nI (64 * f)) (nI (s % 2 ^ q)) rc a1 a2 a3 a4 a5 a6 a7 n (nI ((b + 1) % 2 ^ q))) :
    ∀ d t, t + 1 = b + g t → 1 ≤ g t → g t + d = 2 ^ q →
      wX_runStart_52 post J (nI f) x2 (nI (64 * f)) (nI (b % 2 ^ q)) rc a1 a2 a3 a4 a5 a6 a7 (d + 1) (nI ((t + 1) % 2 ^ q)) := by
  intro d
  induction d with
  | zero =>
    intro t _ _ hd
    have := qf_gN hP.1 (qf_p2 hq).1 t
    omega
  | succ d ih =>
    intro t ht hg hd
    refine And.intro (qf_in hf (qf_m64 hq (t + 1))) ?_
    rw [qf_cl hf (qf_m64 hq (t + 1)), h5 t]
    have hs := hP.1.2.1 t
    refine br_c (fun e => ?_) (fun e => ?_)
    · rw [qf_b0, decide_eq_false_iff_not] at e
      refine qf_after hf h1 hq b (H (t + 1) ?_ ?_ ?_)
      · omega
      · rw [Nat.add_sub_cancel]
        exact ht
      · omega
    · have e2 : 2 ≤ g (t + 1) ∧ g (t + 1) = g t + 1 := Classical.byContradiction (fun c => e (qf_b0.mpr (decide_eq_false c)))
      exact qf_after hf h1 hq (t + 1) (ih (t + 1) (by omega) (by omega) (by omega))
theorem qf_run37 {post : Int32 → Prop} {c : Nat} (hf : f < 2) (hq : q < 7) (h1 : a1 f = nI q) (hP : qf_P (2 ^ q) K g p)
    (h4 : ∀ i, a4 (64 * f + i % 2 ^ q) = 0 ↔ ¬ (qf_N K g p (i % 2 ^ q) ∨ i % 2 ^ q = x0 % 2 ^ q))
    (h5 : ∀ i, a5 (64 * f + (i + 1) % 2 ^ q) = qf_b (decide (2 ≤ g (i + 1) ∧ g (i + 1) = g i + 1)))
    (hc : x0 < c + 2 ^ q) (ho : ∀ i, c ≤ i → i ≤ x0 → 1 ≤ g i)
    (H : ∀ s, qf_W g x0 s → post (nI (s % 2 ^ q))) :
    ∀ n b s, c ≤ b → b ≤ x0 → x0 < b + n → qf_W g b s → (qf_N K g p (b % 2 ^ q) ∨ b % 2 ^ q = x0 % 2 ^ q) →
      wX_runStart_37 post (nI f) (nI (x0 % 2 ^ q)) (nI (64 * f)) rc a1 a2 a3 a4 a5 a6 a7 n (nI (b % 2 ^ q)) (nI (s % 2 ^ q)) := by
  have h0 := (qf_p2 hq).1
  intro n
  induction n with
  | zero =>
    intro b s _ _ h _ _
    omega
  | succ n ih =>
    intro b s hb1 hb2 hn hw hnm
    have m1 := qf_m64 hq b
    have m2 := qf_m64 hq x0
    refine pk_eq (b % 2 ^ q) (x0 % 2 ^ q) (fun e => ?_) (fun e => ?_)
    · have e2 : b = x0 := qf_inj hb1 (by omega) (show c ≤ x0 by omega) hc e
      subst e2
      exact H s hw
    · have hnb : qf_N K g p (b % 2 ^ q) := by
        rcases hnm with z | z
        · exact z
        · exact absurd z e
      have hbx : b ≠ x0 := fun z => e (by rw [z])
      obtain ⟨o1, o2⟩ := qf_W_own hP h0 hw hnb
      have hg := qf_gN hP.1 h0 s
      refine qf_after hf h1 hq s ⟨2 ^ q - g s + 1, qf_run52 hf hq h1 hP h5 (fun s1 w1 w2 w3 => ?_) (2 ^ q - g s) s o1 o2 (by omega)⟩
      refine ⟨x0 - (b + 1) + 1, qf_run85 hf hq h1 h4 (x0 - (b + 1)) (b + 1) (by omega) (fun b' u1 u2 u3 u4 => ?_)⟩
      exact ih b' s1 (by omega) u2 (by omega) (qf_W_step hP w1 w2 w3 (by omega) u2 (fun i i1 i2 => ho i (by omega) i2) u4) u3
theorem qf_run {post : Int32 → Prop} (hf : f < 2) (hq : q < 7) (h1 : a1 f = nI q) (hP : qf_P (2 ^ q) K g p)
    (h4 : ∀ i, a4 (64 * f + i % 2 ^ q) = 0 ↔ ¬ (qf_N K g p (i % 2 ^ q) ∨ i % 2 ^ q = x0 % 2 ^ q))
    (h5 : ∀ i, a5 (64 * f + (i + 1) % 2 ^ q) = qf_b (decide (2 ≤ g (i + 1) ∧ g (i + 1) = g i + 1)))
    (h6 : ∀ i, a6 (64 * f + i % 2 ^ q) = qf_b (decide (2 ≤ g i)))
    (hx : 2 ^ q ≤ x0) (hx0 : 1 ≤ g x0)
    (H : ∀ s, qf_W g x0 s → post (nI (s % 2 ^ q))) :
    wpX_runStart post (rc, a1, a2, a3, a4, a5, a6, a7) (nI f) (nI (x0 % 2 ^ q)) := by
  have h0 := (qf_p2 hq).1
  obtain ⟨z, z1, z2, z3⟩ := qf_freeIn hP.1 h0 (x0 + 1 - 2 ^ q)
  have main : ∀ n b, z ≤ b → b ≤ x0 → b < z + n → (∀ i, b < i → i ≤ x0 → 2 ≤ g i) →
      wX_runStart_9 post (nI f) (nI (x0 % 2 ^ q)) (nI (64 * f)) rc a1 a2 a3 a4 a5 a6 a7 n (nI (b % 2 ^ q)) := by
    intro n
    induction n with
    | zero =>
      intro b _ _ h _
      omega
    | succ n ih =>
      intro b hb1 hb2 hn ho
      refine And.intro (qf_in hf (qf_m64 hq b)) ?_
      rw [qf_cl hf (qf_m64 hq b), h6 b]
      refine br_c (fun e => ?_) (fun e => ?_)
      · rw [qf_b0, decide_eq_false_iff_not] at e
        have hg : g b = 1 := by
          by_cases t : b = x0
          · rw [t] at e ⊢
            omega
          · have t1 := ho (b + 1) (by omega) (by omega)
            have t2 := hP.1.2.1 b
            omega
        refine ⟨x0 - b + 1, qf_run37 (c := b) hf hq h1 hP h4 h5 (by omega) (fun i i1 i2 => ?_) H (x0 - b + 1) b b (Nat.le_refl _) hb2 (by omega) ⟨Nat.le_refl _, by omega, Or.inl ⟨rfl, hg⟩⟩ (Or.inl (qf_ncase hP hg))⟩
        by_cases t : i = b
        · rw [t]
          omega
        · have := ho i (by omega) i2
          omega
      · have e2 : 2 ≤ g b := Classical.byContradiction (fun c => e (qf_b0.mpr (decide_eq_false c)))
        have hne : b ≠ z := by
          intro t
          rw [t] at e2
          omega
        obtain ⟨b', rfl⟩ : ∃ b', b = b' + 1 := ⟨b - 1, by omega⟩
        refine qf_before hf h1 hq b' (ih b' (by omega) (by omega) (by omega) (fun i i1 i2 => ?_))
        by_cases t : i = b' + 1
        · rw [t]
          exact e2
        · exact ho i (by omega) i2
  unfold wpX_runStart
  dsimp only
  exact qf_baseW ⟨x0 - z + 1, main (x0 - z + 1) x0 (by omega) (Nat.le_refl _) (by omega) (fun i i1 i2 => absurd i1 (by omega))⟩
end
end
section
theorem qf_kq : ∀ q, q < 7 → 2 ^ q * 2 ^ (8 - q) = 256 := by decide +kernel
theorem qf_kpos (q : Nat) : 0 < 2 ^ (8 - q) := Nat.two_pow_pos _
theorem qf_vs {q v : Nat} (hq : q < 7) (hv : v < 256) : v / 2 ^ (8 - q) < 2 ^ q := by
  rw [Nat.div_lt_iff_lt_mul (qf_kpos q), qf_kq q hq]
  exact hv
theorem qf_vx {q v : Nat} (hq : q < 7) (hv : v < 256) : v / 2 ^ (8 - q) = (v / 2 ^ (8 - q) + 2 ^ q) % 2 ^ q := by
  rw [Nat.add_mod_right, Nat.mod_eq_of_lt (qf_vs hq hv)]
/-- the run of slot x0 stands from s to t: what is counted there is all that there is -/
theorem qf_cnt_run {N K : Nat} {g p : Nat → Nat} (hP : qf_P N K g p) (hN : 0 < N) {x0 s t : Nat} (hx : N ≤ x0) (hw : qf_W g x0 s) (hst : s < t) (hr : ∀ i, s ≤ i → i < t → i + 1 = x0 + g i ∧ 1 ≤ g i) (he : x0 + g t ≤ t) (Q : Nat → Bool) (hQ : ∀ u, Q u = true → u / K = x0 % N) : qf_C N g p Q = qf_ct (fun i => Q (p i)) s (t - s) := by
  have h1 := hr (t - 1) (by omega) (by omega)
  have h2 := qf_gN hP.1 hN (t - 1)
  have hw1 := hw.1
  rw [qf_C_per hP Q s, show N = (t - s) + (N - (t - s)) by omega, qf_ct_add, show s + (t - s) = t by omega]
  have z : qf_ct (fun i => decide (1 ≤ g i) && Q (p i)) t (N - (t - s)) = 0 := by
    refine qf_ct_zero (fun i i1 i2 => ?_)
    cases hd : decide (1 ≤ g i) with
    | false => rfl
    | true =>
      have hg : 1 ≤ g i := of_decide_eq_true hd
      cases hq : Q (p i) with
      | false => rfl
      | true =>
        have e1 := hQ _ hq
        rw [(hP.2.2 i hg).2] at e1
        have l1 := qf_lip hP.1 i1
        have l2 := qf_gN hP.1 hN i
        have e2 : g (i - N) = g i := by
          have := hP.1.1 (i - N)
          rw [show i - N + N = i by omega] at this
          exact this.symm
        have l3 := qf_W_U hP.1 hw (show i - N < s by omega) (by omega)
        rw [show i + 1 + N - g i = i + 1 - g i + N by omega, Nat.add_mod_right] at e1
        have e3 := qf_inj0 (show x0 ≤ i + 1 - g i by omega) (by omega) e1.symm
        omega
  rw [z, Nat.add_zero]
  refine qf_ct_congr (fun i i1 i2 => ?_)
  have := (hr i i1 (by omega)).2
  rw [decide_eq_true this, Bool.true_and]
section
variable {rc : Int32} {a1 a2 a3 a4 a5 a6 a7 : Nat → Int32} {f q v x0 s : Nat} {g p : Nat → Nat}
theorem qf_times46 {post : Int32 → Prop} (hf : f < 2) (hq : q < 7) (h1 : a1 f = nI q) (hP : qf_P (2 ^ q) (2 ^ (8 - q)) g p) (hA : qf_A (2 ^ q) (2 ^ (8 - q)) (64 * f) g p a3 a4 a5 a6)
    (hx : v / 2 ^ (8 - q) = x0 % 2 ^ q)
    (H : ∀ t, s < t → (∀ i, s ≤ i → i < t → i + 1 = x0 + g i ∧ 1 ≤ g i) → x0 + g t ≤ t → post (nI (qf_ct (fun i => p i == v) s (t - s)))) :
    ∀ d t, s ≤ t → (∀ i, s ≤ i → i ≤ t → i + 1 = x0 + g i ∧ 1 ≤ g i) → g t + d = 2 ^ q →
      wX_timesOf_46 post (nI f) (nI (v % 2 ^ (8 - q))) rc a1 a2 a3 a4 a5 a6 a7 (d + 1) (nI (t % 2 ^ q)) (nI (qf_ct (fun i => p i == v) s (t - s))) 1 := by
  have h0 := (qf_p2 hq).1
  intro d
  induction d with
  | zero =>
    intro t _ _ hd
    have := qf_gN hP.1 h0 t
    omega
  | succ d ih =>
    intro t hst hr hd
    have ht := hr t hst (Nat.le_refl _)
    have hc : qf_ct (fun i => p i == v) s (t + 1 - s) = qf_ct (fun i => p i == v) s (t - s) + (if (p t == v) = true then 1 else 0) := by
      rw [show t + 1 - s = (t - s) + 1 by omega, qf_ct_s, show s + (t - s) = t by omega]
    have nxt : wX_timesOf_72 post (wX_timesOf_46 post (nI f) (nI (v % 2 ^ (8 - q))) rc a1 a2 a3 a4 a5 a6 a7 (d + 1)) (nI f) (nI (v % 2 ^ (8 - q))) (nI (t % 2 ^ q)) (nI (qf_ct (fun i => p i == v) s (t + 1 - s))) rc a1 a2 a3 a4 a5 a6 a7 := by
      unfold wX_timesOf_72
      refine qf_after hf h1 hq t (qf_baseW (And.intro (qf_in hf (qf_m64 hq (t + 1))) ?_))
      rw [qf_cl hf (qf_m64 hq (t + 1)), hA.2.2.1 t]
      have hs := hP.1.2.1 t
      by_cases c : 2 ≤ g (t + 1) ∧ g (t + 1) = g t + 1
      · rw [decide_eq_true c]
        refine nm_r (show qf_b true = 1 from rfl) (ih (t + 1) (by omega) (fun i i1 i2 => ?_) (by omega))
        by_cases e : i = t + 1
        · rw [e]
          omega
        · exact hr i i1 (by omega)
      · rw [decide_eq_false c]
        refine nm_r (show qf_b false = 0 from rfl) (br_t rfl (H (t + 1) (by omega) (fun i i1 i2 => hr i i1 (by omega)) (by omega)))
    refine br_f (by decide) (qf_baseW (And.intro (qf_in hf (qf_m64 hq t)) ?_))
    rw [qf_cl hf (qf_m64 hq t), hA.1 t ht.2]
    have b1 : p t % 2 ^ (8 - q) < 2 ^ 31 := by
      have := Nat.mod_le (p t) (2 ^ (8 - q))
      have := (hP.2.2 t ht.2).1
      omega
    have b2 : v % 2 ^ (8 - q) < 2 ^ 31 := by
      have z1 := Nat.mod_lt v (qf_kpos q)
      have z2 : 2 ^ (8 - q) ≤ 2 ^ 8 := Nat.pow_le_pow_right (by decide) (by omega)
      omega
    have hdiv : p t / 2 ^ (8 - q) = v / 2 ^ (8 - q) := by rw [hx]; exact qf_own hP ht.2 ht.1
    have d1 := Nat.div_add_mod (p t) (2 ^ (8 - q))
    have d2 := Nat.div_add_mod v (2 ^ (8 - q))
    rw [hdiv] at d1
    refine pk_eq (p t % 2 ^ (8 - q)) (v % 2 ^ (8 - q)) (fun e => ?_) (fun e => ?_) rfl rfl b1 b2
    · have e2 : p t = v := by omega
      rw [e2, beq_self_eq_true] at hc
      rw [hc] at nxt
      exact nm_r (nI_1 _) nxt
    · have e2 : (p t == v) = false := by
        rw [beq_eq_false_iff_ne]
        intro z
        exact e (by rw [z])
      rw [e2] at hc
      simp only [Bool.false_eq_true, if_false, Nat.add_zero] at hc
      rw [hc] at nxt
      exact nxt
theorem qf_timesOf {post : Int32 → Prop} (hf : f < 2) (hq : q < 7) (h1 : a1 f = nI q) (hP : qf_P (2 ^ q) (2 ^ (8 - q)) g p) (hA : qf_A (2 ^ q) (2 ^ (8 - q)) (64 * f) g p a3 a4 a5 a6)
    (hv : v < 256) (H : post (nI (qf_C (2 ^ q) g p (fun u => u == v)))) : wpX_timesOf post (rc, a1, a2, a3, a4, a5, a6, a7) (nI f) (nI v) := by
  have h0 := (qf_p2 hq).1
  have hx := qf_vx hq hv
  have hlt : v / 2 ^ (8 - q) < 64 := Nat.lt_of_lt_of_le (qf_vs hq hv) (qf_p2 hq).2
  unfold wpX_timesOf
  dsimp only
  refine qf_slotOf hf h1 hq hv (qf_lowerOf hf h1 hq hv (qf_baseW (And.intro (qf_in hf hlt) ?_)))
  rw [qf_cl hf hlt]
  generalize hgx : v / 2 ^ (8 - q) + 2 ^ q = x0 at hx
  rw [hx]
  refine br_c (fun e => ?_) (fun e => ?_)
  · have e2 := (hA.2.1 x0).mp e
    have z : qf_C (2 ^ q) g p (fun u => u == v) = 0 := by
      refine qf_ct_zero (fun i _ _ => ?_)
      cases hd : decide (1 ≤ g i) with
      | false => rfl
      | true =>
        cases hq2 : (p i == v) with
        | false => exact hq2
        | true => exact absurd ⟨i, of_decide_eq_true hd, by rw [eq_of_beq hq2, hx]⟩ e2
    rw [z] at H
    exact H
  · have e2 : qf_N (2 ^ (8 - q)) g p (x0 % 2 ^ q) := Classical.byContradiction (fun c => e ((hA.2.1 x0).mpr c))
    refine qf_run (K := 2 ^ (8 - q)) hf hq h1 hP (fun i => ?_) hA.2.2.1 hA.2.2.2 (by omega) (qf_nocc hP h0 e2) (fun s hw => ?_)
    · rw [hA.2.1 i]
      constructor
      · intro c d
        rcases d with d | d
        · exact c d
        · rw [d] at c
          exact c e2
      · exact fun c d => c (Or.inl d)
    · obtain ⟨o1, o2⟩ := qf_W_own hP h0 hw e2
      have hg := qf_gN hP.1 h0 s
      refine ⟨2 ^ q - g s + 1, ?_⟩
      have m := qf_times46 (rc := rc) (a2 := a2) (a7 := a7) (s := s) (post := post) hf hq h1 hP hA hx (fun t t1 t2 t3 => ?_) (2 ^ q - g s) s (Nat.le_refl _) (fun i i1 i2 => ?_) (by omega)
      · rw [Nat.sub_self] at m
        exact m
      · rw [← qf_cnt_run hP h0 (by omega) hw t1 t2 t3 (fun u => u == v) (fun u hu => by rw [eq_of_beq hu]; exact hx)]
        exact H
      · rw [show i = s by omega]
        exact ⟨o1, o2⟩
end
end
section
/-! one more in the ring: it stands at j and belongs to x0; what stood from j on to the free position e goes one further -/
def qf_G (x0 j e : Nat) (g : Nat → Nat) (i : Nat) : Nat := if i = j then j - x0 + 1 else if i ≤ e then g (i - 1) + 1 else g i
def qf_Q (v j e : Nat) (p : Nat → Nat) (i : Nat) : Nat := if i = j then v else if i ≤ e then p (i - 1) else p i
def qf_gi (N x0 j e : Nat) (g : Nat → Nat) (i : Nat) : Nat := qf_G x0 j e g (qf_rep N j i)
def qf_pi (N v j e : Nat) (p : Nat → Nat) (i : Nat) : Nat := qf_Q v j e p (qf_rep N j i)
theorem qf_G_j {x0 j e : Nat} {g : Nat → Nat} : qf_G x0 j e g j = j - x0 + 1 := if_pos rfl
theorem qf_G_m {x0 j e i : Nat} {g : Nat → Nat} (h1 : j ≤ i) (h2 : i < e) : qf_G x0 j e g (i + 1) = g i + 1 := by
  unfold qf_G
  rw [if_neg (by omega), if_pos (by omega), Nat.add_sub_cancel]
theorem qf_G_o {x0 j e i : Nat} {g : Nat → Nat} (hj : j ≤ e) (h : e < i) : qf_G x0 j e g i = g i := by
  unfold qf_G
  rw [if_neg (by omega), if_neg (by omega)]
theorem qf_Q_j {v j e : Nat} {p : Nat → Nat} : qf_Q v j e p j = v := if_pos rfl
theorem qf_Q_m {v j e i : Nat} {p : Nat → Nat} (h1 : j ≤ i) (h2 : i < e) : qf_Q v j e p (i + 1) = p i := by
  unfold qf_Q
  rw [if_neg (by omega), if_pos (by omega), Nat.add_sub_cancel]
theorem qf_Q_o {v j e i : Nat} {p : Nat → Nat} (hj : j ≤ e) (h : e < i) : qf_Q v j e p i = p i := by
  unfold qf_Q
  rw [if_neg (by omega), if_neg (by omega)]
/-- the three kinds of place in the window -/
theorem qf_three {j e N : Nat} {T : Nat → Prop} (hj : T j) (hm : ∀ i, j ≤ i → i < e → T (i + 1)) (ho : ∀ i, e < i → i < j + N → T i) : ∀ r, j ≤ r → r < j + N → T r := by
  intro r r1 r2
  rcases Nat.lt_or_ge e r with z | z
  · exact ho r z r2
  · by_cases c : r = j
    · rw [c]
      exact hj
    · have := hm (r - 1) (by omega) (by omega)
      rw [show r - 1 + 1 = r by omega] at this
      exact this
def qf_I (N x0 j e : Nat) (g : Nat → Nat) : Prop := 1 ≤ j ∧ x0 ≤ j ∧ j ≤ e ∧ g e = 0 ∧ (∀ r, j ≤ r → r < e → 1 ≤ g r) ∧ (∃ z, e < z ∧ z < j + N ∧ g z = 0) ∧ j ≤ x0 + g (j - 1) ∧ x0 + g j ≤ j + 1
theorem qf_ins_R {N x0 j e : Nat} {g : Nat → Nat} (hR : qf_R N g) (hN : 0 < N) (hI : qf_I N x0 j e g) : qf_R N (qf_gi N x0 j e g) := by
  obtain ⟨i1, i2, i3, i4, i5, ⟨z, z1, z2, z3⟩, i7, i8⟩ := hI
  refine ⟨fun i => ?_, fun i => ?_, ⟨z, ?_⟩⟩
  · unfold qf_gi
    rw [qf_rep_eq hN j (Nat.add_mod_right i N)]
  · unfold qf_gi
    have r1 := qf_rep_lo N j i
    have r2 := qf_rep_hi hN j i
    have r3 : qf_rep N j (i + 1) = qf_rep N j (qf_rep N j i + 1) := qf_rep_eq hN j (qf_mod1 (qf_rep_mod hN j i).symm)
    rw [r3]
    generalize qf_rep N j i = r at r1 r2
    rcases Nat.lt_or_ge (r + 1) (j + N) with c | c
    · rw [qf_rep_id hN (by omega) c]
      have s0 := hR.2.1 r
      rcases Nat.lt_or_ge e r with d | d
      · rw [qf_G_o i3 (by omega), qf_G_o i3 d]
        exact s0
      · rcases Nat.lt_or_ge r e with d2 | d2
        · rw [qf_G_m r1 d2]
          by_cases d3 : r = j
          · rw [d3, qf_G_j]
            omega
          · have s1 := hR.2.1 (r - 1)
            rw [show r - 1 + 1 = r by omega] at s1
            have d4 := qf_G_m (x0 := x0) (g := g) (show j ≤ r - 1 by omega) (show r - 1 < e by omega)
            rw [show r - 1 + 1 = r by omega] at d4
            rw [d4]
            omega
        · have d5 : r = e := by omega
          rw [qf_G_o i3 (by omega)]
          rw [d5] at s0 ⊢
          omega
    · have d5 : r = j + N - 1 := by omega
      have d6 : qf_rep N j (r + 1) = j := by
        rw [show r + 1 = j + N by omega, qf_rep_eq hN j (Nat.add_mod_right j N), qf_rep_id hN (by omega) (by omega)]
      rw [d6, qf_G_j, qf_G_o i3 (by omega)]
      have d7 := hR.1 (j - 1)
      rw [show j - 1 + N = r by omega] at d7
      omega
  · unfold qf_gi
    rw [qf_rep_id hN (by omega) z2, qf_G_o i3 z1, z3]
theorem qf_ins_P {N K x0 j e v : Nat} {g p : Nat → Nat} (hP : qf_P N K g p) (hN : 0 < N) (hI : qf_I N x0 j e g) (hv : v < 256) (hx : v / K = x0 % N) : qf_P N K (qf_gi N x0 j e g) (qf_pi N v j e p) := by
  have hR := qf_ins_R hP.1 hN hI
  obtain ⟨i1, i2, i3, i4, i5, ⟨z, z1, z2, z3⟩, i7, i8⟩ := hI
  refine ⟨hR, fun i => ?_, fun i hi => ?_⟩
  · unfold qf_pi
    rw [qf_rep_eq hN j (Nat.add_mod_right i N)]
  · have hgN := qf_gN hR hN i
    have hm := qf_rep_mod hN j i
    have key : ∀ r, j ≤ r → r < j + N → 1 ≤ qf_G x0 j e g r → qf_G x0 j e g r < N → qf_Q v j e p r < 256 ∧ qf_Q v j e p r / K = (r + 1 + N - qf_G x0 j e g r) % N := by
      refine qf_three (e := e) ?_ (fun i h1 h2 => ?_) (fun i h1 h2 => ?_)
      · rw [qf_G_j, qf_Q_j]
        intro _ _
        refine ⟨hv, ?_⟩
        rw [show j + 1 + N - (j - x0 + 1) = x0 + N by omega, Nat.add_mod_right]
        exact hx
      · rw [qf_G_m h1 h2, qf_Q_m h1 h2]
        intro _ _
        have t := hP.2.2 i (i5 i h1 h2)
        rw [show i + 1 + 1 + N - (g i + 1) = i + 1 + N - g i by omega]
        exact t
      · rw [qf_G_o i3 h1, qf_Q_o i3 h1]
        intro h3 _
        exact hP.2.2 i h3
    have t := key (qf_rep N j i) (qf_rep_lo N j i) (qf_rep_hi hN j i) hi hgN
    refine ⟨t.1, t.2.trans ?_⟩
    show (qf_rep N j i + 1 + N - qf_gi N x0 j e g i) % N = (i + 1 + N - qf_gi N x0 j e g i) % N
    rw [show qf_rep N j i + 1 + N - qf_gi N x0 j e g i = qf_rep N j i + (1 + N - qf_gi N x0 j e g i) by omega, show i + 1 + N - qf_gi N x0 j e g i = i + (1 + N - qf_gi N x0 j e g i) by omega, Nat.add_mod, hm, ← Nat.add_mod]
theorem qf_ins_C {N K x0 j e v : Nat} {g p : Nat → Nat} (hP : qf_P N K g p) (hN : 0 < N) (hI : qf_I N x0 j e g) (hv : v < 256) (hx : v / K = x0 % N) (Q : Nat → Bool) : qf_C N (qf_gi N x0 j e g) (qf_pi N v j e p) Q = qf_C N g p Q + (if Q v = true then 1 else 0) := by
  have hP' := qf_ins_P hP hN hI hv hx
  obtain ⟨i1, i2, i3, i4, i5, ⟨z, z1, z2, z3⟩, i7, i8⟩ := hI
  rw [qf_C_per hP' Q j, qf_C_per hP Q j]
  have w : ∀ i, j ≤ i → i < j + N → (decide (1 ≤ qf_gi N x0 j e g i) && Q (qf_pi N v j e p i)) = (decide (1 ≤ qf_G x0 j e g i) && Q (qf_Q v j e p i)) := by
    intro i h1 h2
    unfold qf_gi qf_pi
    rw [qf_rep_id hN h1 h2]
  rw [qf_ct_congr w]
  have e1 := qf_ct_add (fun i => decide (1 ≤ qf_G x0 j e g i) && Q (qf_Q v j e p i)) j (1 + (e - j)) (N - (1 + (e - j)))
  rw [show 1 + (e - j) + (N - (1 + (e - j))) = N by omega, show j + (1 + (e - j)) = e + 1 by omega, qf_ct_add _ j 1 (e - j), qf_ct_1, qf_ct_shift _ j 1 (e - j)] at e1
  have e2 := qf_ct_add (fun i => decide (1 ≤ g i) && Q (p i)) j ((e - j) + 1) (N - (1 + (e - j)))
  rw [show e - j + 1 + (N - (1 + (e - j))) = N by omega, show j + (e - j + 1) = e + 1 by omega, qf_ct_s, show j + (e - j) = e by omega] at e2
  have e3 : qf_ct (fun i => decide (1 ≤ qf_G x0 j e g (i + 1)) && Q (qf_Q v j e p (i + 1))) j (e - j) = qf_ct (fun i => decide (1 ≤ g i) && Q (p i)) j (e - j) := by
    refine qf_ct_congr (fun i h1 h2 => ?_)
    rw [qf_G_m h1 (by omega), qf_Q_m h1 (by omega), decide_eq_true (i5 i h1 (by omega)), decide_eq_true (show 1 ≤ g i + 1 by omega)]
  have e4 : qf_ct (fun i => decide (1 ≤ qf_G x0 j e g i) && Q (qf_Q v j e p i)) (e + 1) (N - (1 + (e - j))) = qf_ct (fun i => decide (1 ≤ g i) && Q (p i)) (e + 1) (N - (1 + (e - j))) := by
    refine qf_ct_congr (fun i h1 h2 => ?_)
    rw [qf_G_o i3 (by omega), qf_Q_o i3 (by omega)]
  rw [e3, e4, qf_G_j, qf_Q_j, decide_eq_true (show 1 ≤ j - x0 + 1 by omega), Bool.true_and] at e1
  rw [i4, decide_eq_false (show ¬ 1 ≤ 0 by omega), Bool.false_and] at e2
  simp only [Bool.false_eq_true, if_false, Nat.add_zero] at e2
  rw [e1, e2]
  omega
theorem qf_ins_N {N K x0 j e v : Nat} {g p : Nat → Nat} (hP : qf_P N K g p) (hN : 0 < N) (hI : qf_I N x0 j e g) (hx : v / K = x0 % N) (x : Nat) : qf_N K (qf_gi N x0 j e g) (qf_pi N v j e p) x ↔ (qf_N K g p x ∨ x = x0 % N) := by
  obtain ⟨i1, i2, i3, i4, i5, ⟨z, z1, z2, z3⟩, i7, i8⟩ := hI
  constructor
  · rintro ⟨y, y1, y2⟩
    have key : ∀ r, j ≤ r → r < j + N → 1 ≤ qf_G x0 j e g r → qf_Q v j e p r / K = x → (qf_N K g p x ∨ x = x0 % N) := by
      refine qf_three (e := e) ?_ (fun i h1 h2 => ?_) (fun i h1 h2 => ?_)
      · rw [qf_Q_j]
        intro _ t
        exact Or.inr (by rw [← t, hx])
      · rw [qf_Q_m h1 h2]
        intro _ t
        exact Or.inl ⟨i, i5 i h1 h2, t⟩
      · rw [qf_G_o i3 h1, qf_Q_o i3 h1]
        intro t1 t2
        exact Or.inl ⟨i, t1, t2⟩
    exact key (qf_rep N j y) (qf_rep_lo N j y) (qf_rep_hi hN j y) y1 y2
  · rintro (⟨y, y1, y2⟩ | h)
    · have r1 := qf_rep_lo N j y
      have r2 := qf_rep_hi hN j y
      have r3 := qf_peq hP.1.1 (qf_rep_mod hN j y)
      have r4 := qf_peq hP.2.1 (qf_rep_mod hN j y)
      rw [← r3] at y1
      rw [← r4] at y2
      generalize qf_rep N j y = r at r1 r2 y1 y2
      rcases Nat.lt_or_ge e r with c | c
      · refine ⟨r, ?_, ?_⟩
        · unfold qf_gi
          rw [qf_rep_id hN r1 r2, qf_G_o i3 c]
          exact y1
        · unfold qf_pi
          rw [qf_rep_id hN r1 r2, qf_Q_o i3 c]
          exact y2
      · have c2 : r < e := by
          rcases Nat.lt_or_ge r e with c2 | c2
          · exact c2
          · rw [show r = e by omega] at y1
            omega
        refine ⟨r + 1, ?_, ?_⟩
        · unfold qf_gi
          rw [qf_rep_id hN (by omega) (by omega), qf_G_m r1 c2]
          omega
        · unfold qf_pi
          rw [qf_rep_id hN (by omega) (by omega), qf_Q_m r1 c2]
          exact y2
    · refine ⟨j, ?_, ?_⟩
      · unfold qf_gi
        rw [qf_rep_id hN (by omega) (by omega), qf_G_j]
        omega
      · unfold qf_pi
        rw [qf_rep_id hN (by omega) (by omega), qf_Q_j, hx, h]
/-- the arrays show it -/
theorem qf_ins_A {N K o x0 j e v : Nat} {g p : Nat → Nat} {a3 a4 a5 a6 b3 b4 b5 b6 : Nat → Int32} (hP : qf_P N K g p) (hN : 0 < N) (hA : qf_A N K o g p a3 a4 a5 a6) (hI : qf_I N x0 j e g) (hx : v / K = x0 % N)
    (u3 : b3 (o + j % N) = nI (v % K)) (m3 : ∀ r, j ≤ r → r < e → b3 (o + (r + 1) % N) = a3 (o + r % N))
    (u5 : b5 (o + j % N) = qf_b (decide (x0 < j ∧ j = x0 + g (j - 1)))) (s5 : j < e → b5 (o + (j + 1) % N) = qf_b (decide (j + 1 = x0 + g j))) (m5 : ∀ r, j < r → r < e → b5 (o + (r + 1) % N) = a5 (o + r % N))
    (u6 : b6 (o + j % N) = qf_b (decide (x0 < j))) (m6 : ∀ r, j ≤ r → r < e → b6 (o + (r + 1) % N) = qf_b true)
    (ho : ∀ r, e < r → r < j + N → b3 (o + r % N) = a3 (o + r % N) ∧ b5 (o + r % N) = a5 (o + r % N) ∧ b6 (o + r % N) = a6 (o + r % N))
    (h4 : ∀ i, b4 (o + i % N) = 0 ↔ ¬ (qf_N K g p (i % N) ∨ i % N = x0 % N)) : qf_A N K o (qf_gi N x0 j e g) (qf_pi N v j e p) b3 b4 b5 b6 := by
  have hNm := fun x => qf_ins_N hP hN hI hx x
  obtain ⟨i1, i2, i3, i4, i5, ⟨z, z1, z2, z3⟩, i7, i8⟩ := hI
  obtain ⟨h3, _, h5, h6⟩ := hA
  refine ⟨fun i hi => ?_, fun i => ?_, fun i => ?_, fun i => ?_⟩
  · have key : ∀ r, j ≤ r → r < j + N → 1 ≤ qf_G x0 j e g r → b3 (o + r % N) = nI (qf_Q v j e p r % K) := by
      refine qf_three (e := e) ?_ (fun i h1 h2 => ?_) (fun i h1 h2 => ?_)
      · rw [qf_Q_j]
        exact fun _ => u3
      · rw [qf_Q_m h1 h2, m3 i h1 h2]
        exact fun _ => h3 i (i5 i h1 h2)
      · rw [qf_G_o i3 h1, qf_Q_o i3 h1, (ho i h1 h2).1]
        exact h3 i
    have t := key (qf_rep N j i) (qf_rep_lo N j i) (qf_rep_hi hN j i) hi
    rw [qf_rep_mod hN] at t
    exact t
  · rw [h4, hNm]
  · have hm := qf_mod1 (qf_rep_mod hN j i)
    have r1 := qf_rep_lo N j i
    have r2 := qf_rep_hi hN j i
    have r3 : qf_rep N j (i + 1) = qf_rep N j (qf_rep N j i + 1) := qf_rep_eq hN j hm.symm
    rw [← hm]
    unfold qf_gi
    rw [r3]
    clear hm r3
    generalize qf_rep N j i = r at r1 r2
    rcases Nat.lt_or_ge (r + 1) (j + N) with c | c
    · rw [qf_rep_id hN (by omega) c]
      rcases Nat.lt_or_ge e r with d | d
      · rw [(ho (r + 1) (by omega) c).2.1, qf_G_o i3 (by omega), qf_G_o i3 d]
        exact h5 r
      · rcases Nat.lt_or_ge r e with d2 | d2
        · rw [qf_G_m r1 d2]
          have g1 := i5 r r1 d2
          by_cases d3 : r = j
          · rw [d3] at g1 d2 ⊢
            rw [s5 d2, qf_G_j]
            exact congrArg qf_b (decide_eq_decide.mpr ⟨fun t => ⟨by omega, by omega⟩, fun t => by omega⟩)
          · rw [m5 r (by omega) d2]
            obtain ⟨t, rfl⟩ : ∃ t, r = t + 1 := ⟨r - 1, by omega⟩
            have g2 := i5 t (by omega) (by omega)
            rw [h5 t, qf_G_m (show j ≤ t by omega) (show t < e by omega)]
            exact congrArg qf_b (decide_eq_decide.mpr ⟨fun t => ⟨by omega, by omega⟩, fun t => ⟨by omega, by omega⟩⟩)
        · have d5 : r = e := by omega
          rw [(ho (r + 1) (by omega) c).2.1, h5 r, qf_G_o i3 (by omega)]
          have s0 : g (e + 1) ≤ 1 := by
            have h4' := hP.1.2.1 e
            omega
          rw [d5]
          exact congrArg qf_b (decide_eq_decide.mpr ⟨fun t => absurd t.1 (by omega), fun t => absurd t.1 (by omega)⟩)
    · have d6 : qf_rep N j (r + 1) = j := by
        rw [show r + 1 = j + N by omega, qf_rep_eq hN j (Nat.add_mod_right j N), qf_rep_id hN (by omega) (by omega)]
      rw [d6, show (r + 1) % N = j % N by rw [show r + 1 = j + N by omega, Nat.add_mod_right], u5, qf_G_j, qf_G_o i3 (by omega)]
      have d7 := hP.1.1 (j - 1)
      rw [show j - 1 + N = r by omega] at d7
      rw [d7]
      exact congrArg qf_b (decide_eq_decide.mpr ⟨fun t => ⟨by omega, by omega⟩, fun t => ⟨by omega, by omega⟩⟩)
  · have key : ∀ r, j ≤ r → r < j + N → b6 (o + r % N) = qf_b (decide (2 ≤ qf_G x0 j e g r)) := by
      refine qf_three (e := e) ?_ (fun i h1 h2 => ?_) (fun i h1 h2 => ?_)
      · rw [qf_G_j, u6]
        exact congrArg qf_b (decide_eq_decide.mpr ⟨fun t => by omega, fun t => by omega⟩)
      · have g1 := i5 i h1 h2
        rw [qf_G_m h1 h2, m6 i h1 h2, decide_eq_true (show 2 ≤ g i + 1 by omega)]
      · rw [qf_G_o i3 h1, (ho i h1 h2).2.2]
        exact h6 i
    have t := key (qf_rep N j i) (qf_rep_lo N j i) (qf_rep_hi hN j i)
    rw [qf_rep_mod hN] at t
    exact t
end
section
/-- what push leaves -/
def qf_Pu (f N j d : Nat) (a3 a5 a6 : Nat → Int32) (x8 x9 x10 : Int32) (b3 b5 b6 : Nat → Int32) : Prop :=
  (∀ k, (∀ r, j ≤ r → r ≤ j + d → k ≠ 64 * f + r % N) → b3 k = a3 k ∧ b5 k = a5 k ∧ b6 k = a6 k) ∧
  (b3 (64 * f + j % N) = x8.toInt8.toInt32 ∧ b5 (64 * f + j % N) = vp_nar .boolean x9 ∧ b6 (64 * f + j % N) = vp_nar .boolean x10) ∧
  (∀ r, j ≤ r → r < j + d → b3 (64 * f + (r + 1) % N) = (a3 (64 * f + r % N)).toInt8.toInt32 ∧ b5 (64 * f + (r + 1) % N) = vp_nar .boolean (a5 (64 * f + r % N)) ∧ b6 (64 * f + (r + 1) % N) = vp_nar .boolean 1)
theorem qf_Pu_0 {f N j : Nat} {a3 a5 a6 : Nat → Int32} {x8 x9 x10 : Int32} : qf_Pu f N j 0 a3 a5 a6 x8 x9 x10 (upd a3 (64 * f + j % N) x8.toInt8.toInt32) (upd a5 (64 * f + j % N) (vp_nar .boolean x9)) (upd a6 (64 * f + j % N) (vp_nar .boolean x10)) :=
  ⟨fun k hk => ⟨pk_un (hk j (Nat.le_refl _) (by omega)), pk_un (hk j (Nat.le_refl _) (by omega)), pk_un (hk j (Nat.le_refl _) (by omega))⟩, ⟨pk_us, pk_us, pk_us⟩, fun r h1 h2 => absurd h2 (by omega)⟩
theorem qf_ixne {f N j r d : Nat} (h1 : j < r) (h2 : r ≤ j + d) (hd : d < N) : 64 * f + r % N ≠ 64 * f + j % N := by
  intro e
  have e2 : j % N = r % N := by omega
  have := qf_inj0 (by omega) (by omega) e2
  omega
theorem qf_Pu_s {f N j d : Nat} {a3 a5 a6 : Nat → Int32} {x8 x9 x10 : Int32} {b3 b5 b6 : Nat → Int32} (hd : d + 1 < N)
    (h : qf_Pu f N (j + 1) d (upd a3 (64 * f + j % N) x8.toInt8.toInt32) (upd a5 (64 * f + j % N) (vp_nar .boolean x9)) (upd a6 (64 * f + j % N) (vp_nar .boolean x10)) (a3 (64 * f + j % N)) (a5 (64 * f + j % N)) 1 b3 b5 b6) : qf_Pu f N j (d + 1) a3 a5 a6 x8 x9 x10 b3 b5 b6 := by
  obtain ⟨h1, h2, h3⟩ := h
  refine ⟨fun k hk => ?_, ?_, fun r r1 r2 => ?_⟩
  · have t := h1 k (fun r u1 u2 => hk r (by omega) (by omega))
    have n := hk j (Nat.le_refl _) (by omega)
    rw [pk_un n, pk_un n, pk_un n] at t
    exact t
  · have t := h1 (64 * f + j % N) (fun r u1 u2 => (qf_ixne (show j < r by omega) (show r ≤ j + (d + 1) by omega) hd).symm)
    rw [pk_us, pk_us, pk_us] at t
    exact t
  · by_cases c : r = j
    · rw [c]
      exact h2
    · have t := h3 r (by omega) (by omega)
      have n := qf_ixne (f := f) (N := N) (show j < r by omega) (show r ≤ j + (d + 1) by omega) hd
      rw [pk_un n, pk_un n] at t
      exact t
section
variable {rc : Int32} {a1 a2 a4 a7 : Nat → Int32} {f q : Nat}
theorem qf_push24 {post : St1 → Prop} (hf : f < 2) (hq : q < 7) (h1 : a1 f = nI q) : ∀ (d j : Nat) (a3 a5 a6 : Nat → Int32) (x8 x9 x10 : Int32), d < 2 ^ q →
    (∀ r, j ≤ r → r ≤ j + d → ((a4 (64 * f + r % 2 ^ q) = 0 ∧ a5 (64 * f + r % 2 ^ q) = 0 ∧ a6 (64 * f + r % 2 ^ q) = 0) ↔ r = j + d)) →
    (∀ b3 b5 b6, qf_Pu f (2 ^ q) j d a3 a5 a6 x8 x9 x10 b3 b5 b6 → post (rc, a1, a2, b3, a4, b5, b6, a7)) →
    wX_push_24 post (nI f) (nI (64 * f)) rc (d + 2) (nI (j % 2 ^ q)) x8 x9 x10 1 a1 a2 a3 a4 a5 a6 a7 := by
  intro d
  induction d with
  | zero =>
    intro j a3 a5 a6 x8 x9 x10 hd hh H
    refine br_f (by decide) (qf_holds hf (qf_m64 hq j) (fun _ => ?_) (fun e => absurd ((hh j (Nat.le_refl _) (by omega)).mpr (by omega)) e))
    have hi := qf_in hf (qf_m64 hq j)
    rw [qf_cl hf (qf_m64 hq j)]
    exact ⟨hi, nm_e ⟨hi, nm_e ⟨hi, nm_e ⟨hi, nm_e ⟨hi, nm_e (qf_after hf h1 hq j (br_t rfl (H _ _ _ qf_Pu_0)))⟩⟩⟩⟩⟩
  | succ d ih =>
    intro j a3 a5 a6 x8 x9 x10 hd hh H
    refine br_f (by decide) (qf_holds hf (qf_m64 hq j) (fun e => absurd ((hh j (Nat.le_refl _) (by omega)).mp e) (by omega)) (fun _ => ?_))
    have hi := qf_in hf (qf_m64 hq j)
    rw [qf_cl hf (qf_m64 hq j)]
    refine ⟨hi, nm_e ⟨hi, nm_e ⟨hi, nm_e ⟨hi, nm_e ⟨hi, nm_e (qf_after hf h1 hq j ?_)⟩⟩⟩⟩⟩
    refine ih (j + 1) _ _ _ _ _ _ (by omega) (fun r r1 r2 => ?_) (fun b3 b5 b6 hb => H b3 b5 b6 (qf_Pu_s hd hb))
    have n := qf_ixne (f := f) (N := 2 ^ q) (show j < r by omega) (show r ≤ j + (d + 1) by omega) hd
    rw [pk_un n, pk_un n, hh r (by omega) (by omega)]
    omega
theorem qf_push {post : St1 → Prop} {j d : Nat} {a3 a5 a6 : Nat → Int32} {x8 x9 x10 : Int32} (hf : f < 2) (hq : q < 7) (h1 : a1 f = nI q) (hd : d < 2 ^ q)
    (hh : ∀ r, j ≤ r → r ≤ j + d → ((a4 (64 * f + r % 2 ^ q) = 0 ∧ a5 (64 * f + r % 2 ^ q) = 0 ∧ a6 (64 * f + r % 2 ^ q) = 0) ↔ r = j + d))
    (H : ∀ b3 b5 b6, qf_Pu f (2 ^ q) j d a3 a5 a6 x8 x9 x10 b3 b5 b6 → post (rc, a1, a2, b3, a4, b5, b6, a7)) :
    wpX_push post (rc, a1, a2, a3, a4, a5, a6, a7) (nI f) (nI (j % 2 ^ q)) x8 x9 x10 := by
  unfold wpX_push
  dsimp only
  exact qf_baseW ⟨d + 2, qf_push24 hf hq h1 d j a3 a5 a6 x8 x9 x10 hd hh H⟩
end
end
section
/-- filter f stands in the arrays as the ring (g, p) -/
def qf_F (f q : Nat) (g p : Nat → Nat) (a1 a2 a3 a4 a5 a6 : Nat → Int32) : Prop :=
  3 ≤ q ∧ q < 7 ∧ a1 f = nI q ∧ a2 f = nI (qf_C (2 ^ q) g p (fun _ => true)) ∧ qf_P (2 ^ q) (2 ^ (8 - q)) g p ∧ qf_A (2 ^ q) (2 ^ (8 - q)) (64 * f) g p a3 a4 a5 a6
/-- filter f holds the fingerprints M -/
def qf_FM (f q : Nat) (M : (Nat → Bool) → Nat) (a1 a2 a3 a4 a5 a6 : Nat → Int32) : Prop :=
  ∃ g p, qf_F f q g p a1 a2 a3 a4 a5 a6 ∧ ∀ Q, M Q = qf_C (2 ^ q) g p Q
/-- nothing outside of filter f has changed -/
def qf_Keep (f : Nat) (a2 a3 a4 a5 a6 b2 b3 b4 b5 b6 : Nat → Int32) : Prop :=
  (∀ k, k ≠ f → b2 k = a2 k) ∧ (∀ k, (k < 64 * f ∨ 64 * f + 64 ≤ k) → b3 k = a3 k ∧ b4 k = a4 k ∧ b5 k = a5 k ∧ b6 k = a6 k)
theorem qf_Keep_r {f : Nat} {a2 a3 a4 a5 a6 : Nat → Int32} : qf_Keep f a2 a3 a4 a5 a6 a2 a3 a4 a5 a6 := ⟨fun _ _ => rfl, fun _ _ => ⟨rfl, rfl, rfl, rfl⟩⟩
theorem qf_Keep_t {f : Nat} {a2 a3 a4 a5 a6 b2 b3 b4 b5 b6 c2 c3 c4 c5 c6 : Nat → Int32} (h : qf_Keep f a2 a3 a4 a5 a6 b2 b3 b4 b5 b6) (h' : qf_Keep f b2 b3 b4 b5 b6 c2 c3 c4 c5 c6) : qf_Keep f a2 a3 a4 a5 a6 c2 c3 c4 c5 c6 := by
  refine ⟨fun k hk => (h'.1 k hk).trans (h.1 k hk), fun k hk => ?_⟩
  have x := h.2 k hk
  have y := h'.2 k hk
  exact ⟨y.1.trans x.1, y.2.1.trans x.2.1, y.2.2.1.trans x.2.2.1, y.2.2.2.trans x.2.2.2⟩
theorem qf_A_congr {N K o : Nat} {g p : Nat → Nat} {a3 a4 a5 a6 b3 b4 b5 b6 : Nat → Int32} (hN : 0 < N) (h : qf_A N K o g p a3 a4 a5 a6) (e : ∀ k, k < N → b3 (o + k) = a3 (o + k) ∧ b4 (o + k) = a4 (o + k) ∧ b5 (o + k) = a5 (o + k) ∧ b6 (o + k) = a6 (o + k)) : qf_A N K o g p b3 b4 b5 b6 := by
  obtain ⟨h3, h4, h5, h6⟩ := h
  have m := fun i => e (i % N) (Nat.mod_lt i hN)
  exact ⟨fun i hi => (m i).1.trans (h3 i hi), fun i => by rw [(m i).2.1]; exact h4 i, fun i => (m (i + 1)).2.2.1.trans (h5 i), fun i => (m i).2.2.2.trans (h6 i)⟩
theorem qf_frame {f f' q : Nat} {M : (Nat → Bool) → Nat} {a1 a2 a3 a4 a5 a6 b1 b2 b3 b4 b5 b6 : Nat → Int32} (hne : f' ≠ f) (hk : qf_Keep f a2 a3 a4 a5 a6 b2 b3 b4 b5 b6) (hb : b1 f' = a1 f') (h : qf_FM f' q M a1 a2 a3 a4 a5 a6) : qf_FM f' q M b1 b2 b3 b4 b5 b6 := by
  obtain ⟨g, p, ⟨q3, q6, h1, h2, hP, hA⟩, hM⟩ := h
  refine ⟨g, p, ⟨q3, q6, hb.trans h1, (hk.1 f' hne).trans h2, hP, qf_A_congr (qf_p2 q6).1 hA (fun k kl => ?_)⟩, hM⟩
  have := (qf_p2 q6).2
  exact hk.2 (64 * f' + k) (by omega)
theorem qf_second {N K : Nat} {g p : Nat → Nat} (hP : qf_P N K g p) (hr : qf_C N g p (fun _ => true) + 2 ≤ N) {j e : Nat} (h1 : j ≤ e) (h2 : e < j + N) (h0 : g e = 0) (ho : ∀ r, j ≤ r → r < e → 1 ≤ g r) : ∃ z, e < z ∧ z < j + N ∧ g z = 0 := by
  rw [qf_C_per hP _ j] at hr
  have e2 := qf_ct_add (fun i => decide (1 ≤ g i) && true) j ((e - j) + 1) (N - (1 + (e - j)))
  rw [show e - j + 1 + (N - (1 + (e - j))) = N by omega, show j + (e - j + 1) = e + 1 by omega, qf_ct_s, show j + (e - j) = e by omega] at e2
  have e3 : qf_ct (fun i => decide (1 ≤ g i) && true) j (e - j) = e - j := qf_ct_full (fun i i1 i2 => by rw [decide_eq_true (ho i i1 (by omega))]; rfl)
  rw [e3] at e2
  obtain ⟨z, z1, z2, z3⟩ := qf_ct_lt (P := fun i => decide (1 ≤ g i) && true) (lo := e + 1) (n := N - (1 + (e - j))) (by omega)
  refine ⟨z, by omega, by omega, ?_⟩
  rw [Bool.and_true, decide_eq_false_iff_not] at z3
  omega
theorem qf_ins_FM {f q v x0 j e : Nat} {M : (Nat → Bool) → Nat} {g p : Nat → Nat} {a1 a2 a3 a4 a5 a6 b3 b4 b5 b6 : Nat → Int32} (hF : qf_F f q g p a1 a2 a3 a4 a5 a6) (hM : ∀ Q, M Q = qf_C (2 ^ q) g p Q) (hI : qf_I (2 ^ q) x0 j e g) (hv : v < 256) (hx : v / 2 ^ (8 - q) = x0 % 2 ^ q)
    (u3 : b3 (64 * f + j % 2 ^ q) = nI (v % 2 ^ (8 - q))) (m3 : ∀ r, j ≤ r → r < e → b3 (64 * f + (r + 1) % 2 ^ q) = a3 (64 * f + r % 2 ^ q))
    (u5 : b5 (64 * f + j % 2 ^ q) = qf_b (decide (x0 < j ∧ j = x0 + g (j - 1)))) (s5 : j < e → b5 (64 * f + (j + 1) % 2 ^ q) = qf_b (decide (j + 1 = x0 + g j))) (m5 : ∀ r, j < r → r < e → b5 (64 * f + (r + 1) % 2 ^ q) = a5 (64 * f + r % 2 ^ q))
    (u6 : b6 (64 * f + j % 2 ^ q) = qf_b (decide (x0 < j))) (m6 : ∀ r, j ≤ r → r < e → b6 (64 * f + (r + 1) % 2 ^ q) = qf_b true)
    (ho : ∀ r, e < r → r < j + 2 ^ q → b3 (64 * f + r % 2 ^ q) = a3 (64 * f + r % 2 ^ q) ∧ b5 (64 * f + r % 2 ^ q) = a5 (64 * f + r % 2 ^ q) ∧ b6 (64 * f + r % 2 ^ q) = a6 (64 * f + r % 2 ^ q))
    (h4 : ∀ i, b4 (64 * f + i % 2 ^ q) = 0 ↔ ¬ (qf_N (2 ^ (8 - q)) g p (i % 2 ^ q) ∨ i % 2 ^ q = x0 % 2 ^ q)) :
    qf_FM f q (fun Q => M Q + (if Q v = true then 1 else 0)) a1 (upd a2 f (nI (qf_C (2 ^ q) g p (fun _ => true) + 1))) b3 b4 b5 b6 := by
  obtain ⟨q3, q6, h1, h2, hP, hA⟩ := hF
  have h0 := (qf_p2 q6).1
  refine ⟨_, _, ⟨q3, q6, h1, ?_, qf_ins_P hP h0 hI hv hx, qf_ins_A hP h0 hA hI hx u3 m3 u5 s5 m5 u6 m6 ho h4⟩, fun Q => ?_⟩
  · rw [pk_us, qf_ins_C hP h0 hI hv hx]
    rfl
  · show M Q + (if Q v = true then 1 else 0) = _
    rw [qf_ins_C hP h0 hI hv hx, hM]
section
variable {rc : Int32} {a1 a2 a3 a4 a5 a6 a7 : Nat → Int32} {f q : Nat}
theorem qf_ins146 {post : St1 → Prop} {s j x0 : Nat} {bits hr : Int32} (hf : f < 2) (hq : q < 7) (hsj : s ≤ j) (hjs : j < s + 2 ^ q) (hxj : x0 ≤ j) (hjx : j < x0 + 2 ^ q) (hno : hr = 0 → j = s)
    (H1 : ¬ hr = 0 → j = s → wX_insert_203 post (qf_b (decide (x0 < j))) (qf_b (decide (s < j))) bits (nI (j % 2 ^ q)) (nI f) rc a1 a2 a3 a4 (upd a5 (64 * f + s % 2 ^ q) 1) a6 a7)
    (H2 : (hr = 0 ∨ s < j) → wX_insert_203 post (qf_b (decide (x0 < j))) (qf_b (decide (s < j))) bits (nI (j % 2 ^ q)) (nI f) rc a1 a2 a3 a4 a5 a6 a7) :
    wX_insert_146 post (nI f) (nI (64 * f)) (nI (x0 % 2 ^ q)) bits hr (nI (s % 2 ^ q)) (nI (j % 2 ^ q)) rc a1 a2 a3 a4 a5 a6 a7 := by
  have ms := qf_m64 hq s
  have mj := qf_m64 hq j
  have mx := qf_m64 hq x0
  have ejs : nI (j % 2 ^ q) = nI (s % 2 ^ q) ↔ j = s := by
    rw [nI_eq (by omega) (by omega)]
    exact ⟨fun e => (qf_inj0 hsj hjs e.symm).symm, fun e => by rw [e]⟩
  have ejx : nI (j % 2 ^ q) = nI (x0 % 2 ^ q) ↔ j = x0 := by
    rw [nI_eq (by omega) (by omega)]
    exact ⟨fun e => (qf_inj0 hxj hjx e.symm).symm, fun e => by rw [e]⟩
  have k191 : ∀ (z0 : Int32) (c5 : Nat → Int32), wX_insert_203 post (qf_b (decide (x0 < j))) z0 bits (nI (j % 2 ^ q)) (nI f) rc a1 a2 a3 a4 c5 a6 a7 → wX_insert_191 post (nI (x0 % 2 ^ q)) (nI (j % 2 ^ q)) z0 bits (nI (j % 2 ^ q)) (nI f) rc a1 a2 a3 a4 c5 a6 a7 := by
    intro z0 c5 h
    unfold wX_insert_191
    refine br_c (fun e => ?_) (fun e => ?_)
    · rw [decide_eq_false (show ¬ x0 < j by have := ejx.mp e; omega)] at h
      exact h
    · rw [decide_eq_true (show x0 < j by have : ¬ j = x0 := fun t => e (ejx.mpr t); omega)] at h
      exact h
  have k168 : ∀ (c5 : Nat → Int32), wX_insert_203 post (qf_b (decide (x0 < j))) (qf_b (decide (s < j))) bits (nI (j % 2 ^ q)) (nI f) rc a1 a2 a3 a4 c5 a6 a7 → wX_insert_168 post (nI f) (nI (x0 % 2 ^ q)) bits hr (nI (s % 2 ^ q)) (nI (j % 2 ^ q)) rc a1 a2 a3 a4 c5 a6 a7 := by
    intro c5 h
    unfold wX_insert_168
    refine br_c (fun e => ?_) (fun e => br_c (fun e2 => ?_) (fun e2 => ?_))
    · rw [decide_eq_false (show ¬ s < j by have := hno e; omega)] at h
      exact k191 _ _ h
    · rw [decide_eq_false (show ¬ s < j by have := ejs.mp e2; omega)] at h
      exact k191 _ _ h
    · rw [decide_eq_true (show s < j by have : ¬ j = s := fun t => e2 (ejs.mpr t); omega)] at h
      exact k191 _ _ h
  unfold wX_insert_146
  refine br_c (fun e => k168 _ (H2 (Or.inl e))) (fun e => br_c (fun e2 => ?_) (fun e2 => ?_))
  · rw [qf_cl hf ms]
    exact ⟨qf_in hf ms, nm_e (k168 _ (H1 e (ejs.mp e2)))⟩
  · exact k168 _ (H2 (Or.inr (by have : ¬ j = s := fun t => e2 (ejs.mpr t); omega)))
theorem qf_ins104 {post : St1 → Prop} {s x0 : Nat} {g : Nat → Nat} {bits hr x7 : Int32} (hf : f < 2) (hq : q < 7) (h1 : a1 f = nI q) (hR : qf_R (2 ^ q) g)
    (h5 : ∀ i, a5 (64 * f + (i + 1) % 2 ^ q) = qf_b (decide (2 ≤ g (i + 1) ∧ g (i + 1) = g i + 1)))
    (H : ∀ j, s ≤ j → (j = s ∨ (s < j ∧ j = x0 + g (j - 1))) → x0 + g j ≤ j + 1 → wX_insert_146 post (nI f) (nI (64 * f)) (nI (x0 % 2 ^ q)) bits hr x7 (nI (j % 2 ^ q)) rc a1 a2 a3 a4 a5 a6 a7) :
    ∀ d j, s ≤ j → (j = s ∨ (s < j ∧ j = x0 + g (j - 1))) → j + 1 = x0 + g j → g j + d = 2 ^ q → ∀ x9 : Int32, ¬ x9 = 0 →
      wX_insert_104 post (nI f) (nI (64 * f)) (nI (x0 % 2 ^ q)) bits hr x7 rc a1 a2 a3 a4 a5 a6 a7 (d + 1) (nI (j % 2 ^ q)) x9 := by
  have h0 := (qf_p2 hq).1
  intro d
  induction d with
  | zero =>
    intro j _ _ _ hd
    have := qf_gN hR h0 j
    omega
  | succ d ih =>
    intro j hsj hj ho hd x9 hx9
    refine br_f hx9 (And.intro (qf_in hf (qf_m64 hq j)) (br_c (fun _ => H j hsj hj (by omega)) (fun _ => qf_after hf h1 hq j (And.intro (qf_in hf (qf_m64 hq (j + 1))) ?_))))
    rw [qf_cl hf (qf_m64 hq (j + 1)), h5 j]
    have hs := hR.2.1 j
    have hj' : s < j + 1 ∧ j + 1 = x0 + g (j + 1 - 1) := by
      rw [Nat.add_sub_cancel]
      omega
    by_cases c : 2 ≤ g (j + 1) ∧ g (j + 1) = g j + 1
    · rw [decide_eq_true c]
      exact nm_r (show qf_b true = 1 from rfl) (ih (j + 1) (by omega) (Or.inr hj') (by omega) (by omega) 1 (by decide))
    · rw [decide_eq_false c]
      exact nm_r (show qf_b false = 0 from rfl) (br_t rfl (H (j + 1) (by omega) (Or.inr hj') (by omega)))
end
end
section
section
variable {rc : Int32} {a1 a2 a3 a4 a5 a6 a7 : Nat → Int32} {f q : Nat}
/-- the last step: push -/
theorem qf_ins203 {post : St1 → Prop} {M : (Nat → Bool) → Nat} {v x0 s j e : Nat} {g p : Nat → Nat} {c5 : Nat → Int32} (hf : f < 2) (hF : qf_F f q g p a1 a2 a3 a4 a5 a6) (hM : ∀ Q, M Q = qf_C (2 ^ q) g p Q) (hv : v < 256) (hx : v / 2 ^ (8 - q) = x0 % 2 ^ q) (hx0 : 1 ≤ g x0)
    (hI : qf_I (2 ^ q) x0 j e g) (hs : s < j ↔ (x0 < j ∧ j = x0 + g (j - 1)))
    (hc1 : ∀ k, k ≠ 64 * f + j % 2 ^ q → c5 k = a5 k) (hc2 : j < e → c5 (64 * f + j % 2 ^ q) = qf_b (decide (j + 1 = x0 + g j))) (hc3 : j = e → c5 (64 * f + j % 2 ^ q) = a5 (64 * f + j % 2 ^ q))
    (H : ∀ b2 b3 b4 b5 b6, qf_Keep f a2 a3 a4 a5 a6 b2 b3 b4 b5 b6 → qf_FM f q (fun Q => M Q + (if Q v = true then 1 else 0)) a1 b2 b3 b4 b5 b6 → post (rc, a1, b2, b3, b4, b5, b6, a7)) :
    wX_insert_203 post (qf_b (decide (x0 < j))) (qf_b (decide (s < j))) (nI (v % 2 ^ (8 - q))) (nI (j % 2 ^ q)) (nI f) rc a1 (upd a2 f (nI (qf_C (2 ^ q) g p (fun _ => true) + 1))) a3 (upd a4 (64 * f + x0 % 2 ^ q) 1) c5 a6 a7 := by
  have hF' := hF
  obtain ⟨q3, q6, h1, h2, hP, hA⟩ := hF'
  have h0 := (qf_p2 q6).1
  have hI' := hI
  obtain ⟨i1, i2, i3, i4, i5, ⟨z, z1, z2, z3⟩, i7, i8⟩ := hI'
  have hd : e - j < 2 ^ q := by omega
  have h4 : ∀ i, upd a4 (64 * f + x0 % 2 ^ q) 1 (64 * f + i % 2 ^ q) = 0 ↔ ¬ (qf_N (2 ^ (8 - q)) g p (i % 2 ^ q) ∨ i % 2 ^ q = x0 % 2 ^ q) := by
    intro i
    by_cases c : i % 2 ^ q = x0 % 2 ^ q
    · rw [c, pk_us]
      exact ⟨fun t => absurd t (by decide), fun t => absurd (Or.inr rfl) t⟩
    · rw [pk_un (by omega), hA.2.1 i]
      exact ⟨fun t u => u.elim t c, fun t u => t (Or.inl u)⟩
  have k8 : (nI (v % 2 ^ (8 - q))).toInt8.toInt32 = nI (v % 2 ^ (8 - q)) := by
    refine qf_b8 _ ?_
    have t1 := Nat.mod_lt v (qf_kpos q)
    have t2 : 2 ^ (8 - q) ≤ 2 ^ 5 := Nat.pow_le_pow_right (by decide) (by omega)
    omega
  have k3 : ∀ i, 1 ≤ g i → (a3 (64 * f + i % 2 ^ q)).toInt8.toInt32 = a3 (64 * f + i % 2 ^ q) := by
    intro i hi
    rw [hA.1 i hi]
    refine qf_b8 _ ?_
    have t1 := Nat.mod_lt (p i) (qf_kpos q)
    have t2 : 2 ^ (8 - q) ≤ 2 ^ 5 := Nat.pow_le_pow_right (by decide) (by omega)
    omega
  have k5 : ∀ i, vp_nar .boolean (a5 (64 * f + i % 2 ^ q)) = a5 (64 * f + i % 2 ^ q) := by
    intro i
    have t := hA.2.2.1 (i + 2 ^ q - 1)
    rw [show i + 2 ^ q - 1 + 1 = i + 2 ^ q by omega, Nat.add_mod_right] at t
    rw [t, qf_bn]
  unfold wX_insert_203
  refine qf_push (d := e - j) hf q6 h1 hd (fun r r1 r2 => ?_) (fun b3 b5 b6 hb => ?_)
  · constructor
    · rintro ⟨t4, _, t6⟩
      rw [hA.2.2.2, qf_b0, decide_eq_false_iff_not] at t6
      rw [h4] at t4
      rcases Nat.lt_or_ge r e with c | c
      · have := i5 r r1 c
        exact absurd (Or.inl (qf_ncase hP (show g r = 1 by omega))) t4
      · omega
    · intro t
      have t' : r = e := by omega
      subst t'
      have fr := (qf_freeI hP h0 hA r).mpr i4
      refine ⟨?_, ?_, fr.2.2⟩
      · rw [pk_un, fr.1]
        intro c
        have := qf_peq hP.1.1 (show r % 2 ^ q = x0 % 2 ^ q by omega)
        omega
      · by_cases c : j = r
        · have := hc3 c
          rw [c] at this
          rw [this, fr.2.1]
        · rw [hc1 _ (qf_ixne (show j < r by omega) (show r ≤ j + (r - j) by omega) hd), fr.2.1]
  · obtain ⟨p1, ⟨p2, p3, p4⟩, p5⟩ := hb
    rw [show j + (e - j) = e by omega] at p1 p5
    have out : ∀ k, (∀ r, j ≤ r → r ≤ e → k ≠ 64 * f + r % 2 ^ q) → b3 k = a3 k ∧ b5 k = a5 k ∧ b6 k = a6 k := by
      intro k hk
      have t := p1 k hk
      rw [hc1 k (hk j (Nat.le_refl _) i3)] at t
      exact t
    refine H _ _ _ _ _ ⟨fun k hk => pk_un hk, fun k hk => ?_⟩ (qf_ins_FM hF hM hI hv hx (p2.trans k8) (fun r r1 r2 => (p5 r r1 r2).1.trans (k3 r (i5 r r1 r2))) ?_ (fun c => ?_) (fun r r1 r2 => ?_) (p4.trans (qf_bn _)) (fun r r1 r2 => (p5 r r1 r2).2.2.trans (by decide)) (fun r r1 r2 => ?_) h4)
    · have t := out k (fun r _ _ => by have := qf_m64 q6 r; omega)
      have m := qf_m64 q6 x0
      rw [pk_un (show k ≠ 64 * f + x0 % 2 ^ q by omega)]
      exact ⟨t.1, rfl, t.2.1, t.2.2⟩
    · rw [p3, qf_bn]
      exact congrArg qf_b (decide_eq_decide.mpr hs)
    · rw [(p5 j (Nat.le_refl _) c).2.1, hc2 c, qf_bn]
    · rw [(p5 r (by omega) r2).2.1, hc1 _ (qf_ixne r1 (show r ≤ j + (e - j) by omega) hd), k5]
    · refine out _ (fun r' u1 u2 => ?_)
      exact qf_ixne (d := r - r') (by omega) (by omega) (by omega)
theorem qf_insert {post : St1 → Prop} {M : (Nat → Bool) → Nat} {v : Nat} (hf : f < 2) (h : qf_FM f q M a1 a2 a3 a4 a5 a6) (hv : v < 256) (hroom : M (fun _ => true) + 2 ≤ 2 ^ q)
    (H : ∀ b2 b3 b4 b5 b6, qf_Keep f a2 a3 a4 a5 a6 b2 b3 b4 b5 b6 → qf_FM f q (fun Q => M Q + (if Q v = true then 1 else 0)) a1 b2 b3 b4 b5 b6 → post (rc, a1, b2, b3, b4, b5, b6, a7)) :
    wpX_insert post (rc, a1, a2, a3, a4, a5, a6, a7) (nI f) (nI v) := by
  obtain ⟨g, p, hF, hM⟩ := h
  have hF' := hF
  obtain ⟨q3, q6, h1, h2, hP, hA⟩ := hF'
  have hpw := qf_p2 q6
  have h0 := hpw.1
  have hx := qf_vx q6 hv
  rw [hM] at hroom
  have hc : (nI (qf_C (2 ^ q) g p (fun _ => true)) + 1).toInt8.toInt32 = nI (qf_C (2 ^ q) g p (fun _ => true) + 1) := by
    rw [nI_1]
    exact qf_b8 _ (by omega)
  have k8 : (nI (v % 2 ^ (8 - q))).toInt8.toInt32 = nI (v % 2 ^ (8 - q)) := by
    refine qf_b8 _ ?_
    have t1 := Nat.mod_lt v (qf_kpos q)
    have t2 : 2 ^ (8 - q) ≤ 2 ^ 5 := Nat.pow_le_pow_right (by decide) (by omega)
    omega
  unfold wpX_insert
  dsimp only
  refine qf_baseW (qf_slotOf hf h1 q6 hv (qf_lowerOf hf h1 q6 hv ?_))
  rw [qf_cf hf, h2, hc]
  refine ⟨qf_if hf, qf_if hf, nm_e ?_⟩
  generalize hgx : v / 2 ^ (8 - q) + 2 ^ q = x0 at hx
  rw [hx]
  have m0 := qf_m64 q6 x0
  have hin := qf_in hf m0
  rw [qf_cl hf m0]
  refine qf_isFree hf m0 (fun e => br_f (by decide) ⟨hin, nm_e ⟨hin, nm_e ?_⟩⟩) (fun e => br_t rfl ⟨hin, nm_e ⟨hin, nm_e ?_⟩⟩)
  · have g0 := (qf_freeI hP h0 hA x0).mp e
    rw [k8]
    obtain ⟨z, z1, z2, z3⟩ := qf_second hP hroom (Nat.le_refl x0) (by omega) g0 (fun r r1 r2 => absurd r1 (by omega))
    have hI : qf_I (2 ^ q) x0 x0 x0 g := ⟨by omega, Nat.le_refl _, Nat.le_refl _, g0, fun r r1 r2 => absurd r1 (by omega), ⟨z, z1, z2, z3⟩, by omega, by omega⟩
    refine H _ _ _ _ _ ⟨fun k hk => pk_un hk, fun k hk => ?_⟩ (qf_ins_FM hF hM hI hv hx pk_us (fun r r1 r2 => absurd r1 (by omega)) ?_ (fun c => absurd c (by omega)) (fun r r1 r2 => absurd r1 (by omega)) ?_ (fun r r1 r2 => absurd r1 (by omega)) (fun r r1 r2 => ?_) (fun i => ?_))
    · rw [pk_un (show k ≠ 64 * f + x0 % 2 ^ q by omega), pk_un (show k ≠ 64 * f + x0 % 2 ^ q by omega)]
      exact ⟨rfl, rfl, rfl, rfl⟩
    · rw [e.2.1, decide_eq_false (by omega)]
      rfl
    · rw [e.2.2, decide_eq_false (by omega)]
      rfl
    · rw [pk_un (qf_ixne (d := r - x0) r1 (by omega) (by omega))]
      exact ⟨rfl, rfl, rfl⟩
    · by_cases c : i % 2 ^ q = x0 % 2 ^ q
      · rw [c, pk_us]
        exact ⟨fun t => absurd t (by decide), fun t => absurd (Or.inr rfl) t⟩
      · rw [pk_un (by omega), hA.2.1 i]
        exact ⟨fun t u => u.elim t c, fun t u => t (Or.inl u)⟩
  · have g0 : 1 ≤ g x0 := by
      rcases Nat.eq_zero_or_pos (g x0) with c | c
      · exact absurd ((qf_freeI hP h0 hA x0).mpr c) e
      · exact c
    refine qf_run (K := 2 ^ (8 - q)) hf q6 h1 hP (fun i => ?_) hA.2.2.1 hA.2.2.2 (by omega) g0 (fun s hw => ?_)
    · by_cases c : i % 2 ^ q = x0 % 2 ^ q
      · rw [c, pk_us]
        exact ⟨fun t => absurd t (by decide), fun t => absurd (Or.inr rfl) t⟩
      · rw [pk_un (by omega), hA.2.1 i]
        exact ⟨fun t u => u.elim t c, fun t u => t (Or.inl u)⟩
    · have fin : ∀ j, s ≤ j → (j = s ∨ (s < j ∧ j = x0 + g (j - 1))) → x0 + g j ≤ j + 1 → (a4 (64 * f + x0 % 2 ^ q) = 0 → j = s) →
          wX_insert_146 post (nI f) (nI (64 * f)) (nI (x0 % 2 ^ q)) (nI (v % 2 ^ (8 - q))) (a4 (64 * f + x0 % 2 ^ q)) (nI (s % 2 ^ q)) (nI (j % 2 ^ q)) rc a1 (upd a2 f (nI (qf_C (2 ^ q) g p (fun _ => true) + 1))) a3 (upd a4 (64 * f + x0 % 2 ^ q) 1) a5 a6 a7 := by
        intro j j1 j2 j3 j4
        have gj := qf_gN hP.1 h0 (j - 1)
        have hw' := hw
        obtain ⟨w1, w2, w3⟩ := hw'
        have hjx : j ≤ x0 + g (j - 1) := by
          rcases j2 with c | c
          · rcases w3 with d | d
            · omega
            · rw [c]
              omega
          · omega
        obtain ⟨e', e1, e2, e3, e4⟩ := qf_next hP.1 h0 j
        obtain ⟨z, z1, z2, z3⟩ := qf_second hP hroom e1 e2 e3 e4
        have hI : qf_I (2 ^ q) x0 j e' g := ⟨by omega, by omega, e1, e3, e4, ⟨z, z1, z2, z3⟩, hjx, j3⟩
        have hs : s < j ↔ (x0 < j ∧ j = x0 + g (j - 1)) := by
          rcases j2 with c | c
          · rw [c]
            constructor
            · intro t
              omega
            · intro t
              omega
          · omega
        refine qf_ins146 hf q6 j1 (by omega) (by omega) (by omega) j4 (fun u1 u2 => ?_) (fun u => ?_)
        · have nm : qf_N (2 ^ (8 - q)) g p (x0 % 2 ^ q) := Classical.byContradiction (fun c => u1 ((hA.2.1 x0).mpr c))
          obtain ⟨o1, o2⟩ := qf_W_own hP h0 hw nm
          subst u2
          refine qf_ins203 hf hF hM hv hx g0 hI hs (fun k hk => pk_un hk) (fun c => ?_) (fun c => ?_) H
          · rw [pk_us, decide_eq_true o1]
            rfl
          · rw [← c] at e3
            omega
        · refine qf_ins203 hf hF hM hv hx g0 hI hs (fun k hk => rfl) (fun c => ?_) (fun c => rfl) H
          obtain ⟨t, rfl⟩ : ∃ t, j = t + 1 := ⟨j - 1, by omega⟩
          rw [hA.2.2.1 t]
          rw [Nat.add_sub_cancel] at hjx hs gj
          have gp := e4 (t + 1) (Nat.le_refl _) c
          refine congrArg qf_b (decide_eq_decide.mpr ?_)
          by_cases sj : s < t + 1
          · have := hs.mp sj
            omega
          · have es : t + 1 = s := by omega
            have nn : ¬ qf_N (2 ^ (8 - q)) g p (x0 % 2 ^ q) := (hA.2.1 x0).mp (by
              rcases u with u | u
              · exact u
              · omega)
            have o3 : ¬ t + 1 + 1 = x0 + g (t + 1) := fun c2 => nn ⟨t + 1, gp, qf_own hP gp c2⟩
            rw [← es, Nat.add_sub_cancel] at w3
            omega
      by_cases hr : a4 (64 * f + x0 % 2 ^ q) = 0
      · exact ⟨1, br_t hr (fin s (Nat.le_refl _) (Or.inl rfl) hw.2.1 (fun _ => rfl))⟩
      · have nm : qf_N (2 ^ (8 - q)) g p (x0 % 2 ^ q) := Classical.byContradiction (fun c => hr ((hA.2.1 x0).mpr c))
        obtain ⟨o1, o2⟩ := qf_W_own hP h0 hw nm
        have gs := qf_gN hP.1 h0 s
        exact ⟨2 ^ q - g s + 1, qf_ins104 hf q6 h1 hP.1 hA.2.2.1 (fun j j1 j2 j3 => fin j j1 j2 j3 (fun c => absurd c hr)) (2 ^ q - g s) s (Nat.le_refl _) (Or.inl rfl) o1 (by omega) _ hr⟩
end
end
section
/-- c values stand in the array; T counts them -/
def qf_T (c : Nat) (a7 : Nat → Int32) (T : (Nat → Bool) → Nat) : Prop := ∃ r : Nat → Nat, (∀ k, k < c → a7 k = nI (r k) ∧ r k < 256) ∧ ∀ Q, T Q = qf_ct (fun k => Q (r k)) 0 c
theorem qf_T_0 {a7 : Nat → Int32} : qf_T 0 a7 (fun _ => 0) := ⟨fun _ => 0, fun k hk => absurd hk (by omega), fun _ => rfl⟩
theorem qf_T_congr {c : Nat} {a7 : Nat → Int32} {T T' : (Nat → Bool) → Nat} (h : qf_T c a7 T) (e : ∀ Q, T' Q = T Q) : qf_T c a7 T' := by
  obtain ⟨r, h1, h2⟩ := h
  exact ⟨r, h1, fun Q => (e Q).trans (h2 Q)⟩
theorem qf_T_add {c v : Nat} {a7 : Nat → Int32} {T : (Nat → Bool) → Nat} (h : qf_T c a7 T) (hv : v < 256) : qf_T (c + 1) (upd a7 c (nI v)) (fun Q => T Q + (if Q v = true then 1 else 0)) := by
  obtain ⟨r, h1, h2⟩ := h
  refine ⟨fun k => if k = c then v else r k, fun k hk => ?_, fun Q => ?_⟩
  · by_cases e : k = c
    · dsimp only
      rw [e, pk_us, if_pos rfl]
      exact ⟨rfl, hv⟩
    · dsimp only
      rw [pk_un e, if_neg e]
      exact h1 k (by omega)
  · have e1 : qf_ct (fun k => Q (if k = c then v else r k)) 0 c = qf_ct (fun k => Q (r k)) 0 c := qf_ct_congr (fun i _ i2 => by
      rw [if_neg (by omega)])
    show T Q + (if Q v = true then 1 else 0) = qf_ct (fun k => Q (if k = c then v else r k)) 0 (c + 1)
    rw [qf_ct_s, e1, h2 Q, Nat.zero_add, if_pos rfl]
section
variable {rc : Int32} {a1 a2 a3 a4 a5 a6 : Nat → Int32} {f q : Nat} {g p : Nat → Nat}
theorem qf_rs95 {post : Int32 → St1 → Prop} {J : Int32 → Int32 → Int32 → (Nat → Int32) → (Nat → Int32) → (Nat → Int32) → (Nat → Int32) → (Nat → Int32) → (Nat → Int32) → (Nat → Int32) → Prop} {a7 : Nat → Int32} {i c : Nat} {x6 : Int32} (hf : f < 2) (hq : q < 7) (h1 : a1 f = nI q) (h3 : a3 (64 * f + i % 2 ^ q) = nI (p i % 2 ^ (8 - q))) (hp : p i < 256) (hx6 : x6 = nI (p i / 2 ^ (8 - q))) (hc : c < 64)
    (H : J (nI ((i + 1) % 2 ^ q)) x6 (nI (c + 1)) a1 a2 a3 a4 a5 a6 (upd a7 c (nI (p i)))) :
    wX_readStretch_95 post J (nI f) (nI (64 * f)) (nI (i % 2 ^ q)) x6 (nI c) a1 a2 a3 a4 a5 a6 a7 := by
  unfold wX_readStretch_95
  rw [qf_cf hf, h1, qf_cl hf (qf_m64 hq i), h3, nI_clamp (show c < 2 ^ 31 by omega)]
  refine ⟨qf_if hf, qf_in hf (qf_m64 hq i), vp_in_nI hc (by decide), nm_r ?_ (nm_r (nI_1 c) (qf_after hf h1 hq i H))⟩
  rw [hx6, qf_cb q hq (p i) hp]
theorem qf_rs70 {post : Int32 → St1 → Prop} {J : Int32 → Int32 → Int32 → (Nat → Int32) → (Nat → Int32) → (Nat → Int32) → (Nat → Int32) → (Nat → Int32) → (Nat → Int32) → (Nat → Int32) → Prop} {a7 : Nat → Int32} {K w w' : Nat} {x5 : Int32} (hf : f < 2) (hq : q < 7) (h1 : a1 f = nI q)
    (h4 : ∀ i, a4 (64 * f + i % 2 ^ q) = 0 ↔ ¬ qf_N K g p (i % 2 ^ q)) (hg : ∀ y, w < y → y < w' → ¬ qf_N K g p (y % 2 ^ q)) (hn : qf_N K g p (w' % 2 ^ q))
    (H : wX_readStretch_95 post J (nI f) (nI (64 * f)) x5 (nI (w' % 2 ^ q)) rc a1 a2 a3 a4 a5 a6 a7) :
    ∀ d y, y + d = w' → w < y → wX_readStretch_70 post J (nI f) (nI (64 * f)) x5 rc a1 a2 a3 a4 a5 a6 a7 (d + 1) (nI (y % 2 ^ q)) := by
  intro d
  induction d with
  | zero =>
    intro y hy hw
    refine And.intro (qf_in hf (qf_m64 hq y)) ?_
    rw [qf_cl hf (qf_m64 hq y)]
    rw [show y = w' by omega]
    exact br_f (fun e => (h4 w').mp e hn) H
  | succ d ih =>
    intro y hy hw
    refine And.intro (qf_in hf (qf_m64 hq y)) ?_
    rw [qf_cl hf (qf_m64 hq y)]
    exact br_t ((h4 y).mpr (hg y hw (by omega))) (qf_after hf h1 hq y (ih (y + 1) (by omega) (by omega)))
theorem qf_rs18 {post : Int32 → St1 → Prop} {a e c0 : Nat} {T : (Nat → Bool) → Nat} (hf : f < 2) (hq : q < 7) (h1 : a1 f = nI q) (hP : qf_P (2 ^ q) (2 ^ (8 - q)) g p) (hA : qf_A (2 ^ q) (2 ^ (8 - q)) (64 * f) g p a3 a4 a5 a6)
    (ha : 2 ^ q ≤ a) (hg : g a ≤ 1) (he : g e = 0) (ho : ∀ r, a ≤ r → r < e → 1 ≤ g r) (hc : c0 + (e - a) ≤ 64)
    (H : ∀ b7, qf_T (c0 + (e - a)) b7 (fun Q => T Q + qf_ct (fun i => Q (p i)) a (e - a)) → post (nI (e % 2 ^ q)) (nI (c0 + (e - a)), a1, a2, a3, a4, a5, a6, b7)) :
    ∀ d i a7 x6, a ≤ i → i + d = e → (i = a ∨ x6 = nI (p (i - 1) / 2 ^ (8 - q))) → qf_T (c0 + (i - a)) a7 (fun Q => T Q + qf_ct (fun i => Q (p i)) a (i - a)) →
      wX_readStretch_18 post (nI f) (nI (64 * f)) (d + 1) (nI (i % 2 ^ q)) x6 (nI (c0 + (i - a))) a1 a2 a3 a4 a5 a6 a7 := by
  have h0 := (qf_p2 hq).1
  intro d
  induction d with
  | zero =>
    intro i a7 x6 hi hd _ hT
    have hie : i = e := by omega
    subst hie
    unfold wX_readStretch_18
    refine qf_isFree hf (qf_m64 hq i) (fun _ => br_f (by decide) (H a7 hT)) (fun c => absurd ((qf_freeI hP h0 hA i).mpr he) c)
  | succ d ih =>
    intro i a7 x6 hi hd hx hT
    have gi := ho i hi (by omega)
    unfold wX_readStretch_18
    refine qf_isFree hf (qf_m64 hq i) (fun c => absurd ((qf_freeI hP h0 hA i).mp c) (by omega)) (fun _ => br_t rfl (And.intro (qf_in hf (qf_m64 hq i)) ?_))
    rw [qf_cl hf (qf_m64 hq i), hA.2.2.2 i]
    have nxt : ∀ y6, y6 = nI (p i / 2 ^ (8 - q)) → wX_readStretch_95 post (wX_readStretch_18 post (nI f) (nI (64 * f)) (d + 1)) (nI f) (nI (64 * f)) (nI (i % 2 ^ q)) y6 (nI (c0 + (i - a))) a1 a2 a3 a4 a5 a6 a7 := by
      intro y6 hy
      refine qf_rs95 hf hq h1 (hA.1 i gi) (hP.2.2 i gi).1 hy (by omega) ?_
      have t := ih (i + 1) (upd a7 (c0 + (i - a)) (nI (p i))) y6 (by omega) (by omega) (Or.inr (by rw [Nat.add_sub_cancel]; exact hy)) (by
        rw [show c0 + (i + 1 - a) = c0 + (i - a) + 1 by omega]
        refine qf_T_congr (qf_T_add hT (hP.2.2 i gi).1) (fun Q => ?_)
        rw [show i + 1 - a = (i - a) + 1 by omega, qf_ct_s, show a + (i - a) = i by omega, Nat.add_assoc])
      rw [show c0 + (i + 1 - a) = c0 + (i - a) + 1 by omega] at t
      exact t
    by_cases c1 : 2 ≤ g i
    · rw [decide_eq_true c1]
      have hia : i ≠ a := by
        intro t
        rw [t] at c1
        omega
      obtain ⟨t, rfl⟩ : ∃ t, i = t + 1 := ⟨i - 1, by omega⟩
      have gt := ho t (by omega) (by omega)
      have hxt : x6 = nI (p t / 2 ^ (8 - q)) := by
        rcases hx with c | c
        · omega
        · rw [Nat.add_sub_cancel] at c
          exact c
      have l1 := qf_gN hP.1 h0 t
      have l2 := qf_gN hP.1 h0 (t + 1)
      have l3 := hP.1.2.1 t
      refine br_f (by decide) (And.intro (qf_in hf (qf_m64 hq (t + 1))) ?_)
      rw [hA.2.2.1 t]
      by_cases c2 : 2 ≤ g (t + 1) ∧ g (t + 1) = g t + 1
      · rw [decide_eq_true c2]
        refine br_f (by decide) (nxt x6 ?_)
        rw [hxt, (hP.2.2 t gt).2, (hP.2.2 (t + 1) gi).2, show t + 1 + 1 + 2 ^ q - g (t + 1) = t + 1 + 2 ^ q - g t by omega]
      · rw [decide_eq_false c2]
        refine br_t (by decide) ?_
        rw [hxt, qf_own hP gt (show t + 1 = (t + 1 - g t) + g t by omega)]
        refine qf_after hf h1 hq (t + 1 - g t) ⟨(t + 1 + 1 - g (t + 1)) - (t + 1 - g t + 1) + 1, ?_⟩
        have ow := qf_own hP gi (show t + 1 + 1 = (t + 1 + 1 - g (t + 1)) + g (t + 1) by omega)
        refine qf_rs70 (K := 2 ^ (8 - q)) (w := t + 1 - g t) (w' := t + 1 + 1 - g (t + 1)) (g := g) (p := p) hf hq h1 hA.2.1 (fun y y1 y2 => qf_gap hP h0 (i := t) (by omega) (by omega)) ⟨t + 1, gi, ow⟩ ?_ _ _ (by omega) (by omega)
        exact nxt _ (by rw [ow])
    · rw [decide_eq_false c1]
      exact br_t rfl (nxt _ (by rw [qf_own hP gi (show i + 1 = i + g i by omega)]))
theorem qf_readStretch {post : Int32 → St1 → Prop} {a e c0 : Nat} {T : (Nat → Bool) → Nat} {a7 : Nat → Int32} (hf : f < 2) (hq : q < 7) (h1 : a1 f = nI q) (hP : qf_P (2 ^ q) (2 ^ (8 - q)) g p) (hA : qf_A (2 ^ q) (2 ^ (8 - q)) (64 * f) g p a3 a4 a5 a6)
    (ha : 2 ^ q ≤ a) (hae : a ≤ e) (hg : g a ≤ 1) (he : g e = 0) (ho : ∀ r, a ≤ r → r < e → 1 ≤ g r) (hc : c0 + (e - a) ≤ 64) (hT : qf_T c0 a7 T)
    (H : ∀ b7, qf_T (c0 + (e - a)) b7 (fun Q => T Q + qf_ct (fun i => Q (p i)) a (e - a)) → post (nI (e % 2 ^ q)) (nI (c0 + (e - a)), a1, a2, a3, a4, a5, a6, b7)) :
    wpX_readStretch post (rc, a1, a2, a3, a4, a5, a6, a7) (nI f) (nI (a % 2 ^ q)) (nI c0) := by
  unfold wpX_readStretch
  dsimp only
  refine qf_baseW ⟨e - a + 1, ?_⟩
  have t := qf_rs18 (a2 := a2) hf hq h1 hP hA ha hg he ho hc H (e - a) a a7 (nI (a % 2 ^ q)) (Nat.le_refl _) (by omega) (Or.inl rfl) (by
    rw [Nat.sub_self]
    exact hT)
  rw [Nat.sub_self] at t
  exact t
theorem qf_ra29 {post : St1 → Prop} {z : Nat} (hf : f < 2) (hq : q < 7) (h1 : a1 f = nI q) (hP : qf_P (2 ^ q) (2 ^ (8 - q)) g p) (hA : qf_A (2 ^ q) (2 ^ (8 - q)) (64 * f) g p a3 a4 a5 a6)
    (hz : 2 ^ q ≤ z) (gz : g z = 0)
    (H : ∀ b7, qf_T (qf_C (2 ^ q) g p (fun _ => true)) b7 (fun Q => qf_C (2 ^ q) g p Q) → post (nI (qf_C (2 ^ q) g p (fun _ => true)), a1, a2, a3, a4, a5, a6, b7)) :
    ∀ n i a7, z < i → i ≤ z + 2 ^ q → z + 2 ^ q < i + n → (g (i - 1) = 0 ∨ g i = 0) →
      qf_T (qf_ct (fun i => decide (1 ≤ g i) && true) (z + 1) (i - (z + 1))) a7 (fun Q => qf_ct (fun i => decide (1 ≤ g i) && Q (p i)) (z + 1) (i - (z + 1))) →
      wX_readAll_29 post (nI f) (nI (z % 2 ^ q)) n (nI (i % 2 ^ q)) (nI (qf_ct (fun i => decide (1 ≤ g i) && true) (z + 1) (i - (z + 1)))) a1 a2 a3 a4 a5 a6 a7 := by
  have h0 := (qf_p2 hq).1
  have h64 := (qf_p2 hq).2
  intro n
  induction n with
  | zero =>
    intro i a7 _ _ h _ _
    omega
  | succ n ih =>
    intro i a7 hi1 hi2 hn hfr hT
    have mi := qf_m64 hq i
    have mz := qf_m64 hq z
    refine pk_eq (i % 2 ^ q) (z % 2 ^ q) (fun e => ?_) (fun e => ?_)
    · have e2 : i = z + 2 ^ q := qf_inj0 (N := 2 ^ q) hi2 (by omega) (by rw [e, Nat.add_mod_right])
      have all : ∀ Q, qf_ct (fun i => decide (1 ≤ g i) && Q (p i)) (z + 1) (i - (z + 1)) = qf_C (2 ^ q) g p Q := by
        intro Q
        rw [qf_C_per hP Q z, show 2 ^ q = 1 + (i - (z + 1)) by omega, qf_ct_add, qf_ct_1, gz]
        exact (Nat.zero_add _).symm
      have a0 := all (fun _ => true)
      rw [a0] at hT ⊢
      exact H a7 (qf_T_congr hT (fun Q => (all Q).symm))
    · have hlt : i < z + 2 ^ q := by
        rcases Nat.lt_or_ge i (z + 2 ^ q) with c | c
        · exact c
        · exact absurd (by rw [show i = z + 2 ^ q by omega, Nat.add_mod_right]) e
      refine qf_isFree hf mi (fun c => br_f (by decide) ?_) (fun c => br_t rfl ?_)
      · have gi := (qf_freeI hP h0 hA i).mp c
        have s : ∀ Q : Nat → Bool, qf_ct (fun i => decide (1 ≤ g i) && Q (p i)) (z + 1) (i + 1 - (z + 1)) = qf_ct (fun i => decide (1 ≤ g i) && Q (p i)) (z + 1) (i - (z + 1)) := by
          intro Q
          rw [show i + 1 - (z + 1) = (i - (z + 1)) + 1 by omega, qf_ct_s, show z + 1 + (i - (z + 1)) = i by omega, gi]
          rfl
        have s0 := s (fun _ => true)
        have t := ih (i + 1) a7 (by omega) (by omega) (by omega) (Or.inl (by rw [Nat.add_sub_cancel]; exact gi)) (by
          rw [s0]
          exact qf_T_congr hT s)
        rw [s0] at t
        exact qf_after hf h1 hq i t
      · have gi : 1 ≤ g i := by
          rcases Nat.eq_zero_or_pos (g i) with d | d
          · exact absurd ((qf_freeI hP h0 hA i).mpr d) c
          · exact d
        obtain ⟨e', e1, e2, e3, e4⟩ := qf_next hP.1 h0 i
        have ez : e' ≤ z + 2 ^ q := by
          rcases Nat.lt_or_ge (z + 2 ^ q) e' with d | d
          · have d2 := e4 (z + 2 ^ q) (by omega) d
            rw [hP.1.1, gz] at d2
            omega
          · exact d
        have eni : e' ≠ i := by
          intro d
          rw [d] at e3
          omega
        have s : ∀ Q : Nat → Bool, qf_ct (fun i => decide (1 ≤ g i) && Q (p i)) (z + 1) (e' - (z + 1)) = qf_ct (fun i => decide (1 ≤ g i) && Q (p i)) (z + 1) (i - (z + 1)) + qf_ct (fun i => Q (p i)) i (e' - i) := by
          intro Q
          rw [show e' - (z + 1) = (i - (z + 1)) + (e' - i) by omega, qf_ct_add, show z + 1 + (i - (z + 1)) = i by omega]
          refine congrArg _ (qf_ct_congr (fun k k1 k2 => ?_))
          rw [decide_eq_true (e4 k k1 (by omega)), Bool.true_and]
        have s0 := s (fun _ => true)
        have s1 : qf_ct (fun i => (fun _ => true) (p i)) i (e' - i) = e' - i := qf_ct_full (fun _ _ _ => rfl)
        rw [s1] at s0
        have bd := qf_ct_le (fun i => decide (1 ≤ g i) && true) (z + 1) (i - (z + 1))
        refine qf_readStretch hf hq h1 hP hA (by omega) e1 ?_ e3 e4 (by omega) hT (fun b7 hb => ?_)
        · rcases hfr with d | d
          · have l := hP.1.2.1 (i - 1)
            rw [show i - 1 + 1 = i by omega] at l
            omega
          · omega
        · have t := ih e' b7 (by omega) ez (by omega) (Or.inr e3) (by
            rw [s0]
            exact qf_T_congr hb s)
          rw [s0] at t
          exact t
theorem qf_readAll {post : St1 → Prop} {a7 : Nat → Int32} {M : (Nat → Bool) → Nat} (hf : f < 2) (h : qf_FM f q M a1 a2 a3 a4 a5 a6)
    (H : ∀ b7, qf_T (M (fun _ => true)) b7 M → post (nI (M (fun _ => true)), a1, a2, a3, a4, a5, a6, b7)) :
    wpX_readAll post (rc, a1, a2, a3, a4, a5, a6, a7) (nI f) := by
  obtain ⟨g, p, ⟨q3, hq, h1, h2, hP, hA⟩, hM⟩ := h
  have h0 := (qf_p2 hq).1
  have h64 := (qf_p2 hq).2
  obtain ⟨z, z1, z2, z3, z4⟩ := qf_next hP.1 h0 0
  have main : ∀ d k, k + d = z → wX_readAll_7 post (nI f) 0 a1 a2 a3 a4 a5 a6 a7 (d + 1) (nI k) := by
    intro d
    induction d with
    | zero =>
      intro k hk
      have hkz : k = z := by omega
      subst hkz
      have km : k % 2 ^ q = k := Nat.mod_eq_of_lt (by omega)
      have fr := (qf_freeI hP h0 hA k).mpr z3
      rw [km] at fr
      unfold wX_readAll_7
      refine qf_isFree hf (by omega) (fun _ => br_f (by decide) ?_) (fun c => absurd fr c)
      have kz : (k + 2 ^ q) % 2 ^ q = k := by rw [Nat.add_mod_right, km]
      have gz : g (k + 2 ^ q) = 0 := by rw [hP.1.1, z3]
      have t := qf_ra29 (a2 := a2) (post := post) (z := k + 2 ^ q) hf hq h1 hP hA (by omega) gz (fun b7 hb => ?_) (2 ^ q) (k + 2 ^ q + 1) a7 (by omega) (by omega) (by omega) (Or.inl (by rw [Nat.add_sub_cancel]; exact gz)) (by
        rw [Nat.sub_self]
        exact qf_T_0)
      · rw [Nat.sub_self] at t
        have af := qf_after (rc := 0) (a2 := a2) (a3 := a3) (a4 := a4) (a5 := a5) (a6 := a6) (a7 := a7) (post := fun r_3 => (∃ fu29 : Nat, wX_readAll_29 post (nI f) (nI ((k + 2 ^ q) % 2 ^ q)) fu29 r_3 0 a1 a2 a3 a4 a5 a6 a7)) hf h1 hq (k + 2 ^ q) ⟨2 ^ q, t⟩
        rw [kz] at af
        exact af
      · have e := hM (fun _ => true)
        rw [← e] at hb ⊢
        exact H b7 (qf_T_congr hb (fun Q => hM Q))
    | succ d ih =>
      intro k hk
      have km : k % 2 ^ q = k := Nat.mod_eq_of_lt (by omega)
      have fr := fun c => (qf_freeI hP h0 hA k).mp c
      rw [km] at fr
      unfold wX_readAll_7
      refine qf_isFree hf (by omega) (fun c => ?_) (fun c => br_t rfl (nm_r (nI_1 k) (ih (k + 1) (by omega))))
      have := fr c
      have := z4 k (by omega) (by omega)
      omega
  unfold wpX_readAll
  dsimp only
  exact ⟨z + 1, main z 0 (by omega)⟩
end
end
section
theorem qf_FM_congr {f q : Nat} {M M' : (Nat → Bool) → Nat} {a1 a2 a3 a4 a5 a6 : Nat → Int32} (h : qf_FM f q M a1 a2 a3 a4 a5 a6) (e : ∀ Q, M' Q = M Q) : qf_FM f q M' a1 a2 a3 a4 a5 a6 := by
  obtain ⟨g, p, hF, hM⟩ := h
  exact ⟨g, p, hF, fun Q => (e Q).trans (hM Q)⟩
theorem qf_C_lt {N K : Nat} {g p : Nat → Nat} (hP : qf_P N K g p) (hN : 0 < N) : qf_C N g p (fun _ => true) + 1 ≤ N := by
  obtain ⟨z, hz⟩ := hP.1.2.2
  rw [qf_C_per hP _ z]
  have e := qf_ct_add (fun i => decide (1 ≤ g i) && true) z 1 (N - 1)
  rw [show 1 + (N - 1) = N by omega, qf_ct_1, hz] at e
  have l := qf_ct_le (fun i => decide (1 ≤ g i) && true) (z + 1) (N - 1)
  have e0 : (if (decide (1 ≤ 0) && true) = true then 1 else 0) = 0 := rfl
  rw [e0] at e
  show qf_ct (fun i => decide (1 ≤ g i) && true) z N + 1 ≤ N
  omega
theorem qf_FM_lt {f q : Nat} {M : (Nat → Bool) → Nat} {a1 a2 a3 a4 a5 a6 : Nat → Int32} (h : qf_FM f q M a1 a2 a3 a4 a5 a6) : M (fun _ => true) + 1 ≤ 2 ^ q := by
  obtain ⟨g, p, ⟨q3, q6, h1, h2, hP, hA⟩, hM⟩ := h
  rw [hM]
  exact qf_C_lt hP (qf_p2 q6).1
theorem qf_FM_held {f q : Nat} {M : (Nat → Bool) → Nat} {a1 a2 a3 a4 a5 a6 : Nat → Int32} (h : qf_FM f q M a1 a2 a3 a4 a5 a6) : a2 f = nI (M (fun _ => true)) ∧ a1 f = nI q ∧ 3 ≤ q ∧ q < 7 := by
  obtain ⟨g, p, ⟨q3, q6, h1, h2, hP, hA⟩, hM⟩ := h
  rw [hM]
  exact ⟨h2, h1, q3, q6⟩
theorem qf_FM0 {f q : Nat} {a1 a2 a3 a4 a5 a6 : Nat → Int32} (q3 : 3 ≤ q) (q6 : q < 7) (h1 : a1 f = nI q) (h2 : a2 f = 0) (hz : ∀ k, k < 64 → a4 (64 * f + k) = 0 ∧ a5 (64 * f + k) = 0 ∧ a6 (64 * f + k) = 0) : qf_FM f q (fun _ => 0) a1 a2 a3 a4 a5 a6 := by
  have c0 : ∀ Q, qf_C (2 ^ q) (fun _ => 0) (fun _ => 0) Q = 0 := fun Q => qf_ct_zero (fun _ _ _ => rfl)
  have z := fun i => hz (i % 2 ^ q) (qf_m64 q6 i)
  refine ⟨fun _ => 0, fun _ => 0, ⟨q3, q6, h1, ?_, ⟨⟨fun _ => rfl, fun _ => Nat.zero_le _, ⟨0, rfl⟩⟩, fun _ => rfl, fun i hi => absurd hi (Nat.not_succ_le_zero 0)⟩, ⟨fun i hi => absurd hi (Nat.not_succ_le_zero 0), fun i => ?_, fun i => ?_, fun i => ?_⟩⟩, fun Q => (c0 Q).symm⟩
  · rw [c0, h2]
    rfl
  · refine ⟨fun _ => ?_, fun _ => (z i).1⟩
    rintro ⟨y, hy, _⟩
    exact absurd hy (Nat.not_succ_le_zero 0)
  · exact (z (i + 1)).2.1
  · exact (z i).2.2
section
variable {rc : Int32} {a1 a2 a3 a4 a5 a6 a7 : Nat → Int32} {f q : Nat}
theorem qf_empty {post : St1 → Prop} (hf : f < 2)
    (H : ∀ b4 b5 b6 : Nat → Int32, (∀ k, k < 64 → b4 (64 * f + k) = 0 ∧ b5 (64 * f + k) = 0 ∧ b6 (64 * f + k) = 0) → (∀ k, (k < 64 * f ∨ 64 * f + 64 ≤ k) → b4 k = a4 k ∧ b5 k = a5 k ∧ b6 k = a6 k) → post (rc, a1, upd a2 f 0, a3, b4, b5, b6, a7)) :
    wpX_empty post (rc, a1, a2, a3, a4, a5, a6, a7) (nI f) := by
  have main : ∀ (d s : Nat) (b4 b5 b6 : Nat → Int32), s + d = 64 → (∀ k, k < s → b4 (64 * f + k) = 0 ∧ b5 (64 * f + k) = 0 ∧ b6 (64 * f + k) = 0) → (∀ k, (k < 64 * f ∨ 64 * f + 64 ≤ k) → b4 k = a4 k ∧ b5 k = a5 k ∧ b6 k = a6 k) →
      wX_empty_9 post (nI f) (d + 1) (nI s) rc a1 (upd a2 f 0) a3 b4 b5 b6 a7 := by
    intro d
    induction d with
    | zero =>
      intro s b4 b5 b6 hs hz hk
      rw [show s = 64 by omega] at hz ⊢
      exact br_t (by decide) (H b4 b5 b6 hz hk)
    | succ d ih =>
      intro s b4 b5 b6 hs hz hk
      refine pk_le 64 s (fun c => absurd c (by omega)) (fun c => qf_free hf c (nm_r (nI_1 s) (ih (s + 1) _ _ _ (by omega) (fun k hk2 => ?_) (fun k hk2 => ?_))))
      · by_cases e : k = s
        · rw [e, pk_us, pk_us, pk_us]
          exact ⟨rfl, rfl, rfl⟩
        · rw [pk_un (by omega), pk_un (by omega), pk_un (by omega)]
          exact hz k (by omega)
      · rw [pk_un (by omega), pk_un (by omega), pk_un (by omega)]
        exact hk k hk2
  unfold wpX_empty
  dsimp only
  rw [qf_cf hf]
  exact ⟨qf_if hf, nm_e ⟨65, main 64 0 a4 a5 a6 (by omega) (fun k hk => absurd hk (by omega)) (fun k _ => ⟨rfl, rfl, rfl⟩)⟩⟩
theorem qf_rz20 {post : St1 → Prop} {c : Nat} {r : Nat → Nat} {M0 : (Nat → Bool) → Nat} (hf : f < 2) (hc : c ≤ 64) (hr : ∀ k, k < c → a7 k = nI (r k) ∧ r k < 256) (room : M0 (fun _ => true) + c + 1 ≤ 2 ^ q)
    (H : ∀ b2 b3 b4 b5 b6, qf_Keep f a2 a3 a4 a5 a6 b2 b3 b4 b5 b6 → qf_FM f q (fun Q => M0 Q + qf_ct (fun k => Q (r k)) 0 c) a1 b2 b3 b4 b5 b6 → post (nI c, a1, b2, b3, b4, b5, b6, a7)) :
    ∀ (d k : Nat) (b2 b3 b4 b5 b6 : Nat → Int32), k + d = c → qf_Keep f a2 a3 a4 a5 a6 b2 b3 b4 b5 b6 → qf_FM f q (fun Q => M0 Q + qf_ct (fun k => Q (r k)) 0 k) a1 b2 b3 b4 b5 b6 →
      wX_resize_20 post (nI f) (d + 1) (nI k) (nI c) a1 b2 b3 b4 b5 b6 a7 := by
  intro d
  induction d with
  | zero =>
    intro k b2 b3 b4 b5 b6 hk hK hF
    rw [show k = c by omega] at hF ⊢
    exact pk_le c c (fun _ => H _ _ _ _ _ hK hF) (fun z => absurd z (by omega))
  | succ d ih =>
    intro k b2 b3 b4 b5 b6 hk hK hF
    refine pk_le c k (fun z => absurd z (by omega)) (fun z => And.intro (pk_in k 64 (by omega)) ?_)
    rw [nI_clamp (show k < 2 ^ 31 by omega), (hr k z).1]
    have ct := qf_ct_full (P := fun k => (fun _ => true) (r k)) (lo := 0) (n := k) (fun _ _ _ => rfl)
    refine qf_insert hf hF (hr k z).2 (by rw [ct]; omega) (fun c2 c3 c4 c5 c6 hK2 hF2 => nm_r (nI_1 k) (ih (k + 1) c2 c3 c4 c5 c6 (by omega) (qf_Keep_t hK hK2) (qf_FM_congr hF2 (fun Q => ?_))))
    rw [qf_ct_s, Nat.zero_add, Nat.add_assoc]
theorem qf_resize {post : St1 → Prop} {M : (Nat → Bool) → Nat} {q' : Nat} (hf : f < 2) (h : qf_FM f q M a1 a2 a3 a4 a5 a6) (q3 : 3 ≤ q') (q6 : q' < 7) (room : M (fun _ => true) + 1 ≤ 2 ^ q')
    (H : ∀ c b2 b3 b4 b5 b6 b7, qf_Keep f a2 a3 a4 a5 a6 b2 b3 b4 b5 b6 → qf_FM f q' M (upd a1 f (nI q')) b2 b3 b4 b5 b6 → post (c, upd a1 f (nI q'), b2, b3, b4, b5, b6, b7)) :
    wpX_resize post (rc, a1, a2, a3, a4, a5, a6, a7) (nI f) (nI q') := by
  have h64 := (qf_p2 q6).2
  unfold wpX_resize
  dsimp only
  refine qf_readAll hf h (fun b7 hT => ?_)
  obtain ⟨r, hr, hr2⟩ := hT
  refine qf_empty hf (fun b4 b5 b6 hz hk => ?_)
  dsimp only
  rw [qf_cf hf, qf_b8 q' (by omega)]
  refine ⟨qf_if hf, nm_e ⟨M (fun _ => true) + 1, ?_⟩⟩
  have hK : qf_Keep f a2 a3 a4 a5 a6 (upd a2 f 0) a3 b4 b5 b6 := ⟨fun k hk2 => pk_un hk2, fun k hk2 => ⟨rfl, hk k hk2⟩⟩
  have hF : qf_FM f q' (fun _ => 0) (upd a1 f (nI q')) (upd a2 f 0) a3 b4 b5 b6 := qf_FM0 q3 q6 pk_us pk_us hz
  refine qf_rz20 (M0 := fun _ => 0) hf (by omega) hr (by omega) (fun c2 c3 c4 c5 c6 hK2 hF2 => ?_) _ 0 _ _ _ _ _ (by omega) qf_Keep_r (qf_FM_congr hF (fun Q => rfl))
  refine H _ _ _ _ _ _ _ (qf_Keep_t hK hK2) (qf_FM_congr hF2 (fun Q => ?_))
  rw [hr2 Q, Nat.zero_add]
end
end
section
/-! a stretch between the free positions z and e is emptied -/
def qf_g0 (N z e : Nat) (g : Nat → Nat) (i : Nat) : Nat := if qf_rep N z i < e then 0 else g i
theorem qf_g0_lo {N z e i : Nat} {g : Nat → Nat} (h : qf_rep N z i < e) : qf_g0 N z e g i = 0 := if_pos h
theorem qf_g0_hi {N z e i : Nat} {g : Nat → Nat} (h : e ≤ qf_rep N z i) : qf_g0 N z e g i = g i := if_neg (by omega)
theorem qf_g0_le {N z e i : Nat} {g : Nat → Nat} (h : 1 ≤ qf_g0 N z e g i) : qf_g0 N z e g i = g i ∧ e ≤ qf_rep N z i := by
  rcases Nat.lt_or_ge (qf_rep N z i) e with c | c
  · rw [qf_g0_lo c] at h
    omega
  · exact ⟨qf_g0_hi c, c⟩
theorem qf_g0_R {N z e : Nat} {g : Nat → Nat} (hR : qf_R N g) (hN : 0 < N) (hz : z < e) (he : e ≤ z + N) (ge : g e = 0) : qf_R N (qf_g0 N z e g) := by
  refine ⟨fun i => ?_, fun i => ?_, ⟨z, qf_g0_lo (by rw [qf_rep_id hN (Nat.le_refl _) (by omega)]; exact hz)⟩⟩
  · unfold qf_g0
    rw [qf_rep_eq hN z (Nat.add_mod_right i N), hR.1]
  · have r1 := qf_rep_lo N z i
    have r2 := qf_rep_hi hN z i
    have rm := qf_rep_mod hN z i
    have r3 : qf_rep N z (i + 1) = qf_rep N z (qf_rep N z i + 1) := qf_rep_eq hN z (qf_mod1 rm.symm)
    have s0 := hR.2.1 i
    rcases Nat.lt_or_ge (qf_rep N z (i + 1)) e with c | c
    · rw [qf_g0_lo c]
      omega
    · rw [qf_g0_hi c]
      rcases Nat.lt_or_ge (qf_rep N z i) e with d | d
      · rcases Nat.lt_or_ge (qf_rep N z i + 1) (z + N) with d2 | d2
        · rw [qf_rep_id hN (show z ≤ qf_rep N z i + 1 by omega) d2] at r3
          have : g (i + 1) = g e := qf_peq hR.1 (by rw [show e = qf_rep N z i + 1 by omega]; exact (qf_mod1 rm).symm)
          omega
        · have d3 : qf_rep N z i + 1 = z + N := by omega
          rw [d3, qf_rep_eq hN z (Nat.add_mod_right z N), qf_rep_id hN (Nat.le_refl _) (by omega)] at r3
          omega
      · rw [qf_g0_hi d]
        exact s0
theorem qf_g0_P {N K z e : Nat} {g p : Nat → Nat} (hP : qf_P N K g p) (hN : 0 < N) (hz : z < e) (he : e ≤ z + N) (ge : g e = 0) : qf_P N K (qf_g0 N z e g) p := by
  refine ⟨qf_g0_R hP.1 hN hz he ge, hP.2.1, fun i hi => ?_⟩
  have e1 := (qf_g0_le hi).1
  rw [e1] at hi ⊢
  exact hP.2.2 i hi
theorem qf_g0_C {N K z e : Nat} {g p : Nat → Nat} (hP : qf_P N K g p) (hN : 0 < N) (hz : z < e) (he : e ≤ z + N) (gz : g z = 0) (ge : g e = 0) (ho : ∀ r, z + 1 ≤ r → r < e → 1 ≤ g r) (Q : Nat → Bool) : qf_C N g p Q = qf_C N (qf_g0 N z e g) p Q + qf_ct (fun i => Q (p i)) (z + 1) (e - (z + 1)) := by
  rw [qf_C_per hP Q z, qf_C_per (qf_g0_P hP hN hz he ge) Q z]
  have e1 := qf_ct_add (fun i => decide (1 ≤ g i) && Q (p i)) z (1 + (e - (z + 1))) (z + N - e)
  have e2 := qf_ct_add (fun i => decide (1 ≤ qf_g0 N z e g i) && Q (p i)) z (1 + (e - (z + 1))) (z + N - e)
  rw [show 1 + (e - (z + 1)) + (z + N - e) = N by omega, show z + (1 + (e - (z + 1))) = e by omega] at e1 e2
  rw [qf_ct_add _ z 1 (e - (z + 1)), qf_ct_1, gz] at e1
  have e3 : qf_ct (fun i => decide (1 ≤ qf_g0 N z e g i) && Q (p i)) z (1 + (e - (z + 1))) = 0 := qf_ct_zero (fun i i1 i2 => by
    rw [qf_g0_lo (by rw [qf_rep_id hN i1 (by omega)]; omega)]
    rfl)
  have e4 : qf_ct (fun i => decide (1 ≤ qf_g0 N z e g i) && Q (p i)) e (z + N - e) = qf_ct (fun i => decide (1 ≤ g i) && Q (p i)) e (z + N - e) := qf_ct_congr (fun i i1 i2 => by
    rw [qf_g0_hi (by rw [qf_rep_id hN (by omega) (by omega)]; exact i1)])
  have e5 : qf_ct (fun i => decide (1 ≤ g i) && Q (p i)) (z + 1) (e - (z + 1)) = qf_ct (fun i => Q (p i)) (z + 1) (e - (z + 1)) := qf_ct_congr (fun i i1 i2 => by
    rw [decide_eq_true (ho i i1 (by omega)), Bool.true_and])
  have e0 : (if (decide (1 ≤ 0) && Q (p z)) = true then 1 else 0) = 0 := rfl
  rw [e0, e5] at e1
  rw [e3, e4] at e2
  omega
theorem qf_g0_N {N K z e : Nat} {g p : Nat → Nat} (hP : qf_P N K g p) (hN : 0 < N) (hz : z < e) (gz : g z = 0) {x : Nat} (hx : e ≤ qf_rep N z x) : qf_N K (qf_g0 N z e g) p (x % N) ↔ qf_N K g p (x % N) := by
  constructor
  · rintro ⟨y, y1, y2⟩
    rw [(qf_g0_le y1).1] at y1
    exact ⟨y, y1, y2⟩
  · intro h
    have r1 := qf_rep_lo N z x
    have r2 := qf_rep_hi hN z x
    rw [← qf_rep_mod hN z x] at h ⊢
    generalize qf_rep N z x = r at hx r1 r2 h
    obtain ⟨y, y1, y2⟩ := qf_nam hP hN h
    have y3 : y < z + N := by
      rcases Nat.lt_or_ge y (z + N) with c | c
      · exact c
      · have l := qf_lip hP.1 c
        rw [hP.1.1, gz] at l
        omega
    refine ⟨y, ?_, qf_own hP y1 y2⟩
    rw [qf_g0_hi (by rw [qf_rep_id hN (by omega) y3]; omega)]
    exact y1
theorem qf_g0_A {N K o z e : Nat} {g p : Nat → Nat} {a3 a4 a5 a6 b4 b5 b6 : Nat → Int32} (hP : qf_P N K g p) (hN : 0 < N) (hA : qf_A N K o g p a3 a4 a5 a6) (hz : z < e) (he : e ≤ z + N) (gz : g z = 0) (ge : g e = 0)
    (h0 : ∀ r, z + 1 ≤ r → r < e → b4 (o + r % N) = 0 ∧ b5 (o + r % N) = 0 ∧ b6 (o + r % N) = 0)
    (h1 : ∀ r, (r = z ∨ e ≤ r) → r < z + N → b4 (o + r % N) = a4 (o + r % N) ∧ b5 (o + r % N) = a5 (o + r % N) ∧ b6 (o + r % N) = a6 (o + r % N)) :
    qf_A N K o (qf_g0 N z e g) p a3 b4 b5 b6 := by
  have lo : ∀ i, qf_rep N z i < e → b4 (o + i % N) = 0 ∧ b5 (o + i % N) = 0 ∧ b6 (o + i % N) = 0 := by
    intro i hi
    have r1 := qf_rep_lo N z i
    have r2 := qf_rep_hi hN z i
    rw [← qf_rep_mod hN z i]
    by_cases c : qf_rep N z i = z
    · rw [c]
      have t := h1 z (Or.inl rfl) (by omega)
      have u := (qf_freeI hP hN hA z).mpr gz
      exact ⟨t.1.trans u.1, t.2.1.trans u.2.1, t.2.2.trans u.2.2⟩
    · exact h0 _ (by omega) hi
  have hi : ∀ i, e ≤ qf_rep N z i → b4 (o + i % N) = a4 (o + i % N) ∧ b5 (o + i % N) = a5 (o + i % N) ∧ b6 (o + i % N) = a6 (o + i % N) := by
    intro i h
    have r2 := qf_rep_hi hN z i
    rw [← qf_rep_mod hN z i]
    exact h1 _ (Or.inr h) r2
  have hP' := qf_g0_P hP hN hz he ge
  obtain ⟨k3, k4, k5, k6⟩ := hA
  refine ⟨fun i h => ?_, fun i => ?_, fun i => ?_, fun i => ?_⟩
  · rw [(qf_g0_le h).1] at h
    exact k3 i h
  · rcases Nat.lt_or_ge (qf_rep N z i) e with c | c
    · refine ⟨fun _ hn => ?_, fun _ => (lo i c).1⟩
      have := qf_nocc hP' hN hn
      rw [qf_g0_lo c] at this
      omega
    · rw [(hi i c).1, k4, qf_g0_N hP hN hz gz c]
  · rcases Nat.lt_or_ge (qf_rep N z (i + 1)) e with c | c
    · rw [(lo (i + 1) c).2.1, qf_g0_lo c]
      rfl
    · rw [(hi (i + 1) c).2.1, k5, qf_g0_hi c]
      rcases Nat.lt_or_ge (qf_rep N z i) e with d | d
      · have rm := qf_rep_mod hN z i
        have r1 := qf_rep_lo N z i
        have r2 := qf_rep_hi hN z i
        have r3 : qf_rep N z (i + 1) = qf_rep N z (qf_rep N z i + 1) := qf_rep_eq hN z (qf_mod1 rm.symm)
        have g1 : g (i + 1) = 0 := by
          rcases Nat.lt_or_ge (qf_rep N z i + 1) (z + N) with d2 | d2
          · rw [qf_rep_id hN (show z ≤ qf_rep N z i + 1 by omega) d2] at r3
            rw [← ge]
            exact qf_peq hP.1.1 (by rw [show e = qf_rep N z i + 1 by omega]; exact (qf_mod1 rm).symm)
          · rw [show qf_rep N z i + 1 = z + N by omega, qf_rep_eq hN z (Nat.add_mod_right z N), qf_rep_id hN (Nat.le_refl _) (by omega)] at r3
            omega
        rw [g1]
        exact congrArg qf_b (decide_eq_decide.mpr ⟨fun t => absurd t.1 (by omega), fun t => absurd t.1 (by omega)⟩)
      · rw [qf_g0_hi d]
  · rcases Nat.lt_or_ge (qf_rep N z i) e with c | c
    · rw [(lo i c).2.2, qf_g0_lo c]
      rfl
    · rw [(hi i c).2.2, k6, qf_g0_hi c]
/-- the free position before x -/
theorem qf_prev {N : Nat} {g : Nat → Nat} (hR : qf_R N g) (hN : 0 < N) {x : Nat} (hx : N ≤ x) : ∃ z, z ≤ x ∧ x < z + N ∧ g z = 0 ∧ ∀ r, z < r → r ≤ x → 1 ≤ g r := by
  obtain ⟨y, y1, y2, y3⟩ := qf_freeIn hR hN (x + 1 - N)
  obtain ⟨k, ⟨k1, k2⟩, k3⟩ := pk_least (fun k => k ≤ x ∧ g (x - k) = 0) ⟨x - y, by omega, by rw [show x - (x - y) = y by omega]; exact y3⟩
  refine ⟨x - k, by omega, ?_, k2, fun r r1 r2 => ?_⟩
  · rcases Nat.lt_or_ge (x - y) k with c | c
    · exact absurd ⟨by omega, by rw [show x - (x - y) = y by omega]; exact y3⟩ (k3 (x - y) c)
    · omega
  · rcases Nat.eq_zero_or_pos (g r) with c | c
    · exact absurd ⟨by omega, by rw [show x - (x - r) = r by omega]; exact c⟩ (k3 (x - r) (by omega))
    · exact c
/-- a fingerprint of slot x stands in the stretch around x -/
theorem qf_inStretch {N K z e x i : Nat} {g p : Nat → Nat} (hP : qf_P N K g p) (hN : 0 < N) (hi : 1 ≤ g i) (ho : p i / K = x % N) (hzx : z ≤ x) (h1 : ∀ r, z < r → r ≤ x → 1 ≤ g r) (hze : z < e) (ge : g e = 0) (gz : g z = 0) : ∃ y, z < y ∧ y < e ∧ p y = p i := by
  have hg := qf_gN hP.1 hN i
  have e0 := ho
  rw [(hP.2.2 i hi).2] at e0
  have e2 : (i + 1 + N - g i + g i) % N = (x + g i) % N := by
    rw [Nat.add_mod, e0, ← Nat.add_mod]
  rw [show i + 1 + N - g i + g i = i + 1 + N by omega, Nat.add_mod_right] at e2
  have e4 : i % N = (x + g i - 1) % N := by
    have e3 : (i + 1 + (N - 1)) % N = (x + g i + (N - 1)) % N := by
      rw [Nat.add_mod, e2, ← Nat.add_mod]
    rw [show i + 1 + (N - 1) = i + N by omega, Nat.add_mod_right, show x + g i + (N - 1) = x + g i - 1 + N by omega, Nat.add_mod_right] at e3
    exact e3
  have gy := qf_peq hP.1.1 e4
  have py := qf_peq hP.2.1 e4
  have gx : 1 ≤ g x := by
    have l := qf_lip hP.1 (show x ≤ x + g i - 1 by omega)
    omega
  have zx : z ≠ x := by
    intro c
    rw [c] at gz
    omega
  refine ⟨x + g i - 1, by omega, ?_, py.symm⟩
  rcases Nat.lt_or_ge (x + g i - 1) e with c | c
  · exact c
  · rcases Nat.lt_or_ge x e with d | d
    · have l := qf_lip hP.1 c
      omega
    · have := h1 e hze d
      omega
end
section
section
variable {rc : Int32} {a1 a2 a3 a4 a5 a6 a7 : Nat → Int32} {f q v : Nat}
theorem qf_to101 {post : St1 → Prop} {c : Nat} {r : Nat → Nat} {M0 : (Nat → Bool) → Nat} (hf : f < 2) (hc : c ≤ 64) (hv : v < 256) (hr : ∀ k, k < c → a7 k = nI (r k) ∧ r k < 256) (hj : ∃ j, j < c ∧ r j = v) (room : M0 (fun _ => true) + c + 1 ≤ 2 ^ q)
    (H : ∀ b2 b3 b4 b5 b6 M', qf_Keep f a2 a3 a4 a5 a6 b2 b3 b4 b5 b6 → qf_FM f q M' a1 b2 b3 b4 b5 b6 → (∀ Q, M' Q + (if Q v = true then 1 else 0) = M0 Q + qf_ct (fun k => Q (r k)) 0 c) → post (nI c, a1, b2, b3, b4, b5, b6, a7)) :
    ∀ (d k : Nat) (x6 : Int32) (b2 b3 b4 b5 b6 : Nat → Int32) (M' : (Nat → Bool) → Nat), k + d = c → qf_Keep f a2 a3 a4 a5 a6 b2 b3 b4 b5 b6 → qf_FM f q M' a1 b2 b3 b4 b5 b6 →
      ((x6 = 0 ∧ (∀ Q, M' Q = M0 Q + qf_ct (fun k => Q (r k)) 0 k) ∧ ∀ j, j < k → r j ≠ v) ∨ (x6 = 1 ∧ ∀ Q, M' Q + (if Q v = true then 1 else 0) = M0 Q + qf_ct (fun k => Q (r k)) 0 k)) →
      wX_takeOut_101 post (nI f) (nI v) (d + 1) x6 (nI k) (nI c) a1 b2 b3 b4 b5 b6 a7 := by
  intro d
  induction d with
  | zero =>
    intro k x6 b2 b3 b4 b5 b6 M' hk hK hF hs
    rw [show k = c by omega] at hs ⊢
    refine pk_le c c (fun _ => ?_) (fun z => absurd z (by omega))
    rcases hs with ⟨_, _, h3⟩ | ⟨_, h2⟩
    · obtain ⟨j, j1, j2⟩ := hj
      exact absurd j2 (h3 j j1)
    · exact H _ _ _ _ _ M' hK hF h2
  | succ d ih =>
    intro k x6 b2 b3 b4 b5 b6 M' hk hK hF hs
    refine pk_le c k (fun z => absurd z (by omega)) (fun z => ?_)
    have ck := qf_ct_full (P := fun k => (fun _ => true) (r k)) (lo := 0) (n := k) (fun _ _ _ => rfl)
    have ins : M' (fun _ => true) + 2 ≤ 2 ^ q → (∀ M2 : (Nat → Bool) → Nat, (∀ Q, M2 Q = M' Q + (if Q (r k) = true then 1 else 0)) → ((x6 = 0 ∧ (∀ Q, M2 Q = M0 Q + qf_ct (fun k => Q (r k)) 0 (k + 1)) ∧ ∀ j, j < k + 1 → r j ≠ v) ∨ (x6 = 1 ∧ ∀ Q, M2 Q + (if Q v = true then 1 else 0) = M0 Q + qf_ct (fun k => Q (r k)) 0 (k + 1)))) → wX_takeOut_132 post (wX_takeOut_101 post (nI f) (nI v) (d + 1)) (nI f) (nI v) x6 (nI k) (nI c) a1 b2 b3 b4 b5 b6 a7 := by
      intro rm nx
      unfold wX_takeOut_132
      rw [nI_clamp (show k < 2 ^ 31 by omega), (hr k z).1]
      refine ⟨pk_in k 64 (by omega), qf_insert hf hF (hr k z).2 rm (fun c2 c3 c4 c5 c6 hK2 hF2 => nm_r (nI_1 k) ?_)⟩
      exact ih (k + 1) x6 c2 c3 c4 c5 c6 _ (by omega) (qf_Keep_t hK hK2) hF2 (nx _ (fun Q => rfl))
    rcases hs with ⟨h1, h2, h3⟩ | ⟨h1, h2⟩
    · refine br_t h1 (And.intro (pk_in k 64 (by omega)) ?_)
      have e2 := h2 (fun _ => true)
      rw [ck] at e2
      rw [nI_clamp (show k < 2 ^ 31 by omega), (hr k z).1]
      have b1 := (hr k z).2
      refine pk_eq (r k) v (fun e => ?_) (fun e => ?_)
      · refine nm_r (nI_1 k) (ih (k + 1) 1 b2 b3 b4 b5 b6 M' (by omega) hK hF (Or.inr ⟨rfl, fun Q => ?_⟩))
        rw [h2 Q, qf_ct_s, Nat.zero_add, e, Nat.add_assoc]
      · obtain ⟨j, j1, j2⟩ := hj
        have jk : k < j := by
          rcases Nat.lt_or_ge k j with t | t
          · exact t
          · by_cases t2 : j = k
            · rw [t2] at j2
              exact absurd j2 e
            · exact absurd j2 (h3 j (by omega))
        refine ins (by omega) (fun M2 hM2 => Or.inl ⟨h1, fun Q => ?_, fun j j3 => ?_⟩)
        · rw [hM2, h2, qf_ct_s, Nat.zero_add, Nat.add_assoc]
        · by_cases t : j = k
          · rw [t]
            exact e
          · exact h3 j (by omega)
    · refine br_f (by rw [h1]; decide) ?_
      have e2 := h2 (fun _ => true)
      rw [ck] at e2
      simp only [if_true] at e2
      refine ins (by omega) (fun M2 hM2 => Or.inr ⟨h1, fun Q => ?_⟩)
      have e3 := h2 Q
      rw [hM2, qf_ct_s, Nat.zero_add]
      omega
theorem qf_to55 {post : St1 → Prop} {z e c : Nat} (hf : f < 2) (hq : q < 7) (h1 : a1 f = nI q) (hze : z < e) (he : e ≤ z + 2 ^ q) {x2 : Int32}
    (H : ∀ b4 b5 b6 : Nat → Int32, (∀ r, z + 1 ≤ r → r < e → b4 (64 * f + r % 2 ^ q) = 0 ∧ b5 (64 * f + r % 2 ^ q) = 0 ∧ b6 (64 * f + r % 2 ^ q) = 0) → (∀ k, (∀ r, z + 1 ≤ r → r < e → k ≠ 64 * f + r % 2 ^ q) → b4 k = a4 k ∧ b5 k = a5 k ∧ b6 k = a6 k) →
      ∃ fu, wX_takeOut_101 post (nI f) x2 fu 0 0 (nI c) a1 (upd a2 f ((a2 f - nI c).toInt8.toInt32)) a3 b4 b5 b6 a7) :
    ∀ (d i : Nat) (b4 b5 b6 : Nat → Int32), i + d = e → z + 1 ≤ i → (∀ r, z + 1 ≤ r → r < i → b4 (64 * f + r % 2 ^ q) = 0 ∧ b5 (64 * f + r % 2 ^ q) = 0 ∧ b6 (64 * f + r % 2 ^ q) = 0) → (∀ k, (∀ r, z + 1 ≤ r → r < i → k ≠ 64 * f + r % 2 ^ q) → b4 k = a4 k ∧ b5 k = a5 k ∧ b6 k = a6 k) →
      wX_takeOut_55 post (nI f) x2 (nI (e % 2 ^ q)) (d + 1) (nI (i % 2 ^ q)) (nI c) a1 a2 a3 b4 b5 b6 a7 := by
  intro d
  induction d with
  | zero =>
    intro i b4 b5 b6 hi _ hz hk
    have hie : i = e := by omega
    subst hie
    refine br_t rfl ?_
    rw [qf_cf hf]
    exact ⟨qf_if hf, qf_if hf, nm_e (H b4 b5 b6 hz hk)⟩
  | succ d ih =>
    intro i b4 b5 b6 hi hzi hz hk
    have mi := qf_m64 hq i
    have me := qf_m64 hq e
    refine pk_eq (i % 2 ^ q) (e % 2 ^ q) (fun c => ?_) (fun c => qf_free hf mi (qf_after hf h1 hq i (ih (i + 1) _ _ _ (by omega) (by omega) (fun r r1 r2 => ?_) (fun k hk2 => ?_))))
    · have := qf_inj0 (show i ≤ e by omega) (by omega) c
      omega
    · by_cases t : r = i
      · rw [t, pk_us, pk_us, pk_us]
        exact ⟨rfl, rfl, rfl⟩
      · have n := (qf_ixne (f := f) (N := 2 ^ q) (j := r) (r := i) (d := i - r) (by omega) (by omega) (by omega)).symm
        rw [pk_un n, pk_un n, pk_un n]
        exact hz r r1 (by omega)
    · have n := hk2 i hzi (by omega)
      rw [pk_un n, pk_un n, pk_un n]
      exact hk k (fun r r1 r2 => hk2 r r1 (by omega))
theorem qf_takeOut {post : St1 → Prop} {M : (Nat → Bool) → Nat} (hf : f < 2) (h : qf_FM f q M a1 a2 a3 a4 a5 a6) (hv : v < 256) (hin : 0 < M (fun u => u == v))
    (H : ∀ c b2 b3 b4 b5 b6 b7 M', qf_Keep f a2 a3 a4 a5 a6 b2 b3 b4 b5 b6 → qf_FM f q M' a1 b2 b3 b4 b5 b6 → (∀ Q, M' Q + (if Q v = true then 1 else 0) = M Q) → post (c, a1, b2, b3, b4, b5, b6, b7)) :
    wpX_takeOut post (rc, a1, a2, a3, a4, a5, a6, a7) (nI f) (nI v) := by
  have hlt := qf_FM_lt h
  obtain ⟨g, p, hF, hM⟩ := h
  obtain ⟨q3, hq, h1, h2, hP, hA⟩ := hF
  have h0 := (qf_p2 hq).1
  have h64 := (qf_p2 hq).2
  have hx : v / 2 ^ (8 - q) = (v / 2 ^ (8 - q) + 2 ^ q + 2 ^ q) % 2 ^ q := by
    rw [Nat.add_mod_right]
    exact qf_vx hq hv
  unfold wpX_takeOut
  dsimp only
  refine qf_slotOf hf h1 hq hv ?_
  generalize hgx : v / 2 ^ (8 - q) + 2 ^ q + 2 ^ q = x0 at hx
  rw [hx]
  rw [hM] at hin
  obtain ⟨i, _, _, hi⟩ := qf_ct_ex hin
  rw [Bool.and_eq_true] at hi
  have gi : 1 ≤ g i := of_decide_eq_true hi.1
  have pv : p i = v := eq_of_beq hi.2
  obtain ⟨z, z1, z2, z3, z4⟩ := qf_prev hP.1 h0 (show 2 ^ q ≤ x0 by omega)
  obtain ⟨e, e1, e2, e3, e4⟩ := qf_next hP.1 h0 (z + 1)
  have ez : e ≤ z + 2 ^ q := by
    rcases Nat.lt_or_ge (z + 2 ^ q) e with d | d
    · have d2 := e4 (z + 2 ^ q) (by omega) d
      rw [hP.1.1, z3] at d2
      omega
    · exact d
  obtain ⟨y, y1, y2, y3⟩ := qf_inStretch hP h0 gi (by rw [pv]; exact hx) z1 z4 (show z < e by omega) e3 z3
  rw [pv] at y3
  have main : ∀ n b, z ≤ b → b ≤ x0 → b < z + n → wX_takeOut_10 post (nI f) (nI v) rc a1 a2 a3 a4 a5 a6 a7 n (nI (b % 2 ^ q)) := by
    intro n
    induction n with
    | zero =>
      intro b _ _ h
      omega
    | succ n ih =>
      intro b hb1 hb2 hn
      unfold wX_takeOut_10
      refine qf_isFree hf (qf_m64 hq b) (fun c => br_f (by decide) ?_) (fun c => br_t rfl ?_)
      · have gb := (qf_freeI hP h0 hA b).mp c
        have bz : b = z := by
          rcases Nat.lt_or_ge z b with t | t
          · have := z4 b t hb2
            omega
          · omega
        subst bz
        refine qf_after hf h1 hq b ?_
        have gl := hP.1.2.1 b
        refine qf_readStretch (c0 := 0) (T := fun _ => 0) hf hq h1 hP hA (by omega) e1 (by omega) e3 e4 (by omega) qf_T_0 (fun b7 hT => ?_)
        obtain ⟨r, hr, hr2⟩ := hT
        rw [Nat.zero_add] at hr hr2 ⊢
        have hr3 : ∀ Q : Nat → Bool, qf_ct (fun i => Q (p i)) (b + 1) (e - (b + 1)) = qf_ct (fun k => Q (r k)) 0 (e - (b + 1)) := fun Q => (Nat.zero_add _).symm.trans (hr2 Q)
        refine ⟨e - (b + 1) + 1, qf_to55 (z := b) hf hq h1 (by omega) ez (fun b4 b5 b6 k1 k2 => ?_) (e - (b + 1)) (b + 1) a4 a5 a6 (by omega) (Nat.le_refl _) (fun r r1 r2 => absurd r1 (by omega)) (fun k _ => ⟨rfl, rfl, rfl⟩)⟩
        have cc := fun Q => qf_g0_C hP h0 (show b < e by omega) ez z3 e3 e4 Q
        have ct := cc (fun _ => true)
        have cf : qf_ct (fun i => (fun _ => true) (p i)) (b + 1) (e - (b + 1)) = e - (b + 1) := qf_ct_full (fun _ _ _ => rfl)
        rw [cf] at ct
        have bnd := hM (fun _ => true)
        have hh : (a2 f - nI (e - (b + 1))).toInt8.toInt32 = nI (qf_C (2 ^ q) (qf_g0 (2 ^ q) b e g) p (fun _ => true)) := by
          rw [h2, pk_sub (by omega), show qf_C (2 ^ q) g p (fun _ => true) - (e - (b + 1)) = qf_C (2 ^ q) (qf_g0 (2 ^ q) b e g) p (fun _ => true) by omega]
          exact qf_b8 _ (by omega)
        rw [hh]
        have hA' : qf_A (2 ^ q) (2 ^ (8 - q)) (64 * f) (qf_g0 (2 ^ q) b e g) p a3 b4 b5 b6 := by
          refine qf_g0_A hP h0 hA (by omega) ez z3 e3 k1 (fun r r1 r2 => k2 _ (fun r' u1 u2 => ?_))
          rcases r1 with t | t
          · exact (qf_ixne (d := r' - r) (by omega) (by omega) (by omega)).symm
          · exact qf_ixne (d := r - r') (by omega) (by omega) (by omega)
        have hF2 : qf_FM f q (fun Q => qf_C (2 ^ q) (qf_g0 (2 ^ q) b e g) p Q) a1 (upd a2 f (nI (qf_C (2 ^ q) (qf_g0 (2 ^ q) b e g) p (fun _ => true)))) a3 b4 b5 b6 :=
          ⟨_, _, ⟨q3, hq, h1, pk_us, qf_g0_P hP h0 (by omega) ez e3, hA'⟩, fun Q => rfl⟩
        have hK2 : qf_Keep f a2 a3 a4 a5 a6 (upd a2 f (nI (qf_C (2 ^ q) (qf_g0 (2 ^ q) b e g) p (fun _ => true)))) a3 b4 b5 b6 := by
          refine ⟨fun k hk => pk_un hk, fun k hk => ⟨rfl, k2 k (fun r _ _ => ?_)⟩⟩
          have := qf_m64 hq r
          omega
        have hj : ∃ j, j < e - (b + 1) ∧ r j = v := by
          have t := hr3 (fun u => u == v)
          have t2 : 0 < qf_ct (fun i => (fun u => u == v) (p i)) (b + 1) (e - (b + 1)) := qf_ct_pos (i := y) (by omega) (by omega) (by rw [y3]; exact beq_self_eq_true v)
          rw [t] at t2
          obtain ⟨j, _, j2, j3⟩ := qf_ct_ex t2
          exact ⟨j, by omega, eq_of_beq j3⟩
        refine ⟨e - (b + 1) + 1, qf_to101 (M0 := fun Q => qf_C (2 ^ q) (qf_g0 (2 ^ q) b e g) p Q) hf (by omega) hv hr hj (by omega) (fun c2 c3 c4 c5 c6 M' hK3 hF3 hM3 => ?_) (e - (b + 1)) 0 0 _ _ _ _ _ _ (by omega) qf_Keep_r hF2 (Or.inl ⟨rfl, fun Q => rfl, fun j j1 => absurd j1 (by omega)⟩)⟩
        refine H _ _ _ _ _ _ _ M' (qf_Keep_t hK2 hK3) hF3 (fun Q => ?_)
        rw [hM3 Q, hM Q, cc Q, hr3 Q]
      · have gb : 1 ≤ g b := by
          rcases Nat.eq_zero_or_pos (g b) with d | d
          · exact absurd ((qf_freeI hP h0 hA b).mpr d) c
          · exact d
        have bz : b ≠ z := by
          intro t
          rw [t] at gb
          omega
        obtain ⟨b', rfl⟩ : ∃ b', b = b' + 1 := ⟨b - 1, by omega⟩
        exact qf_before hf h1 hq b' (ih b' (by omega) (by omega) (by omega))
  exact ⟨x0 - z + 1, main (x0 - z + 1) x0 z1 (Nat.le_refl _) (by omega)⟩
end
end
section
/-! the k-th fingerprint by size -/
def qf_lt (u : Nat) : Nat → Bool := fun w => decide (w < u)
def qf_eq (u : Nat) : Nat → Bool := fun w => w == u
def qf_Ad (M : (Nat → Bool) → Nat) : Prop := M (qf_lt 0) = 0 ∧ (∀ u, M (qf_lt (u + 1)) = M (qf_lt u) + M (qf_eq u)) ∧ M (qf_lt 256) = M (fun _ => true)
theorem qf_FM_Ad {f q : Nat} {M : (Nat → Bool) → Nat} {a1 a2 a3 a4 a5 a6 : Nat → Int32} (h : qf_FM f q M a1 a2 a3 a4 a5 a6) : qf_Ad M := by
  obtain ⟨g, p, ⟨q3, q6, h1, h2, hP, hA⟩, hM⟩ := h
  refine ⟨?_, fun u => ?_, ?_⟩
  · rw [hM]
    refine qf_ct_zero (fun i _ _ => ?_)
    unfold qf_lt
    rw [decide_eq_false (show ¬ p i < 0 by omega), Bool.and_false]
  · rw [hM, hM, hM]
    refine qf_ct_or _ _ (fun i => ?_) (fun i hi => ?_)
    · rw [← Bool.and_or_distrib_left]
      refine congrArg _ ?_
      unfold qf_lt qf_eq
      rw [Bool.eq_iff_iff, Bool.or_eq_true, decide_eq_true_iff, decide_eq_true_iff, beq_iff_eq]
      omega
    · rw [Bool.and_eq_true] at hi
      unfold qf_lt at hi
      unfold qf_eq
      have t := of_decide_eq_true hi.2
      rw [beq_eq_false_iff_ne.mpr (show p i ≠ u by omega), Bool.and_false]
  · rw [hM, hM]
    refine qf_ct_congr (fun i _ _ => ?_)
    by_cases c : 1 ≤ g i
    · unfold qf_lt
      rw [decide_eq_true (hP.2.2 i c).1]
    · rw [decide_eq_false c]
      rfl
def qf_K (M : (Nat → Bool) → Nat) (k u : Nat) : Prop := M (qf_lt u) ≤ k ∧ k < M (qf_lt u) + M (qf_eq u)
theorem qf_Ad_mono {M : (Nat → Bool) → Nat} (h : qf_Ad M) {u w : Nat} (hu : u ≤ w) : M (qf_lt u) ≤ M (qf_lt w) := by
  obtain ⟨d, rfl⟩ := Nat.exists_eq_add_of_le hu
  clear hu
  induction d with
  | zero => exact Nat.le_refl _
  | succ d ih =>
    have := h.2.1 (u + d)
    rw [show u + (d + 1) = u + d + 1 by omega]
    omega
theorem qf_K_le {M : (Nat → Bool) → Nat} (h : qf_Ad M) {k k' u u' : Nat} (hk : k ≤ k') (h1 : qf_K M k u) (h2 : qf_K M k' u') : u ≤ u' := by
  rcases Nat.lt_or_ge u' u with c | c
  · have m := qf_Ad_mono h (show u' + 1 ≤ u from c)
    rw [h.2.1] at m
    have a := h1.1
    have b := h2.2
    omega
  · exact c
theorem qf_K_un {M : (Nat → Bool) → Nat} (h : qf_Ad M) {k u u' : Nat} (h1 : qf_K M k u) (h2 : qf_K M k u') : u = u' :=
  Nat.le_antisymm (qf_K_le h (Nat.le_refl _) h1 h2) (qf_K_le h (Nat.le_refl _) h2 h1)
theorem qf_K_ex {M : (Nat → Bool) → Nat} (h : qf_Ad M) {k : Nat} (hk : k < M (fun _ => true)) : ∃ u, qf_K M k u := by
  obtain ⟨u, u1, u2⟩ := pk_least (fun u => k < M (qf_lt (u + 1))) ⟨255, by
    show k < M (qf_lt 256)
    rw [h.2.2]
    exact hk⟩
  refine ⟨u, ?_, ?_⟩
  · rcases Nat.eq_zero_or_pos u with c | c
    · rw [c, h.1]
      omega
    · have t := u2 (u - 1) (by omega)
      rw [show u - 1 + 1 = u by omega] at t
      omega
  · rw [h.2.1] at u1
    exact u1
noncomputable def qf_pr (M : (Nat → Bool) → Nat) (k : Nat) : Nat := Classical.epsilon (fun u => qf_K M k u)
theorem qf_pr_K {M : (Nat → Bool) → Nat} (h : qf_Ad M) {k : Nat} (hk : k < M (fun _ => true)) : qf_K M k (qf_pr M k) :=
  Classical.epsilon_spec (p := fun u => qf_K M k u) (qf_K_ex h hk)
noncomputable def qf_pv (M : (Nat → Bool) → Nat) (k : Nat) : Int32 := if k < M (fun _ => true) then nI (qf_pr M k) else -3
noncomputable def qf_sv (M : (Nat → Bool) → Nat) : Nat → Int32
  | 0 => nI (M (fun _ => true))
  | k + 1 => 31 * qf_sv M k + qf_pv M k
section
variable {rc : Int32} {a1 a2 a3 a4 a5 a6 a7 : Nat → Int32} {f q : Nat}
theorem qf_pr51 {post : Int32 → St1 → Prop} {J : Int32 → Prop} {c k i : Nat} {r : Nat → Nat} (hc : c ≤ 64) (hi : i < c) (hk : k < 2 ^ 31) (hr : ∀ k, k < c → a7 k = nI (r k) ∧ r k < 256)
    (H1 : ¬ (qf_ct (fun j => qf_lt (r i) (r j)) 0 c ≤ k ∧ k < qf_ct (fun j => qf_lt (r i) (r j)) 0 c + qf_ct (fun j => qf_eq (r i) (r j)) 0 c) → J (nI (i + 1)))
    (H2 : (qf_ct (fun j => qf_lt (r i) (r j)) 0 c ≤ k ∧ k < qf_ct (fun j => qf_lt (r i) (r j)) 0 c + qf_ct (fun j => qf_eq (r i) (r j)) 0 c) → post (nI (r i)) (nI c, a1, a2, a3, a4, a5, a6, a7)) :
    ∀ d j, j + d = c → wX_print_51 post J (nI k) (nI i) (nI c) a1 a2 a3 a4 a5 a6 a7 (d + 1) (nI (qf_ct (fun j => qf_lt (r i) (r j)) 0 j)) (nI (qf_ct (fun j => qf_eq (r i) (r j)) 0 j)) (nI j) := by
  have ri := hr i hi
  intro d
  induction d with
  | zero =>
    intro j hj
    rw [show j = c by omega]
    have l1 := qf_ct_le (fun j => qf_lt (r i) (r j)) 0 c
    have l2 := qf_ct_le (fun j => qf_eq (r i) (r j)) 0 c
    refine pk_le c c (fun _ => ?_) (fun z => absurd z (by omega))
    refine pk_lt k (qf_ct (fun j => qf_lt (r i) (r j)) 0 c) (fun e => nm_r (nI_1 i) (H1 (fun t => absurd t.1 (by omega)))) (fun e => ?_)
    rw [nI_add]
    refine pk_le (qf_ct (fun j => qf_lt (r i) (r j)) 0 c + qf_ct (fun j => qf_eq (r i) (r j)) 0 c) k (fun e2 => nm_r (nI_1 i) (H1 (fun t => absurd t.2 (by omega)))) (fun e2 => And.intro (pk_in i 64 (by omega)) ?_)
    rw [nI_clamp (show i < 2 ^ 31 by omega), ri.1]
    exact H2 ⟨e, e2⟩
  | succ d ih =>
    intro j hj
    have rj := hr j (by omega)
    refine pk_le c j (fun z => absurd z (by omega)) (fun _ => And.intro (pk_in j 64 (by omega)) (And.intro (pk_in i 64 (by omega)) ?_))
    rw [nI_clamp (show i < 2 ^ 31 by omega), nI_clamp (show j < 2 ^ 31 by omega), ri.1, rj.1]
    have r1 := ri.2
    have r2 := rj.2
    have t := ih (j + 1) (by omega)
    rw [qf_ct_s, qf_ct_s, Nat.zero_add] at t
    refine pk_le (r i) (r j) (fun e => ?_) (fun e => ?_)
    · rw [show qf_lt (r i) (r j) = false from decide_eq_false (by omega)] at t
      simp only [Bool.false_eq_true, if_false, Nat.add_zero] at t
      unfold wX_print_79
      rw [nI_clamp (show i < 2 ^ 31 by omega), nI_clamp (show j < 2 ^ 31 by omega), ri.1, rj.1]
      refine ⟨pk_in j 64 (by omega), pk_in i 64 (by omega), pk_eq (r j) (r i) (fun e2 => ?_) (fun e2 => ?_)⟩
      · rw [show qf_eq (r i) (r j) = true from beq_iff_eq.mpr e2] at t
        simp only [if_true] at t
        exact nm_r (nI_1 _) (nm_r (nI_1 j) t)
      · rw [show qf_eq (r i) (r j) = false from beq_eq_false_iff_ne.mpr e2] at t
        simp only [Bool.false_eq_true, if_false, Nat.add_zero] at t
        exact nm_r (nI_1 j) t
    · rw [show qf_lt (r i) (r j) = true from decide_eq_true e, show qf_eq (r i) (r j) = false from beq_eq_false_iff_ne.mpr (by omega)] at t
      simp only [Bool.false_eq_true, if_false, Nat.add_zero, if_true] at t
      refine nm_r (nI_1 _) ?_
      unfold wX_print_79
      rw [nI_clamp (show i < 2 ^ 31 by omega), nI_clamp (show j < 2 ^ 31 by omega), ri.1, rj.1]
      exact ⟨pk_in j 64 (by omega), pk_in i 64 (by omega), pk_eq (r j) (r i) (fun e2 => absurd e2 (by omega)) (fun _ => nm_r (nI_1 j) t)⟩
theorem qf_print {post : Int32 → St1 → Prop} {M : (Nat → Bool) → Nat} {k : Nat} (hf : f < 2) (h : qf_FM f q M a1 a2 a3 a4 a5 a6) (hk : k < 2 ^ 31)
    (H : ∀ c b7, post (qf_pv M k) (c, a1, a2, a3, a4, a5, a6, b7)) : wpX_print post (rc, a1, a2, a3, a4, a5, a6, a7) (nI f) (nI k) := by
  obtain ⟨h2, h1, q3, q6⟩ := qf_FM_held h
  have hlt := qf_FM_lt h
  have hAd := qf_FM_Ad h
  have h64 := (qf_p2 q6).2
  unfold wpX_print
  dsimp only
  refine qf_isFilter hf (br_f (by decide) (br_f (nI_pos hk) ?_))
  rw [qf_cf hf, h2]
  refine And.intro (qf_if hf) (pk_lt k (M (fun _ => true)) (fun e => ?_) (fun e => ?_))
  · refine qf_readAll hf h (fun b7 hT => ?_)
    obtain ⟨r, hr, hr2⟩ := hT
    have ev : qf_pv M k = nI (qf_pr M k) := if_pos e
    have kp := qf_pr_K hAd e
    have main : ∀ n i, M (fun _ => true) < i + n → i ≤ M (fun _ => true) → (∀ j, j < i → ¬ qf_K M k (r j)) → wX_print_34 post (nI k) (nI (M (fun _ => true))) a1 a2 a3 a4 a5 a6 b7 n (nI i) := by
      intro n
      induction n with
      | zero =>
        intro i h1 h2 _
        omega
      | succ n ih =>
        intro i hn hi hno
        refine pk_le (M (fun _ => true)) i (fun z => ?_) (fun z => ⟨M (fun _ => true) + 1, ?_⟩)
        · have t : 0 < M (qf_eq (qf_pr M k)) := by
            have a := kp.1
            have b := kp.2
            omega
          rw [hr2] at t
          obtain ⟨j, _, j2, j3⟩ := qf_ct_ex t
          have j4 : r j = qf_pr M k := eq_of_beq j3
          exact absurd (by rw [j4]; exact kp) (hno j (by omega))
        · refine qf_pr51 (k := k) (i := i) (by omega) z hk hr (fun t => ?_) (fun t => ?_) (M (fun _ => true)) 0 (by omega)
          · rw [← hr2 (qf_lt (r i)), ← hr2 (qf_eq (r i))] at t
            refine ih (i + 1) (by omega) (by omega) (fun j hj => ?_)
            by_cases c : j = i
            · rw [c]
              exact t
            · exact hno j (by omega)
          · rw [← hr2 (qf_lt (r i)), ← hr2 (qf_eq (r i))] at t
            have e2 : r i = qf_pr M k := qf_K_un hAd t kp
            have u := H (nI (M (fun _ => true))) b7
            rw [ev, ← e2] at u
            exact u
    exact ⟨M (fun _ => true) + 1, main (M (fun _ => true) + 1) 0 (by omega) (by omega) (fun j hj => absurd hj (by omega))⟩
  · have u := H rc a7
    have ev : qf_pv M k = -3 := if_neg (by omega)
    rw [ev] at u
    exact u
theorem qf_sum {post : Int32 → St1 → Prop} {M : (Nat → Bool) → Nat} (hf : f < 2) (h : qf_FM f q M a1 a2 a3 a4 a5 a6)
    (H : ∀ c b7, post (qf_sv M 64) (c, a1, a2, a3, a4, a5, a6, b7)) : wpL_sum post (rc, a1, a2, a3, a4, a5, a6, a7) (nI f) := by
  have main : ∀ (d k : Nat) (c : Int32) (b7 : Nat → Int32), k + d = 64 → wL_sum_8 post (nI f) (d + 1) (qf_sv M k) (nI k) c a1 a2 a3 a4 a5 a6 b7 := by
    intro d
    induction d with
    | zero =>
      intro k c b7 hk
      rw [show k = 64 by omega]
      exact br_t (by decide) (H c b7)
    | succ d ih =>
      intro k c b7 hk
      refine pk_le 64 k (fun z => absurd z (by omega)) (fun z => qf_print hf h (by omega) (fun c' b7' => nm_r (show 31 * qf_sv M k + qf_pv M k = qf_sv M (k + 1) from rfl) (nm_r (nI_1 k) (ih (k + 1) c' b7' (by omega)))))
  unfold wpL_sum
  dsimp only
  refine qf_count hf ⟨65, ?_⟩
  rw [(qf_FM_held h).1]
  exact main 64 0 rc a7 (by omega)
end
end
section
/-- the fingerprint of x -/
def qf_h (x : Int32) : Nat := (x * (-1640531535)).toBitVec.toNat / 2 ^ 24
theorem qf_h_lt (x : Int32) : qf_h x < 256 := by
  unfold qf_h
  have := (x * (-1640531535)).toBitVec.isLt
  omega
theorem qf_h_eq (x : Int32) : ((x * (-1640531535)).toUInt32 >>> ((24 : Int32).toUInt32 &&& Int32.toUInt32 31)).toInt32 = nI (qf_h x) := by
  apply Int32.toBitVec_inj.mp
  apply BitVec.eq_of_toNat_eq
  rw [pk_ushr _ 24 24 (by decide), pk_tn (Nat.lt_trans (qf_h_lt x) (by decide))]
  rfl
theorem qf_M_le {f q : Nat} {M : (Nat → Bool) → Nat} {a1 a2 a3 a4 a5 a6 : Nat → Int32} (h : qf_FM f q M a1 a2 a3 a4 a5 a6) {v : Nat} (hv : v < 256) : M (qf_eq v) ≤ M (fun _ => true) := by
  have a := qf_FM_Ad h
  have m := qf_Ad_mono a (show v + 1 ≤ 256 from hv)
  rw [a.2.1, a.2.2] at m
  omega
section
variable {rc : Int32} {a1 a2 a3 a4 a5 a6 a7 : Nat → Int32} {f q : Nat} {M : (Nat → Bool) → Nat}
theorem qf_printOf {post : Int32 → Prop} {x : Int32} (H : post (nI (qf_h x))) : wpX_printOf post (rc, a1, a2, a3, a4, a5, a6, a7) x := by
  unfold wpX_printOf
  dsimp only
  rw [qf_h_eq]
  exact H
theorem qf_timesFM {post : Int32 → Prop} {v : Nat} (hf : f < 2) (h : qf_FM f q M a1 a2 a3 a4 a5 a6) (hv : v < 256) (H : post (nI (M (qf_eq v)))) : wpX_timesOf post (rc, a1, a2, a3, a4, a5, a6, a7) (nI f) (nI v) := by
  obtain ⟨g, p, ⟨q3, q6, h1, h2, hP, hA⟩, hM⟩ := h
  rw [hM] at H
  exact qf_timesOf hf q6 h1 hP hA hv H
theorem qf_add {post : Int32 → St1 → Prop} {x : Int32} (hf : f < 2) (h : qf_FM f q M a1 a2 a3 a4 a5 a6) (H0 : post (-2) (rc, a1, a2, a3, a4, a5, a6, a7))
    (H : ∀ n b2 b3 b4 b5 b6, 1 ≤ n → n ≤ 64 → qf_Keep f a2 a3 a4 a5 a6 b2 b3 b4 b5 b6 → qf_FM f q (fun Q => M Q + (if Q (qf_h x) = true then 1 else 0)) a1 b2 b3 b4 b5 b6 → post (nI n) (rc, a1, b2, b3, b4, b5, b6, a7)) :
    wpX_add post (rc, a1, a2, a3, a4, a5, a6, a7) (nI f) x := by
  obtain ⟨h2, h1, q3, q6⟩ := qf_FM_held h
  have h64 := qf_p2 q6
  have hlt := qf_FM_lt h
  have hv := qf_h_lt x
  have hle := qf_M_le h hv
  unfold wpX_add
  dsimp only
  refine qf_isFilter hf (br_f (by decide) ?_)
  rw [qf_cf hf, h2]
  refine And.intro (qf_if hf) (qf_slots hf h1 q6 (pk_lt (M (fun _ => true)) (2 ^ q - 1) (fun e => ?_) (fun _ => H0) rfl (pk_sub (b := 1) h64.1)))
  refine qf_printOf (qf_insert hf h hv (by omega) (fun b2 b3 b4 b5 b6 hK hF => ?_))
  refine qf_timesFM hf hF hv (H _ _ _ _ _ _ ?_ ?_ hK hF)
  · show 1 ≤ M (qf_eq (qf_h x)) + (if qf_eq (qf_h x) (qf_h x) = true then 1 else 0)
    rw [show qf_eq (qf_h x) (qf_h x) = true from beq_self_eq_true _]
    simp only [if_true]
    omega
  · show M (qf_eq (qf_h x)) + (if qf_eq (qf_h x) (qf_h x) = true then 1 else 0) ≤ 64
    rw [show qf_eq (qf_h x) (qf_h x) = true from beq_self_eq_true _]
    simp only [if_true]
    omega
theorem qf_remove {post : Int32 → St1 → Prop} {x : Int32} (hf : f < 2) (h : qf_FM f q M a1 a2 a3 a4 a5 a6) (H0 : M (qf_eq (qf_h x)) = 0 → post (-3) (rc, a1, a2, a3, a4, a5, a6, a7))
    (H : ∀ n c b2 b3 b4 b5 b6 b7 M', n ≤ 64 → qf_Keep f a2 a3 a4 a5 a6 b2 b3 b4 b5 b6 → qf_FM f q M' a1 b2 b3 b4 b5 b6 → (∀ Q, M' Q + (if Q (qf_h x) = true then 1 else 0) = M Q) → post (nI n) (c, a1, b2, b3, b4, b5, b6, b7)) :
    wpX_remove post (rc, a1, a2, a3, a4, a5, a6, a7) (nI f) x := by
  obtain ⟨h2, h1, q3, q6⟩ := qf_FM_held h
  have h64 := qf_p2 q6
  have hlt := qf_FM_lt h
  have hv := qf_h_lt x
  have hle := qf_M_le h hv
  unfold wpX_remove
  dsimp only
  refine qf_isFilter hf (br_f (by decide) (qf_printOf (qf_timesFM hf h hv ?_)))
  refine pk_eq (M (qf_eq (qf_h x))) 0 (fun e => H0 e) (fun e => ?_)
  refine qf_takeOut hf h hv (show 0 < M (qf_eq (qf_h x)) by omega) (fun c b2 b3 b4 b5 b6 b7 M' hK hF hM' => ?_)
  rw [show nI (M (qf_eq (qf_h x))) - 1 = nI (M (qf_eq (qf_h x)) - 1) from pk_sub (b := 1) (by omega)]
  exact H _ c b2 b3 b4 b5 b6 b7 M' (by omega) hK hF hM'
theorem qf_maybe {post : Int32 → Prop} {x : Int32} (hf : f < 2) (h : qf_FM f q M a1 a2 a3 a4 a5 a6) (hp : 1 ≤ M (qf_eq (qf_h x))) (H : post 1) : wpX_maybe post (rc, a1, a2, a3, a4, a5, a6, a7) (nI f) x := by
  obtain ⟨h2, h1, q3, q6⟩ := qf_FM_held h
  have h64 := qf_p2 q6
  have hlt := qf_FM_lt h
  have hv := qf_h_lt x
  have hle := qf_M_le h hv
  unfold wpX_maybe
  dsimp only
  refine qf_isFilter hf (br_f (by decide) (qf_printOf (qf_timesFM hf h hv ?_)))
  exact pk_le (M (qf_eq (qf_h x))) 0 (fun e => absurd e (by omega)) (fun _ => H)
theorem qf_grow {post : Int32 → St1 → Prop} (hf : f < 2) (h : qf_FM f q M a1 a2 a3 a4 a5 a6) (H0 : q = 6 → post (-2) (rc, a1, a2, a3, a4, a5, a6, a7))
    (H : q < 6 → ∀ c b2 b3 b4 b5 b6 b7, qf_Keep f a2 a3 a4 a5 a6 b2 b3 b4 b5 b6 → qf_FM f (q + 1) M (upd a1 f (nI (q + 1))) b2 b3 b4 b5 b6 → post (nI (2 ^ (q + 1))) (c, upd a1 f (nI (q + 1)), b2, b3, b4, b5, b6, b7)) :
    wpX_grow post (rc, a1, a2, a3, a4, a5, a6, a7) (nI f) := by
  obtain ⟨h2, h1, q3, q6⟩ := qf_FM_held h
  have hlt := qf_FM_lt h
  unfold wpX_grow
  dsimp only
  refine qf_isFilter hf (br_f (by decide) ?_)
  rw [qf_cf hf, h1, nI_1]
  refine And.intro (qf_if hf) (pk_eq q 6 (fun e => H0 e) (fun e => And.intro (qf_if hf) ?_))
  have p2 : 2 ^ (q + 1) = 2 ^ q * 2 := Nat.pow_succ 2 q
  refine qf_resize hf h (by omega) (by omega) (by omega) (fun c b2 b3 b4 b5 b6 b7 hK hF => ?_)
  exact qf_slots hf pk_us (by omega) (H (by omega) c b2 b3 b4 b5 b6 b7 hK hF)
theorem qf_shrink {post : Int32 → St1 → Prop} (hf : f < 2) (h : qf_FM f q M a1 a2 a3 a4 a5 a6) (H0 : post (-3) (rc, a1, a2, a3, a4, a5, a6, a7))
    (H : ∀ q', q = q' + 1 → ∀ c b2 b3 b4 b5 b6 b7, qf_Keep f a2 a3 a4 a5 a6 b2 b3 b4 b5 b6 → qf_FM f q' M (upd a1 f (nI q')) b2 b3 b4 b5 b6 → post (nI (2 ^ q')) (c, upd a1 f (nI q'), b2, b3, b4, b5, b6, b7)) :
    wpX_shrink post (rc, a1, a2, a3, a4, a5, a6, a7) (nI f) := by
  obtain ⟨h2, h1, q3, q6⟩ := qf_FM_held h
  have hlt := qf_FM_lt h
  have h64 := qf_p2 q6
  unfold wpX_shrink
  dsimp only
  refine qf_isFilter hf (br_f (by decide) ?_)
  rw [qf_cf hf, h1, h2]
  refine And.intro (qf_if hf) (pk_eq q 3 (fun _ => H0) (fun e => And.intro (qf_if hf) (qf_slots hf h1 q6 (And.intro (by decide) ?_))))
  obtain ⟨q', rfl⟩ : ∃ q', q = q' + 1 := ⟨q - 1, by omega⟩
  have p2 : 2 ^ (q' + 1) = 2 ^ q' * 2 := Nat.pow_succ 2 q'
  have pq := Nat.two_pow_pos q'
  have e1 : nI (2 ^ (q' + 1)) / 2 - 1 = nI (2 ^ q' - 1) := by
    rw [show nI (2 ^ (q' + 1)) / 2 = nI (2 ^ q') from (pk_div (a := 2 ^ (q' + 1)) (d := 2) (by omega) (by decide) (by decide)).trans (by rw [p2, Nat.mul_div_cancel _ (by decide)])]
    exact pk_sub (b := 1) pq
  have e2 : nI (q' + 1) - 1 = nI q' := nI_pred q'
  rw [e1, e2]
  refine pk_le (M (fun _ => true)) (2 ^ q' - 1) (fun t => And.intro (qf_if hf) ?_) (fun _ => H0)
  refine qf_resize hf h (by omega) (by omega) (by omega) (fun c b2 b3 b4 b5 b6 b7 hK hF => ?_)
  exact qf_slots hf pk_us (by omega) (H q' rfl c b2 b3 b4 b5 b6 b7 hK hF)
theorem qf_clear {post : Int32 → St1 → Prop} (hf : f < 2) (h : qf_FM f q M a1 a2 a3 a4 a5 a6)
    (H : ∀ n b2 b4 b5 b6, qf_Keep f a2 a3 a4 a5 a6 b2 a3 b4 b5 b6 → qf_FM f q (fun _ => 0) a1 b2 a3 b4 b5 b6 → post n (rc, a1, b2, a3, b4, b5, b6, a7)) :
    wpX_clear post (rc, a1, a2, a3, a4, a5, a6, a7) (nI f) := by
  obtain ⟨h2, h1, q3, q6⟩ := qf_FM_held h
  unfold wpX_clear
  dsimp only
  refine qf_isFilter hf (br_f (by decide) (And.intro (qf_if hf) (nm_e (qf_empty hf (fun b4 b5 b6 hz hk => ?_)))))
  exact H _ _ _ _ _ ⟨fun k hk2 => pk_un hk2, fun k hk2 => ⟨rfl, hk k hk2⟩⟩ (qf_FM0 q3 q6 h1 pk_us hz)
end
section
variable {rc : Int32} {a1 a2 a3 a4 a5 a6 : Nat → Int32} {f q q' : Nat} {M M' : (Nat → Bool) → Nat}
theorem qf_po81 {post : Int32 → St1 → Prop} {a7 : Nat → Int32} {c : Nat} {r : Nat → Nat} {M0 : (Nat → Bool) → Nat} (hf : f < 2) (hc : c ≤ 64) (hr : ∀ k, k < c → a7 k = nI (r k) ∧ r k < 256) (room : M0 (fun _ => true) + c + 1 ≤ 2 ^ q)
    (H : ∀ n b2 b3 b4 b5 b6, qf_Keep f a2 a3 a4 a5 a6 b2 b3 b4 b5 b6 → qf_FM f q (fun Q => M0 Q + qf_ct (fun k => Q (r k)) 0 c) a1 b2 b3 b4 b5 b6 → post n (nI c, a1, b2, b3, b4, b5, b6, a7)) :
    ∀ (d k : Nat) (b2 b3 b4 b5 b6 : Nat → Int32), k + d = c → qf_Keep f a2 a3 a4 a5 a6 b2 b3 b4 b5 b6 → qf_FM f q (fun Q => M0 Q + qf_ct (fun k => Q (r k)) 0 k) a1 b2 b3 b4 b5 b6 →
      wX_pour_81 post (nI f) (d + 1) (nI k) (nI c) a1 b2 b3 b4 b5 b6 a7 := by
  intro d
  induction d with
  | zero =>
    intro k b2 b3 b4 b5 b6 hk hK hF
    rw [show k = c by omega] at hF ⊢
    exact pk_le c c (fun _ => And.intro (qf_if hf) (H _ _ _ _ _ _ hK hF)) (fun z => absurd z (by omega))
  | succ d ih =>
    intro k b2 b3 b4 b5 b6 hk hK hF
    refine pk_le c k (fun z => absurd z (by omega)) (fun z => And.intro (pk_in k 64 (by omega)) ?_)
    rw [nI_clamp (show k < 2 ^ 31 by omega), (hr k z).1]
    have ct := qf_ct_full (P := fun k => (fun _ => true) (r k)) (lo := 0) (n := k) (fun _ _ _ => rfl)
    refine qf_insert hf hF (hr k z).2 (by rw [ct]; omega) (fun c2 c3 c4 c5 c6 hK2 hF2 => nm_r (nI_1 k) (ih (k + 1) c2 c3 c4 c5 c6 (by omega) (qf_Keep_t hK hK2) (qf_FM_congr hF2 (fun Q => ?_))))
    rw [qf_ct_s, Nat.zero_add, Nat.add_assoc]
theorem qf_po71 {post : Int32 → St1 → Prop} {a7 : Nat → Int32} (hf : f < 2) (h : qf_FM f q M a1 a2 a3 a4 a5 a6) (h' : qf_FM (1 - f) q' M' a1 a2 a3 a4 a5 a6) (room : M (fun _ => true) + M' (fun _ => true) + 1 ≤ 2 ^ q)
    (H : ∀ n c b2 b3 b4 b5 b6 b7, qf_FM f q (fun Q => M Q + M' Q) a1 b2 b3 b4 b5 b6 → qf_FM (1 - f) q' M' a1 b2 b3 b4 b5 b6 → post n (c, a1, b2, b3, b4, b5, b6, b7)) :
    wX_pour_71 post (nI f) rc a1 a2 a3 a4 a5 a6 a7 := by
  obtain ⟨h2, h1, q3, q6⟩ := qf_FM_held h
  have h64 := qf_p2 q6
  unfold wX_pour_71
  rw [show (1 : Int32) - nI f = nI (1 - f) from pk_sub (a := 1) (by omega)]
  refine qf_readAll (by omega) h' (fun b7 hT => ?_)
  obtain ⟨r, hr, hr2⟩ := hT
  refine ⟨M' (fun _ => true) + 1, qf_po81 (M0 := M) hf (by omega) hr room (fun n b2 b3 b4 b5 b6 hK hF => ?_) _ 0 _ _ _ _ _ (by omega) qf_Keep_r h⟩
  exact H _ _ _ _ _ _ _ _ (qf_FM_congr hF (fun Q => by rw [hr2 Q])) (qf_frame (by omega) hK rfl h')
theorem qf_pour {post : Int32 → St1 → Prop} {a7 : Nat → Int32} (hf : f < 2) (h : qf_FM f q M a1 a2 a3 a4 a5 a6) (h' : qf_FM (1 - f) q' M' a1 a2 a3 a4 a5 a6) (H0 : post (-2) (rc, a1, a2, a3, a4, a5, a6, a7))
    (H : ∀ n c qn b1 b2 b3 b4 b5 b6 b7, qf_FM f qn (fun Q => M Q + M' Q) b1 b2 b3 b4 b5 b6 → qf_FM (1 - f) q' M' b1 b2 b3 b4 b5 b6 → post n (c, b1, b2, b3, b4, b5, b6, b7)) :
    wpX_pour post (rc, a1, a2, a3, a4, a5, a6, a7) (nI f) := by
  obtain ⟨h2, h1, q3, q6⟩ := qf_FM_held h
  obtain ⟨h2', h1', q3', q6'⟩ := qf_FM_held h'
  have h64 := qf_p2 q6
  have h64' := qf_p2 q6'
  have hlt := qf_FM_lt h
  have hlt' := qf_FM_lt h'
  have ht : a2 0 + a2 1 = nI (M (fun _ => true) + M' (fun _ => true)) := by
    rcases (show f = 0 ∨ f = 1 by omega) with e | e
    · subst e
      rw [h2, h2', nI_add]
    · subst e
      rw [h2, show a2 0 = _ from h2', nI_add, Nat.add_comm]
  have main : (M (fun _ => true) + M' (fun _ => true) ≤ 63) → ∀ d b, b + d = 6 → q ≤ b → wX_pour_40 post (nI f) (nI (M (fun _ => true) + M' (fun _ => true))) rc a1 a2 a3 a4 a5 a6 a7 (d + 1) (nI b) := by
    intro h63 d
    induction d with
    | zero =>
      intro b hb hqb
      rw [show b = 6 by omega]
      refine br_t (nI_le (b := 63) h63 (by decide)) (And.intro (qf_if hf) ?_)
      rw [qf_cf hf, h1]
      refine pk_le 6 q (fun e => ?_) (fun e => ?_)
      · have e2 : q = 6 := by omega
        subst e2
        exact qf_po71 hf h h' (by omega) (fun n c b2 b3 b4 b5 b6 b7 x y => H n c 6 a1 b2 b3 b4 b5 b6 b7 x y)
      · refine qf_resize (q' := 6) hf h (by omega) (by omega) (by omega) (fun c b2 b3 b4 b5 b6 b7 hK hF => ?_)
        exact qf_po71 hf hF (qf_frame (by omega) hK (pk_un (by omega)) h') (by omega) (fun n c b2 b3 b4 b5 b6 b7 x y => H n c 6 _ b2 b3 b4 b5 b6 b7 x y)
    | succ d ih =>
      intro b hb hqb
      have pb := qf_p2 (show b < 7 by omega)
      have e1 : (1 : Int32) <<< (nI b &&& 31) - 1 = nI (2 ^ b - 1) := by
        rw [qf_sl b (by omega)]
        exact pk_sub (b := 1) pb.1
      refine pk_le (M (fun _ => true) + M' (fun _ => true)) (2 ^ b - 1) (fun t => And.intro (qf_if hf) ?_) (fun t => nm_r (nI_1 b) (ih (b + 1) (by omega) (by omega))) rfl e1
      rw [qf_cf hf, h1]
      refine pk_le b q (fun e => ?_) (fun e => ?_)
      · have e2 : b = q := by omega
        subst e2
        exact qf_po71 hf h h' (by omega) (fun n c b2 b3 b4 b5 b6 b7 x y => H n c b a1 b2 b3 b4 b5 b6 b7 x y)
      · refine qf_resize (q' := b) hf h (by omega) (by omega) (by omega) (fun c b2 b3 b4 b5 b6 b7 hK hF => ?_)
        exact qf_po71 hf hF (qf_frame (by omega) hK (pk_un (by omega)) h') (by omega) (fun n c b2 b3 b4 b5 b6 b7 x y => H n c b _ b2 b3 b4 b5 b6 b7 x y)
  unfold wpX_pour
  dsimp only
  refine qf_isFilter hf (br_f (by decide) (nm_r ht (pk_le (M (fun _ => true) + M' (fun _ => true)) 63 (fun t => And.intro (qf_if hf) ?_) (fun _ => H0))))
  rw [qf_cf hf, h1]
  exact nm_e ⟨6 - q + 1, main t (6 - q) q (by omega) (Nat.le_refl _)⟩
end
end
section
/-- filter 0 holds M0, filter 1 something -/
def qf_S (M0 : (Nat → Bool) → Nat) (a1 a2 a3 a4 a5 a6 : Nat → Int32) : Prop := (∃ q, qf_FM 0 q M0 a1 a2 a3 a4 a5 a6) ∧ ∃ q M, qf_FM 1 q M a1 a2 a3 a4 a5 a6
/-- as of a's and bs of b's are in filter 0 -/
def qf_AB (pa pb na nb : Nat) (M : (Nat → Bool) → Nat) : Prop := ∀ u, (if u = pa then na else 0) + (if u = pb then nb else 0) ≤ M (qf_eq u)
theorem qf_AB_mono {pa pb na nb : Nat} {M M' : (Nat → Bool) → Nat} (h : qf_AB pa pb na nb M) (e : ∀ u, M (qf_eq u) ≤ M' (qf_eq u)) : qf_AB pa pb na nb M' := fun u => Nat.le_trans (h u) (e u)
theorem qf_AB_a {pa pb na nb : Nat} {M : (Nat → Bool) → Nat} (h : qf_AB pa pb na nb M) : na ≤ M (qf_eq pa) := by
  have t := h pa
  rw [if_pos rfl] at t
  omega
theorem qf_AB_b {pa pb na nb : Nat} {M : (Nat → Bool) → Nat} (h : qf_AB pa pb na nb M) : nb ≤ M (qf_eq pb) := by
  have t := h pb
  rw [if_pos rfl] at t
  omega
theorem qf_AB_addA {pa pb na nb : Nat} {M : (Nat → Bool) → Nat} (h : qf_AB pa pb na nb M) : qf_AB pa pb (na + 1) nb (fun Q => M Q + (if Q pa = true then 1 else 0)) := by
  intro u
  have t := h u
  show _ ≤ M (qf_eq u) + (if qf_eq u pa = true then 1 else 0)
  by_cases c : u = pa
  · rw [show qf_eq u pa = true from beq_iff_eq.mpr c.symm]
    rw [if_pos c] at t ⊢
    simp only [if_true]
    omega
  · rw [if_neg c] at t ⊢
    omega
theorem qf_AB_addB {pa pb na nb : Nat} {M : (Nat → Bool) → Nat} (h : qf_AB pa pb na nb M) : qf_AB pa pb na (nb + 1) (fun Q => M Q + (if Q pb = true then 1 else 0)) := by
  intro u
  have t := h u
  show _ ≤ M (qf_eq u) + (if qf_eq u pb = true then 1 else 0)
  by_cases c : u = pb
  · rw [show qf_eq u pb = true from beq_iff_eq.mpr c.symm]
    rw [if_pos c] at t
    rw [if_pos c]
    simp only [if_true]
    omega
  · rw [if_neg c] at t
    rw [if_neg c]
    omega
theorem qf_AB_subA {pa pb na nb : Nat} {M M' : (Nat → Bool) → Nat} (h : qf_AB pa pb na nb M) (hn : 1 ≤ na) (e : ∀ Q, M' Q + (if Q pa = true then 1 else 0) = M Q) : qf_AB pa pb (na - 1) nb M' := by
  intro u
  have t := h u
  have e2 := e (qf_eq u)
  by_cases c : u = pa
  · rw [show qf_eq u pa = true from beq_iff_eq.mpr c.symm] at e2
    rw [if_pos c] at t ⊢
    simp only [if_true] at e2
    omega
  · rw [show qf_eq u pa = false from beq_eq_false_iff_ne.mpr (fun d => c d.symm)] at e2
    rw [if_neg c] at t ⊢
    simp only [Bool.false_eq_true, if_false] at e2
    omega
theorem qf_AB_subB {pa pb na nb : Nat} {M M' : (Nat → Bool) → Nat} (h : qf_AB pa pb na nb M) (hn : 1 ≤ nb) (e : ∀ Q, M' Q + (if Q pb = true then 1 else 0) = M Q) : qf_AB pa pb na (nb - 1) M' := by
  intro u
  have t := h u
  have e2 := e (qf_eq u)
  by_cases c : u = pb
  · rw [show qf_eq u pb = true from beq_iff_eq.mpr c.symm] at e2
    rw [if_pos c] at t
    rw [if_pos c]
    simp only [if_true] at e2
    omega
  · rw [show qf_eq u pb = false from beq_eq_false_iff_ne.mpr (fun d => c d.symm)] at e2
    rw [if_neg c] at t
    rw [if_neg c]
    simp only [Bool.false_eq_true, if_false] at e2
    omega
section
variable {a1 a2 a3 a4 a5 a6 b1 b2 b3 b4 b5 b6 : Nat → Int32} {M0 : (Nat → Bool) → Nat}
theorem qf_S_get {f : Nat} (hf : f < 2) (h : qf_S M0 a1 a2 a3 a4 a5 a6) : ∃ q M, qf_FM f q M a1 a2 a3 a4 a5 a6 ∧ (f = 0 → M = M0) := by
  obtain ⟨⟨q, h0⟩, q', M, h1⟩ := h
  rcases (show f = 0 ∨ f = 1 by omega) with e | e
  · subst e
    exact ⟨q, M0, h0, fun _ => rfl⟩
  · subst e
    exact ⟨q', M, h1, fun c => absurd c (by decide)⟩
theorem qf_S_put {f q : Nat} {M : (Nat → Bool) → Nat} (hf : f < 2) (h : qf_S M0 a1 a2 a3 a4 a5 a6) (hK : qf_Keep f a2 a3 a4 a5 a6 b2 b3 b4 b5 b6) (hb : ∀ k, k ≠ f → b1 k = a1 k) (hn : qf_FM f q M b1 b2 b3 b4 b5 b6) : qf_S (if f = 0 then M else M0) b1 b2 b3 b4 b5 b6 := by
  obtain ⟨⟨q0, h0⟩, q', M', h1⟩ := h
  rcases (show f = 0 ∨ f = 1 by omega) with e | e
  · subst e
    rw [if_pos rfl]
    exact ⟨⟨q, hn⟩, q', M', qf_frame (by decide) hK (hb 1 (by decide)) h1⟩
  · subst e
    rw [if_neg (by decide)]
    exact ⟨⟨q0, qf_frame (by decide) hK (hb 0 (by decide)) h0⟩, q, M, hn⟩
end
theorem qf_pr_lt {M : (Nat → Bool) → Nat} (h : qf_Ad M) {k : Nat} (hk : k < M (fun _ => true)) : qf_pr M k < 256 := by
  have t := qf_pr_K h hk
  rcases Nat.lt_or_ge (qf_pr M k) 256 with c | c
  · exact c
  · have m := qf_Ad_mono h c
    rw [h.2.2] at m
    have t1 := t.1
    omega
theorem qf_pv_le {M : (Nat → Bool) → Nat} (h : qf_Ad M) {k : Nat} (hk : k + 1 < M (fun _ => true)) : qf_pv M k ≤ qf_pv M (k + 1) := by
  unfold qf_pv
  rw [if_pos (by omega), if_pos hk]
  have b := qf_pr_lt h hk
  exact nI_le (qf_K_le h (by omega) (qf_pr_K h (by omega)) (qf_pr_K h hk)) (by omega)
theorem qf_lcmp {L i : Nat} (hL : L ≤ 260) (hi : i ≤ 300) : Int32.ofNat L - 3 < nI i ↔ L < i + 3 := by
  rw [Int32.lt_iff_toInt_lt]
  have e1 : (Int32.ofNat L - 3).toInt = (L : Int) - 3 := pk_sub_toInt (a := L) (b := 3) (by omega) (by decide)
  rw [e1, nI_toInt (by omega)]
  omega
section
variable {post : Int32 → Prop} {L : Nat} {xs : Nat → Int32} {J : Int32 → Int32 → Int32 → Int32 → (Nat → Int32) → (Nat → Int32) → (Nat → Int32) → (Nat → Int32) → (Nat → Int32) → (Nat → Int32) → (Nat → Int32) → Prop} {x2 x3 x6 rc : Int32} {kc ks f na nb : Nat} {a1 a2 a3 a4 a5 a6 a7 : Nat → Int32} {M0 : (Nat → Bool) → Nat}
theorem qf_461 {x4 x5 : Int32} {q : Nat} {M : (Nat → Bool) → Nat} (hf : f < 2) (h : qf_FM f q M a1 a2 a3 a4 a5 a6) (H : ∀ c b7, J x4 x5 (x6 + 3) c a1 a2 a3 a4 a5 a6 b7) : ∃ n, wL_law_461 post L xs J x2 x3 x4 x5 x6 (nI f) kc ks n 0 rc a1 a2 a3 a4 a5 a6 a7 := by
  obtain ⟨h2, h1, q3, q6⟩ := qf_FM_held h
  have hlt := qf_FM_lt h
  have h64 := qf_p2 q6
  have hAd := qf_FM_Ad h
  have main : ∀ (n k : Nat) (c : Int32) (b7 : Nat → Int32), k ≤ 64 → M (fun _ => true) ≤ k + n → wL_law_461 post L xs J x2 x3 x4 x5 x6 (nI f) kc ks (n + 1) (nI k) c a1 a2 a3 a4 a5 a6 b7 := by
    intro n
    induction n with
    | zero =>
      intro k c b7 _ hk
      unfold wL_law_461
      refine qf_count hf ?_
      rw [h2, nI_1]
      exact pk_le (M (fun _ => true)) (k + 1) (fun _ => nm_e (H c b7)) (fun z => absurd z (by omega))
    | succ n ih =>
      intro k c b7 _ hk
      unfold wL_law_461
      refine qf_count hf ?_
      rw [h2, nI_1]
      refine pk_le (M (fun _ => true)) (k + 1) (fun _ => nm_e (H c b7)) (fun z => ?_)
      refine qf_print hf h (by omega) (fun c1 d7 => qf_print hf h (by omega) (fun c2 e7 => ?_))
      exact br_t (qf_pv_le hAd z) (nm_e (ih (k + 1) c2 e7 (by omega) (by omega)))
  exact ⟨_, main (M (fun _ => true)) 0 rc a7 (by omega) (by omega)⟩
theorem qf_428 (hf : f < 2) (hS : qf_S M0 a1 a2 a3 a4 a5 a6) (hAB : qf_AB (qf_h x2) (qf_h x3) na nb M0) (H : ∀ c b7, J (nI na) (nI nb) (x6 + 3) c a1 a2 a3 a4 a5 a6 b7) : wL_law_428 post L xs J x2 x3 (nI na) (nI nb) x6 (nI f) kc ks rc a1 a2 a3 a4 a5 a6 a7 := by
  obtain ⟨q, M, hF, _⟩ := qf_S_get hf hS
  obtain ⟨⟨q0, h0⟩, _⟩ := hS
  obtain ⟨_, _, _, q6⟩ := qf_FM_held h0
  have h64 := qf_p2 q6
  have hlt := qf_FM_lt h0
  have la := qf_AB_a hAB
  have lb := qf_AB_b hAB
  have ma := qf_M_le h0 (qf_h_lt x2)
  have mb := qf_M_le h0 (qf_h_lt x3)
  have k442 : wL_law_442 post L xs J x2 x3 (nI na) (nI nb) x6 (nI f) kc ks rc a1 a2 a3 a4 a5 a6 a7 := by
    unfold wL_law_442
    refine pk_le nb 0 (fun _ => qf_461 hf hF H) (fun z => ?_)
    exact qf_maybe (f := 0) (by decide) h0 (by omega) (br_f (by decide) (qf_461 hf hF H))
  unfold wL_law_428
  refine pk_le na 0 (fun _ => k442) (fun z => ?_)
  exact qf_maybe (f := 0) (by decide) h0 (by omega) (br_f (by decide) k442)
end
end
section
section
variable {L : Nat} {xs : Nat → Int32} {J : Int32 → Int32 → Int32 → Int32 → (Nat → Int32) → (Nat → Int32) → (Nat → Int32) → (Nat → Int32) → (Nat → Int32) → (Nat → Int32) → (Nat → Int32) → Prop} {x2 x3 x6 rc : Int32} {kc ks f na nb : Nat} {a1 a2 a3 a4 a5 a6 a7 : Nat → Int32} {M0 : (Nat → Bool) → Nat}
theorem qf_ifM {f : Nat} {M M0 M' : (Nat → Bool) → Nat} (hM : f = 0 → M = M0) (e : ∀ u, M (qf_eq u) ≤ M' (qf_eq u)) : ∀ u, M0 (qf_eq u) ≤ (if f = 0 then M' else M0) (qf_eq u) := by
  intro u
  by_cases c : f = 0
  · rw [if_pos c, ← hM c]
    exact e u
  · rw [if_neg c]
    exact Nat.le_refl _
theorem qf_424 {post : Int32 → Prop} {z0 : Int32} (hf : f < 2) (hS : qf_S M0 a1 a2 a3 a4 a5 a6) (hAB : qf_AB (qf_h x2) (qf_h x3) na nb M0)
    (FIN : ∀ M' na' nb' c b1 b2 b3 b4 b5 b6 b7, qf_S M' b1 b2 b3 b4 b5 b6 → qf_AB (qf_h x2) (qf_h x3) na' nb' M' → wL_law_428 post L xs J x2 x3 (nI na') (nI nb') x6 (nI f) kc ks c b1 b2 b3 b4 b5 b6 b7) :
    wL_law_424 post L xs J x2 x3 (nI na) (nI nb) x6 (nI f) z0 (nI f) kc ks rc a1 a2 a3 a4 a5 a6 a7 := by
  obtain ⟨q, M, hF, hM⟩ := qf_S_get hf hS
  unfold wL_law_424
  refine qf_add hf hF (FIN M0 na nb _ _ _ _ _ _ _ _ hS hAB) (fun n b2 b3 b4 b5 b6 _ _ hK hF2 => ?_)
  exact FIN _ na nb _ _ _ _ _ _ _ _ (qf_S_put hf hS hK (fun k _ => rfl) hF2) (qf_AB_mono hAB (qf_ifM hM (fun u => Nat.le_add_right _ _)))
theorem qf_136 {post : Int32 → Prop} {q : Nat} {M : (Nat → Bool) → Nat} (hf : f < 2) (hS : qf_S M0 a1 a2 a3 a4 a5 a6) (hAB : qf_AB (qf_h x2) (qf_h x3) na nb M0) (hF : qf_FM f q M a1 a2 a3 a4 a5 a6) (hM : f = 0 → M = M0)
    (FIN : ∀ M' na' nb' c b1 b2 b3 b4 b5 b6 b7, qf_S M' b1 b2 b3 b4 b5 b6 → qf_AB (qf_h x2) (qf_h x3) na' nb' M' → wL_law_428 post L xs J x2 x3 (nI na') (nI nb') x6 (nI f) kc ks c b1 b2 b3 b4 b5 b6 b7) :
    wL_law_136 post L xs J x2 x3 (nI na) (nI nb) x6 (nI f) (qf_sv M 64) (nI (2 ^ q)) kc ks rc a1 a2 a3 a4 a5 a6 a7 := by
  unfold wL_law_136
  refine qf_grow hf hF (fun e => ?_) (fun e c b2 b3 b4 b5 b6 b7 hK hF2 => ?_)
  · refine qf_sum hf hF (fun c d7 => br_t rfl (br_t (by decide) (br_t rfl (br_t ?_ (FIN M0 na nb _ _ _ _ _ _ _ _ hS hAB)))))
    rw [e]
    rfl
  · obtain ⟨_, h1, _, q6⟩ := qf_FM_held hF2
    have p2 : 2 ^ (q + 1) = 2 * 2 ^ q := by rw [Nat.pow_succ, Nat.mul_comm]
    have p3 := qf_p2 q6
    refine qf_sum hf hF2 (fun c d7 => br_t rfl (br_f (nI_nle p3.1 (by omega)) (br_t ?_ (qf_size hf h1 q6 (br_t rfl (FIN _ na nb _ _ _ _ _ _ _ _ (qf_S_put hf hS hK (fun k hk => pk_un hk) hF2) (qf_AB_mono hAB (qf_ifM hM (fun u => Nat.le_refl _)))))))))
    rw [p2]
    exact (pk_mul 2 (2 ^ q)).symm
theorem qf_law29 (hL : L ≤ 260) : ∀ (n i na nb : Nat) (M0 : (Nat → Bool) → Nat) (rc : Int32) (a1 a2 a3 a4 a5 a6 a7 : Nat → Int32), i ≤ L + 3 → L + 3 < i + n → qf_S M0 a1 a2 a3 a4 a5 a6 → qf_AB (qf_h x2) (qf_h x3) na nb M0 →
    wL_law_29 (fun r => r = 1) L xs x2 x3 kc ks n (nI na) (nI nb) (nI i) rc a1 a2 a3 a4 a5 a6 a7 := by
  intro n
  induction n with
  | zero =>
    intro i na nb M0 rc a1 a2 a3 a4 a5 a6 a7 h1 h2 _ _
    omega
  | succ n ih =>
    intro i na nb M0 rc a1 a2 a3 a4 a5 a6 a7 hi1 hi2 hS hAB
    refine br_c (fun _ => rfl) (fun hc => ?_)
    rw [qf_lcmp hL (by omega)] at hc
    refine And.intro (pk_in (i + 1) L (by omega) (nI_1 i)) ?_
    obtain ⟨f, hf, ef⟩ := pk_andE (xs (nI i + 1).toNatClampNeg) (m := 1) 1 (by decide)
    rw [ef]
    clear ef
    refine nm_e (And.intro (pk_in (i + 2) L (by omega) (nI_add i 2)) (nm_e ?_))
    generalize xs (nI i + 2).toNatClampNeg = x8
    obtain ⟨q, M, hF, hM⟩ := qf_S_get hf hS
    obtain ⟨h2, h1, q3, q6⟩ := qf_FM_held hF
    have p64 := qf_p2 q6
    have FIN : ∀ M' na' nb' c b1 b2 b3 b4 b5 b6 b7, qf_S M' b1 b2 b3 b4 b5 b6 → qf_AB (qf_h x2) (qf_h x3) na' nb' M' → wL_law_428 (fun r => r = 1) L xs (wL_law_29 (fun r => r = 1) L xs x2 x3 kc ks n) x2 x3 (nI na') (nI nb') (nI i) (nI f) kc ks c b1 b2 b3 b4 b5 b6 b7 := by
      intro M' na' nb' c b1 b2 b3 b4 b5 b6 b7 hS' hAB'
      refine qf_428 hf hS' hAB' (fun c' b7' => ?_)
      rw [show nI i + 3 = nI (i + 3) from nI_add i 3]
      exact ih (i + 3) na' nb' M' c' b1 b2 b3 b4 b5 b6 b7' (by omega) (by omega) hS' hAB'
    obtain ⟨⟨q0, hF0⟩, q1, M1, hF1⟩ := hS
    have hS : qf_S M0 a1 a2 a3 a4 a5 a6 := ⟨⟨q0, hF0⟩, q1, M1, hF1⟩
    obtain ⟨_, _, _, q60⟩ := qf_FM_held hF0
    have hlt0 := qf_FM_lt hF0
    have p640 := qf_p2 q60
    have la := qf_AB_a hAB
    have lb := qf_AB_b hAB
    have ma := qf_M_le hF0 (qf_h_lt x2)
    have mb := qf_M_le hF0 (qf_h_lt x3)
    refine qf_sum hf hF (fun c1 b7 => qf_size hf h1 q6 (And.intro (pk_in i L (by omega)) ?_))
    obtain ⟨k, hk, ek⟩ := pk_andE (xs (nI i).toNatClampNeg) (m := 15) 4 (by decide)
    rw [ek]
    clear ek
    refine nm_e ?_
    have G0 := FIN M0 na nb c1 a1 a2 a3 a4 a5 a6 b7 hS hAB
    refine br_f (nI_pos (by omega)) (pk_lt 10 k (fun _ => br_c (fun _ => qf_424 hf hS hAB FIN) (fun _ => qf_424 hf hS hAB FIN)) (fun h10 => ?_))
    refine pk_eq k 0 (fun _ => qf_136 hf hS hAB hF hM FIN) (fun n0 => pk_eq k 1 (fun _ => qf_136 hf hS hAB hF hM FIN) (fun n1 => pk_eq k 2 (fun _ => ?_) (fun n2 => ?_)))
    · refine qf_shrink hf hF ?_ (fun q' eq c b2 b3 b4 b5 b6 b7 hK hF2 => ?_)
      · exact qf_sum hf hF (fun c d7 => br_t rfl (br_t (by decide) (br_t rfl (qf_size hf h1 q6 (br_t rfl (FIN M0 na nb _ _ _ _ _ _ _ _ hS hAB))))))
      · obtain ⟨_, h1', _, q6'⟩ := qf_FM_held hF2
        have p2 : 2 ^ (q' + 1) = 2 * 2 ^ q' := by rw [Nat.pow_succ, Nat.mul_comm]
        have p3 := qf_p2 q6'
        refine qf_sum hf hF2 (fun c d7 => br_t rfl (br_f (nI_nle p3.1 (by omega)) (br_t ?_ (qf_size hf h1' q6' (br_t rfl (FIN _ na nb _ _ _ _ _ _ _ _ (qf_S_put hf hS hK (fun k hk => pk_un hk) hF2) (qf_AB_mono hAB (qf_ifM hM (fun u => Nat.le_refl _)))))))))
        rw [eq, p2]
        exact pk_mul 2 (2 ^ q')
    refine pk_eq k 3 (fun _ => ?_) (fun n3 => pk_eq k 4 (fun _ => ?_) (fun n4 => pk_eq k 5 (fun _ => pk_le na 0 (fun _ => G0) (fun z => ?_)) (fun n5 => pk_eq k 6 (fun _ => pk_le nb 0 (fun _ => G0) (fun z => ?_)) (fun n6 => ?_))))
    · refine qf_add (f := 0) (by decide) hF0 (br_t (by decide) G0) (fun n b2 b3 b4 b5 b6 l1 l2 hK hF2 => br_f (nI_nle l1 (by omega)) (nm_r (nI_1 na) ?_))
      exact FIN _ (na + 1) nb _ _ _ _ _ _ _ _ (qf_S_put (f := 0) (by decide) hS hK (fun k _ => rfl) hF2) (qf_AB_addA hAB)
    · refine qf_add (f := 0) (by decide) hF0 (br_t (by decide) G0) (fun n b2 b3 b4 b5 b6 l1 l2 hK hF2 => br_f (nI_nle l1 (by omega)) (nm_r (nI_1 nb) ?_))
      exact FIN _ na (nb + 1) _ _ _ _ _ _ _ _ (qf_S_put (f := 0) (by decide) hS hK (fun k _ => rfl) hF2) (qf_AB_addB hAB)
    · refine qf_remove (f := 0) (by decide) hF0 (fun e => absurd e (by omega)) (fun n c b2 b3 b4 b5 b6 b7 M' l1 hK hF2 hM2 => br_t (nI_pos' (by omega)) (nm_r (sb_m1 (by omega)) ?_))
      exact FIN _ (na - 1) nb _ _ _ _ _ _ _ _ (qf_S_put (f := 0) (by decide) hS hK (fun k _ => rfl) hF2) (qf_AB_subA hAB (by omega) hM2)
    · refine qf_remove (f := 0) (by decide) hF0 (fun e => absurd e (by omega)) (fun n c b2 b3 b4 b5 b6 b7 M' l1 hK hF2 hM2 => br_t (nI_pos' (by omega)) (nm_r (sb_m1 (by omega)) ?_))
      exact FIN _ na (nb - 1) _ _ _ _ _ _ _ _ (qf_S_put (f := 0) (by decide) hS hK (fun k _ => rfl) hF2) (qf_AB_subB hAB (by omega) hM2)
    refine pk_eq k 7 (fun _ => br_c (fun _ => ?_) (fun _ => G0)) (fun n7 => pk_eq k 8 (fun _ => br_c (fun _ => ?_) (fun _ => G0)) (fun n8 => pk_eq k 9 (fun _ => br_c (fun _ => ?_) (fun _ => G0)) (fun n9 => pk_eq k 10 (fun _ => ?_) (fun n10 => trivial))))
    · refine qf_clear (f := 1) (by decide) hF1 (fun n b2 b4 b5 b6 hK hF2 => ?_)
      exact FIN M0 na nb _ _ _ _ _ _ _ _ (qf_S_put (f := 1) (by decide) hS hK (fun k _ => rfl) hF2) hAB
    · refine qf_pour (f := 1) (by decide) hF1 hF0 G0 (fun n c qn b1 b2 b3 b4 b5 b6 b7 x y => ?_)
      exact FIN M0 na nb _ _ _ _ _ _ _ _ ⟨⟨_, y⟩, _, _, x⟩ hAB
    · refine qf_pour (f := 0) (by decide) hF0 hF1 G0 (fun n c qn b1 b2 b3 b4 b5 b6 b7 x y => ?_)
      exact FIN _ na nb _ _ _ _ _ _ _ _ ⟨⟨_, x⟩, _, _, y⟩ (qf_AB_mono hAB (fun u => Nat.le_add_right _ _))
    · refine qf_remove (f := 1) (by decide) hF1 (fun e => G0) (fun n c b2 b3 b4 b5 b6 b7 M' l1 hK hF2 hM2 => ?_)
      exact FIN M0 na nb _ _ _ _ _ _ _ _ (qf_S_put (f := 1) (by decide) hS hK (fun k _ => rfl) hF2) hAB
end
theorem qf_cell {post : Int32 → Prop} {L : Nat} {xs : Nat → Int32} {p1 : Nat} (hL : L ≤ 260) (hp : p1 < 2) (H : ∀ r, post r) : wpL_cell post L xs () (nI p1) := by
  unfold wpL_cell
  exact pk_le L p1 (fun _ => H _) (fun z => ⟨pk_in p1 L z, H _⟩)
theorem i_vc (xs : Nat → Int32) (L : Nat) (hL : L ≤ 260) : wpL_law (fun r => r = 1) L xs := by
  unfold wpL_law
  refine ⟨7, 580, by decide, by decide, ?_⟩
  unfold wpX_init
  refine ⟨by decide, by decide, by decide, by decide, by decide, by decide, by decide, by decide, by decide, by decide, by decide, by decide, by decide, by decide, nm_e (nm_e ?_)⟩
  refine qf_cell (p1 := 0) hL (by decide) (fun x2 => qf_cell (p1 := 1) hL (by decide) (fun x3 => ⟨L + 2, ?_⟩))
  refine qf_law29 hL (L + 2) 2 0 0 (fun _ => 0) 0 _ _ _ _ _ _ _ (by omega) (by omega) ⟨⟨3, ?_⟩, 3, fun _ => 0, ?_⟩ (fun u => ?_)
  · exact qf_FM0 (by decide) (by decide) rfl rfl (fun k _ => ⟨rfl, rfl, rfl⟩)
  · exact qf_FM0 (by decide) (by decide) rfl rfl (fun k _ => ⟨rfl, rfl, rfl⟩)
  · split <;> split <;> omega
end
