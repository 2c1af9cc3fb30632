section
theorem pk_us {f : Nat → Int32} {k : Nat} {x : Int32} : upd f k x k = x := if_pos rfl
theorem pk_un {f : Nat → Int32} {k j : Nat} {x : Int32} (h : j ≠ k) : upd f k x j = f j := if_neg h
theorem pk_sub {a b : Nat} (h : b ≤ a) : nI a - nI b = nI (a - b) := by
  obtain ⟨c, rfl⟩ : ∃ c, a = c + b := ⟨a - b, by omega⟩
  rw [← nI_add, Int32.add_sub_cancel, Nat.add_sub_cancel]
theorem pk_m1 (n : Nat) : nI (n + 1) + (-1) = nI n := by
  rw [← nI_1, Int32.add_assoc, show (1 : Int32) + (-1) = 0 from rfl, Int32.add_zero]
theorem pk_mul (a b : Nat) : nI a * nI b = nI (a * b) := (Int32.ofNat_mul a b).symm
theorem pk_div {a d : Nat} (ha : a < 2 ^ 31) (h0 : 0 < d) (hd : d < 2 ^ 31) : nI a / nI d = nI (a / d) := by
  apply Int32.toInt_inj.mp
  rw [lg_idiv_nonneg (by rw [nI_toInt ha]; omega) (by rw [nI_toInt hd]; omega), nI_toInt ha, nI_toInt hd, nI_toInt (Nat.lt_of_le_of_lt (Nat.div_le_self a d) ha)]
  first | rfl | exact (Int.natCast_ediv _ _).symm
theorem pk_rem {a d : Nat} (ha : a < 2 ^ 31) (h0 : 0 < d) (hd : d < 2 ^ 31) : nI a - nI a / nI d * nI d = nI (a % d) := by
  rw [pk_div ha h0 hd, pk_mul, pk_sub (Nat.div_mul_le_self a d)]
  exact congrArg nI (by have := Nat.div_add_mod' a d; omega)
theorem pk_tn {n : Nat} (h : n < 2 ^ 32) : (nI n).toBitVec.toNat = n := Nat.mod_eq_of_lt h
theorem pk_and (x : Int32) {m : Int32} (k : Nat) (hm : m.toBitVec.toNat = 2 ^ k - 1) : x &&& m = nI (x.toBitVec.toNat % 2 ^ k) := by
  apply Int32.toBitVec_inj.mp
  apply BitVec.eq_of_toNat_eq
  rw [Int32.toBitVec_and, BitVec.toNat_and, hm, Nat.and_two_pow_sub_one_eq_mod]
  show _ = (BitVec.ofNat 32 _).toNat
  rw [BitVec.toNat_ofNat]
  exact (Nat.mod_eq_of_lt (Nat.lt_of_le_of_lt (Nat.mod_le _ _) x.toBitVec.isLt)).symm
theorem pk_andE (x : Int32) {m : Int32} (k : Nat) (hm : m.toBitVec.toNat = 2 ^ k - 1) : ∃ j : Nat, j < 2 ^ k ∧ x &&& m = nI j := ⟨_, Nat.mod_lt _ (Nat.two_pow_pos k), pk_and x k hm⟩
end
section
section ZN1
/-! names as numbers: zn_num a k is the name of the first k labels -/
def zn_I (f : Nat → Nat) : Nat → Int32 := fun i => nI (f i)
theorem zn_Ia (f : Nat → Nat) (i : Nat) : zn_I f i = nI (f i) := rfl
def zn_up (f : Nat → Nat) (k x : Nat) : Nat → Nat := fun j => if j = k then x else f j
theorem zn_us {f : Nat → Nat} {k x : Nat} : zn_up f k x k = x := if_pos rfl
theorem zn_un {f : Nat → Nat} {k x j : Nat} (h : j ≠ k) : zn_up f k x j = f j := if_neg h
theorem zn_upI (f : Nat → Nat) (k x : Nat) : upd (zn_I f) k (nI x) = zn_I (zn_up f k x) := by
  funext j
  by_cases h : j = k
  · rw [h, pk_us, zn_Ia, zn_us]
  · rw [pk_un h, zn_Ia, zn_Ia, zn_un h]
theorem zn_I0 : zn_I (fun _ => 0) = fun _ => 0 := rfl
def zn_num (a : Nat → Nat) : Nat → Nat
  | 0 => 0
  | k + 1 => 9 * zn_num a k + a k + 1
def zn_D (a : Nat → Nat) : Prop := ∀ i, a i < 8
theorem zn_num_s (a : Nat → Nat) (k : Nat) : zn_num a (k + 1) = 9 * zn_num a k + a k + 1 := rfl
theorem zn_div {a : Nat → Nat} (D : zn_D a) (k : Nat) : zn_num a (k + 1) / 9 = zn_num a k := by
  have := D k
  rw [zn_num_s]
  omega
theorem zn_mod {a : Nat → Nat} (D : zn_D a) (k : Nat) : zn_num a (k + 1) % 9 = a k + 1 := by
  have := D k
  rw [zn_num_s]
  omega
theorem zn_pos (a : Nat → Nat) {k : Nat} (h : 0 < k) : 0 < zn_num a k := by
  obtain ⟨j, rfl⟩ : ∃ j, k = j + 1 := ⟨k - 1, by omega⟩
  rw [zn_num_s]
  omega
theorem zn_lt {a : Nat → Nat} (D : zn_D a) : ∀ k, zn_num a k < 9 ^ k := by
  intro k
  induction k with
  | zero => exact Nat.one_pos
  | succ k ih =>
    have := D k
    rw [zn_num_s, Nat.pow_succ]
    omega
theorem zn_lt4 {a : Nat → Nat} (D : zn_D a) {k : Nat} (h : k ≤ 4) : zn_num a k < 6561 := by
  have h1 := zn_lt D k
  have h2 : 9 ^ k ≤ 9 ^ 4 := Nat.pow_le_pow_right (by decide) h
  have h3 : 9 ^ 4 = 6561 := by decide
  omega
theorem zn_congr {a b : Nat → Nat} : ∀ k, (∀ i, i < k → a i = b i) → zn_num a k = zn_num b k := by
  intro k
  induction k with
  | zero => intro _; rfl
  | succ k ih =>
    intro h
    rw [zn_num_s, zn_num_s, ih (fun i hi => h i (by omega)), h k (by omega)]
theorem zn_inj {a b : Nat → Nat} (Da : zn_D a) (Db : zn_D b) : ∀ k l, zn_num a k = zn_num b l → k = l ∧ ∀ i, i < k → a i = b i := by
  intro k
  induction k with
  | zero =>
    intro l h
    cases l with
    | zero => exact ⟨rfl, fun i hi => absurd hi (by omega)⟩
    | succ l =>
      have h1 := zn_pos b (k := l + 1) (by omega)
      have h2 : zn_num a 0 = 0 := rfl
      omega
  | succ k ih =>
    intro l h
    cases l with
    | zero =>
      have h1 := zn_pos a (k := k + 1) (by omega)
      have h2 : zn_num b 0 = 0 := rfl
      omega
    | succ l =>
      have h1 := zn_div Da k
      have h2 := zn_div Db l
      have h3 := zn_mod Da k
      have h4 := zn_mod Db l
      rw [h] at h1 h3
      have h5 : zn_num a k = zn_num b l := h1.symm.trans h2
      obtain ⟨e, g⟩ := ih l h5
      refine ⟨by omega, fun i hi => ?_⟩
      by_cases hk : i = k
      · subst hk
        subst e
        omega
      · exact g i (by omega)
theorem zn_injk {a : Nat → Nat} (D : zn_D a) {k l : Nat} (h : zn_num a k = zn_num a l) : k = l := (zn_inj D D k l h).1
def zn_Nm (m : Nat) : Prop := ∃ a k, zn_D a ∧ k ≤ 4 ∧ m = zn_num a k
theorem zn_Nm_lt {m : Nat} (h : zn_Nm m) : m < 6561 := by
  obtain ⟨a, k, D, hk, rfl⟩ := h
  exact zn_lt4 D hk
theorem zn_D0 : zn_D (fun _ => 0) := fun _ => Nat.zero_lt_succ 7
theorem zn_Nm_0 : zn_Nm 0 := ⟨fun _ => 0, 0, zn_D0, by omega, rfl⟩
/-! a division by a power of nine takes labels away -/
theorem zn_dp {a : Nat → Nat} (D : zn_D a) (l : Nat) : ∀ s, zn_num a l / 9 ^ s = zn_num a (l - s) := by
  intro s
  induction s with
  | zero => rw [Nat.pow_zero, Nat.div_one, Nat.sub_zero]
  | succ s ih =>
    rw [Nat.pow_succ, ← Nat.div_div_eq_div_mul, ih]
    by_cases h : s < l
    · obtain ⟨j, hj⟩ : ∃ j, l - s = j + 1 := ⟨l - s - 1, by omega⟩
      rw [hj, zn_div D, show l - (s + 1) = j from by omega]
    · rw [show l - s = 0 from by omega, show l - (s + 1) = 0 from by omega]
      exact Nat.zero_div 9
/-! covers -/
def zn_cvF : Nat → Nat → Nat → Bool
  | 0, _, _ => false
  | d + 1, m, b => if b = m then true else zn_cvF d m (b / 9)
theorem zn_cvF_s (d m b : Nat) : zn_cvF (d + 1) m b = if b = m then true else zn_cvF d m (b / 9) := rfl
def zn_cv (m b : Nat) : Bool := zn_cvF 5 m b
theorem zn_cvF_0 : ∀ d m, zn_cvF d m 0 = true → m = 0 := by
  intro d
  induction d with
  | zero => intro m h; exact absurd h (by intro z; cases z)
  | succ d ih =>
    intro m h
    rw [zn_cvF_s] at h
    by_cases e : 0 = m
    · exact e.symm
    · rw [if_neg e] at h
      exact ih m h
theorem zn_cvF_iff {p : Nat → Nat} (D : zn_D p) (m : Nat) : ∀ l d, l < d → (zn_cvF d m (zn_num p l) = true ↔ ∃ k, k ≤ l ∧ m = zn_num p k) := by
  intro l
  induction l with
  | zero =>
    intro d hd
    obtain ⟨d, rfl⟩ : ∃ j, d = j + 1 := ⟨d - 1, by omega⟩
    constructor
    · intro h
      exact ⟨0, by omega, zn_cvF_0 (d + 1) m h⟩
    · intro h
      obtain ⟨k, hk, e⟩ := h
      have e0 : k = 0 := by omega
      subst e0
      rw [zn_cvF_s, if_pos e.symm]
  | succ l ih =>
    intro d hd
    obtain ⟨d, rfl⟩ : ∃ j, d = j + 1 := ⟨d - 1, by omega⟩
    rw [zn_cvF_s]
    by_cases e : zn_num p (l + 1) = m
    · rw [if_pos e]
      exact ⟨fun _ => ⟨l + 1, by omega, e.symm⟩, fun _ => rfl⟩
    · rw [if_neg e, zn_div D, ih d (by omega)]
      constructor
      · intro h
        obtain ⟨k, hk, g⟩ := h
        exact ⟨k, by omega, g⟩
      · intro h
        obtain ⟨k, hk, g⟩ := h
        have : k ≠ l + 1 := fun z => e (by rw [g, z])
        exact ⟨k, by omega, g⟩
theorem zn_cv_iff {p : Nat → Nat} (D : zn_D p) {l : Nat} (hl : l ≤ 4) (m : Nat) : zn_cv m (zn_num p l) = true ↔ ∃ k, k ≤ l ∧ m = zn_num p k := zn_cvF_iff D m l 5 (by omega)
theorem zn_cv_self (b : Nat) : zn_cv b b = true := by
  show zn_cvF (4 + 1) b b = true
  rw [zn_cvF_s, if_pos rfl]
/-! counting -/
def zn_cn (q : Nat → Bool) : Nat → Nat
  | 0 => 0
  | h + 1 => zn_cn q h + (if q h = true then 1 else 0)
theorem zn_cn_s (q : Nat → Bool) (h : Nat) : zn_cn q (h + 1) = zn_cn q h + (if q h = true then 1 else 0) := rfl
theorem zn_cn_t {q : Nat → Bool} {h : Nat} (e : q h = true) : zn_cn q (h + 1) = zn_cn q h + 1 := by rw [zn_cn_s, if_pos e]
theorem zn_cn_f {q : Nat → Bool} {h : Nat} (e : q h = false) : zn_cn q (h + 1) = zn_cn q h := by
  rw [zn_cn_s, if_neg (by rw [e]; decide), Nat.add_zero]
theorem zn_cn_congr {q r : Nat → Bool} : ∀ h, (∀ e, e < h → q e = r e) → zn_cn q h = zn_cn r h := by
  intro h
  induction h with
  | zero => intro _; rfl
  | succ h ih =>
    intro g
    rw [zn_cn_s, zn_cn_s, ih (fun e he => g e (by omega)), g h (by omega)]
theorem zn_cn_le (q : Nat → Bool) : ∀ h, zn_cn q h ≤ h := by
  intro h
  induction h with
  | zero => exact Nat.le_refl 0
  | succ h ih =>
    rw [zn_cn_s]
    split <;> omega
theorem zn_cn_pos {q : Nat → Bool} : ∀ h, 0 < zn_cn q h ↔ ∃ e, e < h ∧ q e = true := by
  intro h
  induction h with
  | zero =>
    constructor
    · intro z
      have : zn_cn q 0 = 0 := rfl
      omega
    · intro z
      obtain ⟨e, he, _⟩ := z
      omega
  | succ h ih =>
    cases hq : q h with
    | true =>
      rw [zn_cn_t hq]
      exact ⟨fun _ => ⟨h, by omega, hq⟩, fun _ => by omega⟩
    | false =>
      rw [zn_cn_f hq, ih]
      constructor
      · intro z
        obtain ⟨e, he, g⟩ := z
        exact ⟨e, by omega, g⟩
      · intro z
        obtain ⟨e, he, g⟩ := z
        have : e ≠ h := fun z => by rw [z, hq] at g; cases g
        exact ⟨e, by omega, g⟩
theorem zn_cn_mono {q r : Nat → Bool} : ∀ h, (∀ e, e < h → q e = true → r e = true) → zn_cn q h ≤ zn_cn r h := by
  intro h
  induction h with
  | zero => intro _; exact Nat.le_refl 0
  | succ h ih =>
    intro g
    have i := ih (fun e he => g e (by omega))
    cases hq : q h with
    | true =>
      rw [zn_cn_t hq, zn_cn_t (g h (by omega) hq)]
      omega
    | false =>
      rw [zn_cn_f hq, zn_cn_s]
      omega
theorem zn_cn_lt {q r : Nat → Bool} (e : Nat) (h1 : q e = false) (h2 : r e = true) : ∀ h, e < h → (∀ e, e < h → q e = true → r e = true) → zn_cn q h < zn_cn r h := by
  intro h
  induction h with
  | zero => intro z _; omega
  | succ h ih =>
    intro he g
    by_cases z : e = h
    · subst z
      have i := zn_cn_mono e (fun f hf => g f (by omega))
      rw [zn_cn_f h1, zn_cn_t h2]
      omega
    · have i := ih (by omega) (fun e he => g e (by omega))
      cases hq : q h with
      | true =>
        rw [zn_cn_t hq, zn_cn_t (g h (by omega) hq)]
        omega
      | false =>
        rw [zn_cn_f hq, zn_cn_s]
        omega
def zn_b (x : Bool) : Nat := if x = true then 1 else 0
theorem zn_cn_b (q : Nat → Bool) (h : Nat) : zn_cn q (h + 1) = zn_cn q h + zn_b (q h) := rfl
theorem zn_cn_pt {q r : Nat → Bool} {k : Nat} (g : ∀ e, e ≠ k → r e = q e) : ∀ h, k < h → zn_cn r h + zn_b (q k) = zn_cn q h + zn_b (r k) := by
  intro h
  induction h with
  | zero => intro z; omega
  | succ h ih =>
    intro hk
    rw [zn_cn_b, zn_cn_b]
    by_cases z : k = h
    · subst z
      rw [zn_cn_congr k (fun e he => g e (by omega))]
      omega
    · have i := ih (by omega)
      rw [g h (fun z' => z z'.symm)]
      omega
/-- the last of h + 1 put at place k -/
theorem zn_cn_swap {q r : Nat → Bool} {k h : Nat} (hk : k ≤ h) (gk : k < h → r k = q h) (g : ∀ e, e ≠ k → e < h → r e = q e) : zn_cn r h + zn_b (q k) = zn_cn q (h + 1) := by
  rw [zn_cn_b]
  by_cases z : k = h
  · subst z
    rw [zn_cn_congr k (fun e he => g e (by omega) he)]
  · have hk' : k < h := by omega
    have i := zn_cn_pt (q := q) (r := fun e => if e = k then q h else q e) (k := k) (fun e he => if_neg he) h hk'
    have j : zn_cn r h = zn_cn (fun e => if e = k then q h else q e) h := zn_cn_congr h (fun e he => by
      by_cases ze : e = k
      · subst ze
        rw [gk he]
        exact (if_pos rfl).symm
      · rw [g e ze he]
        exact (if_neg ze).symm)
    rw [j, i]
    exact congrArg (fun x => zn_cn q h + zn_b x) (if_pos rfl)
/-! the number of entries at or below a name -/
def zn_W (nm : Nat → Nat) (h : Nat) (m : Nat) : Nat := zn_cn (fun e => zn_cv m (nm e)) h
theorem zn_W_pos {nm : Nat → Nat} {h m : Nat} : 0 < zn_W nm h m ↔ ∃ e, e < h ∧ zn_cv m (nm e) = true := zn_cn_pos h
theorem zn_W_le (nm : Nat → Nat) (h m : Nat) : zn_W nm h m ≤ h := zn_cn_le _ h
theorem zn_W_cl {nm : Nat → Nat} {h : Nat} (N : ∀ e, e < h → zn_Nm (nm e)) (m l : Nat) (hl : l < 8) (h0 : zn_W nm h m = 0) : zn_W nm h (9 * m + l + 1) = 0 := by
  apply Nat.eq_zero_of_not_pos
  intro z
  obtain ⟨e, he, g⟩ := zn_W_pos.mp z
  obtain ⟨p, k, D, hk, ek⟩ := N e he
  rw [ek] at g
  obtain ⟨j, hj, ej⟩ := (zn_cv_iff D hk _).mp g
  have hj0 : j ≠ 0 := fun z => by
    rw [z] at ej
    have : zn_num p 0 = 0 := rfl
    omega
  obtain ⟨i, rfl⟩ : ∃ i, j = i + 1 := ⟨j - 1, by omega⟩
  have h2 : 0 < zn_W nm h m := zn_W_pos.mpr ⟨e, he, by
    rw [ek]
    refine (zn_cv_iff D hk _).mpr ⟨i, by omega, ?_⟩
    rw [← zn_div D i, ← ej]
    omega⟩
  omega
theorem zn_W_add {nm : Nat → Nat} {h x : Nat} (m : Nat) : zn_W (zn_up nm h x) (h + 1) m = zn_W nm h m + zn_b (zn_cv m x) := by
  show zn_cn _ (h + 1) = zn_cn _ h + _
  rw [zn_cn_b]
  rw [zn_cn_congr (r := fun e => zn_cv m (nm e)) h (fun e he => by rw [zn_un (by omega)])]
  rw [zn_us]
theorem zn_W_rem {nm : Nat → Nat} {h k : Nat} (hk : k ≤ h) (m : Nat) : zn_W (zn_up nm k (nm h)) h m + zn_b (zn_cv m (nm k)) = zn_W nm (h + 1) m :=
  zn_cn_swap (q := fun e => zn_cv m (nm e)) hk (fun _ => by rw [zn_us]) (fun e he _ => by rw [zn_un he])
/-! pigeons -/
theorem zn_php : ∀ (n : Nat) (f : Nat → Nat), (∀ i, i < n + 1 → f i < n) → ∃ i j, i < j ∧ j < n + 1 ∧ f i = f j := by
  intro n
  induction n with
  | zero => intro f h; exact absurd (h 0 (by omega)) (by omega)
  | succ n ih =>
    intro f h
    by_cases z : ∃ i, i < n + 1 ∧ f i = f (n + 1)
    · obtain ⟨i, hi, e⟩ := z
      exact ⟨i, n + 1, hi, by omega, e⟩
    · have hz : ∀ i, i < n + 1 → f i ≠ f (n + 1) := fun i hi e => z ⟨i, hi, e⟩
      obtain ⟨i, j, h1, h2, h3⟩ := ih (fun i => if f i = n then f (n + 1) else f i) (fun i hi => by
        have a := h i (by omega)
        have b := h (n + 1) (by omega)
        have c := hz i hi
        show (if f i = n then f (n + 1) else f i) < n
        split <;> omega)
      refine ⟨i, j, h1, by omega, ?_⟩
      have c1 := hz i (by omega)
      have c2 := hz j (by omega)
      have h4 : (if f i = n then f (n + 1) else f i) = (if f j = n then f (n + 1) else f j) := h3
      by_cases e1 : f i = n <;> by_cases e2 : f j = n
      · omega
      · rw [if_pos e1, if_neg e2] at h4
        omega
      · rw [if_neg e1, if_pos e2] at h4
        omega
      · rw [if_neg e1, if_neg e2] at h4
        exact h4
/-- more nodes than codes: R i c, a code belongs to one node alone -/
theorem zn_phr {n N : Nat} (R : Nat → Nat → Prop) (hN : n < N) (h : ∀ i, i < N → ∃ c, c < n ∧ R i c) (u : ∀ i j c, i < N → j < N → R i c → R j c → i = j) : False := by
  have hc : ∀ i, ∃ c, i < N → c < n ∧ R i c := fun i => by
    by_cases hi : i < N
    · obtain ⟨c, g⟩ := h i hi
      exact ⟨c, fun _ => g⟩
    · exact ⟨0, fun z => absurd z hi⟩
  obtain ⟨i, j, h1, h2, h3⟩ := zn_php n (fun i => Classical.choose (hc i)) (fun i hi => (Classical.choose_spec (hc i) (by omega)).1)
  have gi := (Classical.choose_spec (hc i) (by omega)).2
  have gj := (Classical.choose_spec (hc j) (by omega)).2
  have h4 : Classical.choose (hc i) = Classical.choose (hc j) := h3
  rw [h4] at gi
  have := u i j _ (by omega) (by omega) gi gj
  omega
end ZN1
end
section
section ZT1
def zt_lv (be : Nat → Nat) (n : Nat) : Prop := n < 100 ∧ (n = 0 ∨ 0 < be n)
def zt_ch (w ch no be : Nat → Nat) (n l : Nat) : Prop :=
  (ch (8 * n + l) = 0 ∧ w (9 * no n + l + 1) = 0) ∨ (0 < ch (8 * n + l) ∧ ch (8 * n + l) < 100 ∧ 0 < be (ch (8 * n + l)) ∧ no (ch (8 * n + l)) = 9 * no n + l + 1)
def zt_TI (w ch no be : Nat → Nat) : Prop :=
  no 0 = 0 ∧ (∀ n, zt_lv be n → zn_Nm (no n) ∧ be n = w (no n)) ∧ (∀ n l, zt_lv be n → l < 8 → zt_ch w ch no be n l) ∧
  (∀ n l, n < 100 → 0 < n → be n = 0 → l < 8 → ch (8 * n + l) = 0) ∧ (∀ n n', zt_lv be n → zt_lv be n' → no n = no n' → n = n') ∧
  (∀ m l, l < 8 → w m = 0 → w (9 * m + l + 1) = 0)
theorem zt_lv0 (be : Nat → Nat) : zt_lv be 0 := ⟨by omega, Or.inl rfl⟩
theorem zt_lvp {be : Nat → Nat} {n : Nat} (h : n < 100) (hp : 0 < be n) : zt_lv be n := ⟨h, Or.inr hp⟩
theorem zt_be_le {w ch no be : Nat → Nat} (T : zt_TI w ch no be) (hw : ∀ m, w m ≤ 30) (n : Nat) (hn : n < 100) : be n ≤ 30 := by
  by_cases h : zt_lv be n
  · rw [(T.2.1 n h).2]
    exact hw _
  · have : ¬ 0 < be n := fun z => h ⟨hn, Or.inr z⟩
    omega
/-! the way down -/
def zt_nd (ch p : Nat → Nat) : Nat → Nat
  | 0 => 0
  | k + 1 => ch (8 * zt_nd ch p k + p k)
theorem zt_nd_s (ch p : Nat → Nat) (k : Nat) : zt_nd ch p (k + 1) = ch (8 * zt_nd ch p k + p k) := rfl
theorem zt_wup {w : Nat → Nat} {p : Nat → Nat} (D : zn_D p) (C : ∀ m l, l < 8 → w m = 0 → w (9 * m + l + 1) = 0) {k : Nat} (h : w (zn_num p k) = 0) : ∀ j, k ≤ j → w (zn_num p j) = 0 := by
  intro j
  induction j with
  | zero =>
    intro hj
    have : k = 0 := by omega
    subst this
    exact h
  | succ j ih =>
    intro hj
    by_cases e : k = j + 1
    · subst e
      exact h
    · exact C _ _ (D j) (ih (by omega))
theorem zt_wdn {w : Nat → Nat} {p : Nat → Nat} (D : zn_D p) (C : ∀ m l, l < 8 → w m = 0 → w (9 * m + l + 1) = 0) {k j : Nat} (h : 0 < w (zn_num p k)) (hj : j ≤ k) : 0 < w (zn_num p j) := by
  apply Nat.pos_of_ne_zero
  intro z
  have := zt_wup D C z k hj
  omega
theorem zt_step {w ch no be p : Nat → Nat} (T : zt_TI w ch no be) (D : zn_D p) {k : Nat} (hl : zt_lv be (zt_nd ch p k)) (hn : no (zt_nd ch p k) = zn_num p k) :
    (zt_nd ch p (k + 1) = 0 ∧ w (zn_num p (k + 1)) = 0) ∨ (0 < zt_nd ch p (k + 1) ∧ zt_nd ch p (k + 1) < 100 ∧ 0 < be (zt_nd ch p (k + 1)) ∧ no (zt_nd ch p (k + 1)) = zn_num p (k + 1)) := by
  have h := T.2.2.1 _ _ hl (D k)
  unfold zt_ch at h
  rw [hn] at h
  exact h
theorem zt_nd_ok {w ch no be p : Nat → Nat} (T : zt_TI w ch no be) (D : zn_D p) : ∀ k, (k = 0 ∨ 0 < w (zn_num p k)) → zt_lv be (zt_nd ch p k) ∧ no (zt_nd ch p k) = zn_num p k := by
  intro k
  induction k with
  | zero => intro _; exact ⟨zt_lv0 be, T.1⟩
  | succ k ih =>
    intro h
    have hw : 0 < w (zn_num p (k + 1)) := by
      rcases h with h | h
      · omega
      · exact h
    obtain ⟨a, b⟩ := ih (Or.inr (zt_wdn D T.2.2.2.2.2 hw (by omega)))
    rcases zt_step T D a b with h1 | h1
    · omega
    · exact ⟨zt_lvp h1.2.1 h1.2.2.1, h1.2.2.2⟩
theorem zt_nd_z {w ch no be p : Nat → Nat} (T : zt_TI w ch no be) (D : zn_D p) {k : Nat} (h : k = 0 ∨ 0 < w (zn_num p k)) (hz : w (zn_num p (k + 1)) = 0) : zt_nd ch p (k + 1) = 0 := by
  obtain ⟨a, b⟩ := zt_nd_ok T D k h
  rcases zt_step T D a b with h1 | h1
  · exact h1.1
  · have h2 := (T.2.1 _ (zt_lvp h1.2.1 h1.2.2.1)).2
    rw [h1.2.2.2] at h2
    omega
theorem zt_nd_p {w ch no be p : Nat → Nat} (T : zt_TI w ch no be) (D : zn_D p) {k : Nat} (hz : 0 < w (zn_num p (k + 1))) : 0 < zt_nd ch p (k + 1) := by
  obtain ⟨a, b⟩ := zt_nd_ok T D k (Or.inr (zt_wdn D T.2.2.2.2.2 hz (by omega)))
  rcases zt_step T D a b with h1 | h1
  · omega
  · exact h1.1
/-! one entry more: a node that is there -/
theorem zt_g1 {w ch no be : Nat → Nat} {x l M c : Nat} (T : zt_TI w ch no be) (hx : zt_lv be x) (hl : l < 8) (hw : 0 < w (no x)) (hM : M = 9 * no x + l + 1) (hc : c = ch (8 * x + l)) (h0 : c ≠ 0) :
    zt_TI (zn_up w M (w M + 1)) ch no (zn_up be c (be c + 1)) := by
  obtain ⟨t1, t2, t3, t4, t5, t6⟩ := T
  have hcc : c < 100 ∧ 0 < be c ∧ no c = M := by
    have h := t3 x l hx hl
    unfold zt_ch at h
    rw [← hc, ← hM] at h
    rcases h with h | h
    · exact absurd h.1 h0
    · exact h.2
  obtain ⟨c1, c2, c3⟩ := hcc
  have hb : ∀ n, 0 < zn_up be c (be c + 1) n ↔ 0 < be n := by
    intro n
    by_cases e : n = c
    · rw [e, zn_us]
      omega
    · rw [zn_un e]
  have hlv : ∀ n, zt_lv (zn_up be c (be c + 1)) n ↔ zt_lv be n := by
    intro n
    unfold zt_lv
    rw [hb n]
  refine ⟨t1, ?_, ?_, ?_, ?_, ?_⟩
  · intro n hn
    rw [hlv] at hn
    refine ⟨(t2 n hn).1, ?_⟩
    by_cases e : n = c
    · rw [e, zn_us, c3, zn_us, (t2 c (zt_lvp c1 c2)).2, c3]
    · have : no n ≠ M := fun z => e (t5 n c hn (zt_lvp c1 c2) (z.trans c3.symm))
      rw [zn_un e, zn_un this]
      exact (t2 n hn).2
  · intro n k hn hk
    rw [hlv] at hn
    rcases t3 n k hn hk with h | h
    · refine Or.inl ⟨h.1, ?_⟩
      rw [zn_un, h.2]
      intro z
      have e1 : no n = no x := by omega
      have e2 := t5 n x hn hx e1
      have e3 : k = l := by omega
      rw [e2, e3, ← hc] at h
      exact h0 h.1
    · exact Or.inr ⟨h.1, h.2.1, (hb _).mpr h.2.2.1, h.2.2.2⟩
  · intro n k hn hp hz hk
    exact t4 n k hn hp (by have := hb n; omega) hk
  · intro n n' hn hn'
    rw [hlv] at hn hn'
    exact t5 n n' hn hn'
  · intro m k hk hz
    have hm : m ≠ M := fun z => by
      rw [z, zn_us] at hz
      omega
    rw [zn_un hm] at hz
    rw [zn_un, t6 m k hk hz]
    intro z
    have : m = no x := by omega
    rw [this] at hz
    omega
/-! one entry more: a node that is made -/
theorem zt_g0 {w ch no be : Nat → Nat} {x l M f : Nat} (T : zt_TI w ch no be) (hx : zt_lv be x) (hl : l < 8) (hw : 0 < w (no x)) (hM : M = 9 * no x + l + 1) (hc : ch (8 * x + l) = 0) (hN : zn_Nm M) (f0 : 0 < f) (f1 : f < 100) (f2 : be f = 0) :
    zt_TI (zn_up w M (w M + 1)) (zn_up ch (8 * x + l) f) (zn_up no f M) (zn_up be f (be f + 1)) := by
  obtain ⟨t1, t2, t3, t4, t5, t6⟩ := T
  have hwM : w M = 0 := by
    have h := t3 x l hx hl
    unfold zt_ch at h
    rw [← hM, hc] at h
    rcases h with h | h
    · exact h.2
    · omega
  have hfx : x ≠ f := fun z => by
    rcases hx.2 with h | h
    · omega
    · rw [z] at h
      omega
  have hnf : ∀ n, zt_lv be n → n ≠ f := fun n hn z => by
    rcases hn.2 with h | h
    · omega
    · rw [z] at h
      omega
  have hnM : ∀ n, zt_lv be n → no n ≠ M := fun n hn z => by
    have h := (t2 n hn).2
    rw [z, hwM] at h
    rcases hn.2 with h1 | h1
    · rw [h1, t1] at z
      omega
    · omega
  have hlv : ∀ n, zt_lv (zn_up be f (be f + 1)) n → n = f ∨ zt_lv be n := by
    intro n hn
    by_cases e : n = f
    · exact Or.inl e
    · unfold zt_lv at hn
      rw [zn_un e] at hn
      exact Or.inr hn
  refine ⟨?_, ?_, ?_, ?_, ?_, ?_⟩
  · rw [zn_un (by omega)]
    exact t1
  · intro n hn
    rcases hlv n hn with e | e
    · rw [e, zn_us, zn_us, zn_us, f2, hwM]
      exact ⟨hN, rfl⟩
    · rw [zn_un (hnf n e), zn_un (hnf n e), zn_un (hnM n e)]
      exact t2 n e
  · intro n k hn hk
    rcases hlv n hn with e | e
    · subst e
      refine Or.inl ⟨?_, ?_⟩
      · rw [zn_un (by omega)]
        exact t4 n k f1 f0 f2 hk
      · rw [zn_us, zn_un (by omega)]
        exact t6 M k hk hwM
    · unfold zt_ch
      rw [zn_un (f := no) (hnf n e)]
      by_cases z : 8 * n + k = 8 * x + l
      · have e1 : n = x := by omega
        have e2 : k = l := by omega
        subst e1
        subst e2
        rw [zn_us, zn_us, zn_us]
        exact Or.inr ⟨f0, f1, by omega, hM⟩
      · rw [zn_un (f := ch) z]
        rcases t3 n k e hk with h | h
        · refine Or.inl ⟨h.1, ?_⟩
          rw [zn_un, h.2]
          intro z2
          have e1 : no n = no x := by omega
          have e2 := t5 n x e hx e1
          have e3 : k = l := by omega
          exact z (by rw [e2, e3])
        · have hcf : ch (8 * n + k) ≠ f := fun z2 => by
            have := h.2.2.1
            rw [z2] at this
            omega
          refine Or.inr ⟨h.1, h.2.1, ?_, ?_⟩
          · rw [zn_un hcf]
            exact h.2.2.1
          · rw [zn_un hcf]
            exact h.2.2.2
  · intro n k hn hp hz hk
    have e : n ≠ f := fun z => by
      rw [z, zn_us] at hz
      omega
    rw [zn_un e] at hz
    have e2 : 8 * n + k ≠ 8 * x + l := fun z => by
      have e3 : n = x := by omega
      rcases hx.2 with h | h
      · omega
      · rw [← e3] at h
        omega
    rw [zn_un e2]
    exact t4 n k hn hp hz hk
  · intro n n' hn hn'
    rcases hlv n hn with e | e
    · rcases hlv n' hn' with e' | e'
      · intro _
        rw [e, e']
      · rw [e, zn_us, zn_un (hnf n' e')]
        intro z
        exact absurd z.symm (hnM n' e')
    · rcases hlv n' hn' with e' | e'
      · rw [e', zn_us, zn_un (hnf n e)]
        intro z
        exact absurd z (hnM n e)
      · rw [zn_un (hnf n e), zn_un (hnf n' e')]
        exact t5 n n' e e'
  · intro m k hk hz
    have hm : m ≠ M := fun z => by
      rw [z, zn_us] at hz
      omega
    rw [zn_un hm] at hz
    rw [zn_un, t6 m k hk hz]
    intro z
    have : m = no x := by omega
    rw [this] at hz
    omega
/-! one entry more: the empty name -/
theorem zt_gr {w ch no be : Nat → Nat} (T : zt_TI w ch no be) : zt_TI (zn_up w 0 (w 0 + 1)) ch no (zn_up be 0 (be 0 + 1)) := by
  obtain ⟨t1, t2, t3, t4, t5, t6⟩ := T
  have hlv : ∀ n, zt_lv (zn_up be 0 (be 0 + 1)) n → zt_lv be n := by
    intro n hn
    by_cases e : n = 0
    · exact ⟨hn.1, Or.inl e⟩
    · unfold zt_lv at hn
      rw [zn_un e] at hn
      exact hn
  refine ⟨t1, ?_, ?_, ?_, ?_, ?_⟩
  · intro n hn
    have hn := hlv n hn
    refine ⟨(t2 n hn).1, ?_⟩
    by_cases e : n = 0
    · rw [e, zn_us, t1, zn_us, (t2 0 (zt_lv0 be)).2, t1]
    · have : no n ≠ 0 := fun z => e (t5 n 0 hn (zt_lv0 be) (z.trans t1.symm))
      rw [zn_un e, zn_un this]
      exact (t2 n hn).2
  · intro n k hn hk
    rcases t3 n k (hlv n hn) hk with h | h
    · refine Or.inl ⟨h.1, ?_⟩
      rw [zn_un (by omega)]
      exact h.2
    · refine Or.inr ⟨h.1, h.2.1, ?_, h.2.2.2⟩
      rw [zn_un (by omega)]
      exact h.2.2.1
  · intro n k hn hp hz hk
    rw [zn_un (by omega)] at hz
    exact t4 n k hn hp hz hk
  · intro n n' hn hn'
    exact t5 n n' (hlv n hn) (hlv n' hn')
  · intro m k hk hz
    have hm : m ≠ 0 := fun z => by
      rw [z, zn_us] at hz
      omega
    rw [zn_un hm] at hz
    rw [zn_un (by omega)]
    exact t6 m k hk hz
/-! the weights on the way -/
def zt_pw (w p : Nat → Nat) : Nat → Nat → Nat
  | 0 => zn_up w 0 (w 0 + 1)
  | k + 1 => zn_up (zt_pw w p k) (zn_num p (k + 1)) (zt_pw w p k (zn_num p (k + 1)) + 1)
theorem zt_pw_s (w p : Nat → Nat) (k : Nat) : zt_pw w p (k + 1) = zn_up (zt_pw w p k) (zn_num p (k + 1)) (zt_pw w p k (zn_num p (k + 1)) + 1) := rfl
theorem zt_pwF {w p : Nat → Nat} (D : zn_D p) (m : Nat) : ∀ k, zt_pw w p k m = w m + zn_b (zn_cvF (k + 1) m (zn_num p k)) := by
  intro k
  induction k with
  | zero =>
    show zn_up w 0 (w 0 + 1) m = _
    rw [zn_cvF_s]
    by_cases e : m = 0
    · rw [e, zn_us, if_pos (show zn_num p 0 = 0 from rfl)]
      rfl
    · rw [zn_un e, if_neg (fun z : zn_num p 0 = m => e z.symm)]
      rfl
  | succ k ih =>
    rw [zt_pw_s, zn_cvF_s]
    by_cases e : m = zn_num p (k + 1)
    · have hf : zn_cvF (k + 1) m (zn_num p k) = false := by
        cases hz : zn_cvF (k + 1) m (zn_num p k) with
        | false => rfl
        | true =>
          obtain ⟨j, hj, g⟩ := (zn_cvF_iff D m k (k + 1) (by omega)).mp hz
          have := zn_injk D (e.symm.trans g)
          omega
      rw [hf] at ih
      rw [if_pos e.symm]
      subst e
      rw [zn_us, ih]
      rfl
    · rw [zn_un e, if_neg (fun z => e z.symm), zn_div D, ih]
theorem zt_pw_eq {w p : Nat → Nat} (D : zn_D p) {k : Nat} (hk : k ≤ 4) (m : Nat) : zt_pw w p k m = w m + zn_b (zn_cv m (zn_num p k)) := by
  rw [zt_pwF D]
  have : zn_cvF (k + 1) m (zn_num p k) = zn_cv m (zn_num p k) := by
    rw [Bool.eq_iff_iff, zn_cvF_iff D m k (k + 1) (by omega), zn_cv_iff D hk]
  rw [this]
/-! a free node -/
theorem zt_free {w ch no be nm : Nat → Nat} {h : Nat} (T : zt_TI w ch no be) (h24 : h ≤ 24) (hN : ∀ e, e < h → zn_Nm (nm e)) (hw : ∀ m, 0 < w m → ∃ e, e < h ∧ zn_cv m (nm e) = true) : ∃ f, 0 < f ∧ f < 100 ∧ be f = 0 := by
  obtain ⟨t1, t2, t3, t4, t5, t6⟩ := T
  apply Classical.byContradiction
  intro z
  have hb : ∀ f, 0 < f → f < 100 → zt_lv be f := fun f a b => ⟨b, Or.inr (Nat.pos_of_ne_zero (fun c => z ⟨f, a, b, c⟩))⟩
  refine zn_phr (n := 96) (N := 99) (fun i c => nm (c / 4) / 9 ^ (c % 4) = no (i + 1)) (by omega) ?_ ?_
  · intro i hi
    have hl := hb (i + 1) (by omega) (by omega)
    have h0 : no (i + 1) ≠ 0 := fun y => by
      have := t5 (i + 1) 0 hl (zt_lv0 be) (y.trans t1.symm)
      omega
    have hp : 0 < w (no (i + 1)) := by
      rw [← (t2 _ hl).2]
      rcases hl.2 with a | a
      · omega
      · exact a
    obtain ⟨e, he, g⟩ := hw _ hp
    obtain ⟨p, l, D, hl4, ee⟩ := hN e he
    rw [ee] at g
    obtain ⟨k, hk, gk⟩ := (zn_cv_iff D hl4 _).mp g
    have hk0 : k ≠ 0 := fun y => by
      rw [y] at gk
      exact h0 gk
    refine ⟨4 * e + (l - k), by omega, ?_⟩
    show nm ((4 * e + (l - k)) / 4) / 9 ^ ((4 * e + (l - k)) % 4) = no (i + 1)
    rw [show (4 * e + (l - k)) / 4 = e from by omega, show (4 * e + (l - k)) % 4 = l - k from by omega, ee, zn_dp D, show l - (l - k) = k from by omega, gk]
  · intro i j c hi hj a b
    have := t5 (i + 1) (j + 1) (hb _ (by omega) (by omega)) (hb _ (by omega) (by omega)) (a.symm.trans b)
    omega
end ZT1
end
section
section ZS1
def zs_be (be nd : Nat → Nat) : Nat → Nat → Nat
  | 0 => zn_up be 0 (be 0 - 1)
  | k + 1 => zn_up (zs_be be nd k) (nd (k + 1)) (zs_be be nd k (nd (k + 1)) - 1)
theorem zs_be_s (be nd : Nat → Nat) (k : Nat) : zs_be be nd (k + 1) = zn_up (zs_be be nd k) (nd (k + 1)) (zs_be be nd k (nd (k + 1)) - 1) := rfl
def zs_ch (ch be nd p : Nat → Nat) : Nat → Nat → Nat
  | 0 => ch
  | k + 1 => if zs_be be nd (k + 1) (nd (k + 1)) = 0 then zn_up (zs_ch ch be nd p k) (8 * nd k + p k) 0 else zs_ch ch be nd p k
theorem zs_ch_s (ch be nd p : Nat → Nat) (k : Nat) : zs_ch ch be nd p (k + 1) = if zs_be be nd (k + 1) (nd (k + 1)) = 0 then zn_up (zs_ch ch be nd p k) (8 * nd k + p k) 0 else zs_ch ch be nd p k := rfl
theorem zs_be_out {be nd : Nat → Nat} {n : Nat} (hz : nd 0 = 0) : ∀ k, (∀ j, j ≤ k → n ≠ nd j) → zs_be be nd k n = be n := by
  intro k
  induction k with
  | zero =>
    intro h
    have := h 0 (by omega)
    rw [hz] at this
    exact zn_un this
  | succ k ih =>
    intro h
    rw [zs_be_s, zn_un (h (k + 1) (by omega)), ih (fun j hj => h j (by omega))]
theorem zs_be_in {be nd : Nat → Nat} {L : Nat} (hz : nd 0 = 0) (hi : ∀ i j, i ≤ L → j ≤ L → nd i = nd j → i = j) : ∀ k, k ≤ L → ∀ j, j ≤ k → zs_be be nd k (nd j) = be (nd j) - 1 := by
  intro k
  induction k with
  | zero =>
    intro _ j hj
    have : j = 0 := by omega
    subst this
    rw [hz]
    exact zn_us
  | succ k ih =>
    intro hk j hj
    rw [zs_be_s]
    by_cases e : j = k + 1
    · subst e
      rw [zn_us, zs_be_out hz k (fun i hik z => by
        have := hi (k + 1) i hk (by omega) z
        omega)]
    · rw [zn_un (fun z => e (hi j (k + 1) (by omega) hk z)), ih (by omega) j (by omega)]
theorem zs_ch_out {ch be nd p : Nat → Nat} {i : Nat} : ∀ k, (∀ j, j < k → i ≠ 8 * nd j + p j) → zs_ch ch be nd p k i = ch i := by
  intro k
  induction k with
  | zero => intro _; rfl
  | succ k ih =>
    intro h
    rw [zs_ch_s]
    have e := ih (fun j hj => h j (by omega))
    split
    · rw [zn_un (h k (by omega)), e]
    · exact e
theorem zs_ch_in {ch be nd p : Nat → Nat} {L : Nat} (hz : nd 0 = 0) (D : zn_D p) (hi : ∀ i j, i ≤ L → j ≤ L → nd i = nd j → i = j) : ∀ k, k ≤ L → ∀ j, j < k → zs_ch ch be nd p k (8 * nd j + p j) = if be (nd (j + 1)) - 1 = 0 then 0 else ch (8 * nd j + p j) := by
  intro k
  induction k with
  | zero => intro _ j hj; omega
  | succ k ih =>
    intro hk j hj
    rw [zs_ch_s, zs_be_in hz hi (k + 1) hk (k + 1) (by omega)]
    by_cases e : j = k
    · subst e
      have h1 : zs_ch ch be nd p j (8 * nd j + p j) = ch (8 * nd j + p j) := zs_ch_out j (fun i hij z => by
        have d1 := D i
        have d2 := D j
        have := hi j i (by omega) (by omega) (by omega)
        omega)
      split
      · exact zn_us
      · exact h1
    · have h1 := ih (by omega) j (by omega)
      have h2 : 8 * nd j + p j ≠ 8 * nd k + p k := fun z => by
        have d1 := D k
        have d2 := D j
        have := hi j k (by omega) (by omega) (by omega)
        omega
      by_cases c : be (nd (k + 1)) - 1 = 0
      · rw [if_pos c, zn_un h2]
        exact h1
      · rw [if_neg c]
        exact h1
/-- the tree after one entry less on the whole way -/
theorem zs_TI {wo wn ch no be p : Nat → Nat} {L : Nat} (T : zt_TI wo ch no be) (D : zn_D p) (hL : L ≤ 4) (hp : 0 < wo (zn_num p L))
    (hw : ∀ m, wo m = wn m + zn_b (zn_cv m (zn_num p L))) (hcl : ∀ m l, l < 8 → wn m = 0 → wn (9 * m + l + 1) = 0) :
    zt_TI wn (zs_ch ch be (zt_nd ch p) p L) no (zs_be be (zt_nd ch p) L) := by
  have hk : ∀ k, k ≤ L → zt_lv be (zt_nd ch p k) ∧ no (zt_nd ch p k) = zn_num p k := fun k h => zt_nd_ok T D k (Or.inr (zt_wdn D T.2.2.2.2.2 hp h))
  obtain ⟨t1, t2, t3, t4, t5, t6⟩ := T
  have hz : zt_nd ch p 0 = 0 := rfl
  have hi : ∀ i j, i ≤ L → j ≤ L → zt_nd ch p i = zt_nd ch p j → i = j := fun i j a b e => zn_injk D ((hk i a).2.symm.trans ((congrArg no e).trans (hk j b).2))
  have h1 : ∀ j, j ≤ L → zn_cv (zn_num p j) (zn_num p L) = true := fun j hj => (zn_cv_iff D hL _).mpr ⟨j, hj, rfl⟩
  have hin : ∀ j, j ≤ L → zs_be be (zt_nd ch p) L (zt_nd ch p j) = wn (zn_num p j) ∧ be (zt_nd ch p j) = wn (zn_num p j) + 1 := by
    intro j hj
    have a := (t2 _ (hk j hj).1).2
    have b := hw (zn_num p j)
    rw [(hk j hj).2] at a
    rw [h1 j hj] at b
    have c : zn_b true = 1 := rfl
    rw [zs_be_in hz hi L (by omega) j hj]
    omega
  have hout : ∀ n, (∀ j, j ≤ L → n ≠ zt_nd ch p j) → zs_be be (zt_nd ch p) L n = be n := fun n h => zs_be_out hz L h
  have hle : ∀ n, zs_be be (zt_nd ch p) L n ≤ be n := by
    intro n
    by_cases c : ∃ j, j ≤ L ∧ n = zt_nd ch p j
    · obtain ⟨j, hj, e⟩ := c
      have := hin j hj
      rw [e]
      omega
    · rw [hout n (fun j hj e => c ⟨j, hj, e⟩)]
      exact Nat.le_refl _
  have hlv : ∀ n, zt_lv (zs_be be (zt_nd ch p) L) n → zt_lv be n := by
    intro n hn
    have := hle n
    refine ⟨hn.1, ?_⟩
    rcases hn.2 with a | a
    · exact Or.inl a
    · exact Or.inr (by omega)
  have hcv : ∀ n, zt_lv be n → zn_cv (no n) (zn_num p L) = true → ∃ j, j ≤ L ∧ n = zt_nd ch p j := by
    intro n hn h
    obtain ⟨j, hj, e⟩ := (zn_cv_iff D hL _).mp h
    exact ⟨j, hj, t5 n _ hn (hk j hj).1 (e.trans (hk j hj).2.symm)⟩
  have hwn : ∀ n, zt_lv be n → zs_be be (zt_nd ch p) L n = wn (no n) := by
    intro n hn
    by_cases c : ∃ j, j ≤ L ∧ n = zt_nd ch p j
    · obtain ⟨j, hj, e⟩ := c
      rw [e, (hin j hj).1, (hk j hj).2]
    · rw [hout n (fun j hj e => c ⟨j, hj, e⟩), (t2 n hn).2, hw]
      cases hb : zn_cv (no n) (zn_num p L) with
      | true => exact absurd (hcv n hn hb) c
      | false => rfl
  have hchz : ∀ i, ch i = 0 → zs_ch ch be (zt_nd ch p) p L i = 0 := by
    intro i h
    by_cases c : ∃ j, j < L ∧ i = 8 * zt_nd ch p j + p j
    · obtain ⟨j, hj, e⟩ := c
      rw [e, zs_ch_in hz D hi L (by omega) j hj]
      split
      · rfl
      · rw [← e]
        exact h
    · rw [zs_ch_out L (fun j hj e => c ⟨j, hj, e⟩)]
      exact h
  refine ⟨t1, ?_, ?_, ?_, ?_, hcl⟩
  · intro n hn
    exact ⟨(t2 n (hlv n hn)).1, hwn n (hlv n hn)⟩
  · intro n l hn hl
    have ho := hlv n hn
    unfold zt_ch
    by_cases c : ∃ j, j < L ∧ 8 * n + l = 8 * zt_nd ch p j + p j
    · obtain ⟨j, hj, e⟩ := c
      have dj := D j
      have e1 : n = zt_nd ch p j := by omega
      have e2 : l = p j := by omega
      have e3 : 9 * no n + l + 1 = zn_num p (j + 1) := by rw [e1, e2, (hk j (by omega)).2, zn_num_s]
      rw [e, zs_ch_in hz D hi L (by omega) j hj, e3]
      by_cases b : be (zt_nd ch p (j + 1)) - 1 = 0
      · rw [if_pos b]
        have := (hin (j + 1) (by omega)).2
        exact Or.inl ⟨rfl, by omega⟩
      · rw [if_neg b, ← zt_nd_s ch p j]
        have a1 := hin (j + 1) (by omega)
        have a2 := hk (j + 1) (by omega)
        refine Or.inr ⟨?_, a2.1.1, ?_, a2.2⟩
        · apply Nat.pos_of_ne_zero
          intro y
          have := hi (j + 1) 0 (by omega) (by omega) y
          omega
        · omega
    · rw [zs_ch_out L (fun j hj e => c ⟨j, hj, e⟩)]
      rcases t3 n l ho hl with h | h
      · refine Or.inl ⟨h.1, ?_⟩
        have := hw (9 * no n + l + 1)
        omega
      · refine Or.inr ⟨h.1, h.2.1, ?_, h.2.2.2⟩
        rw [hout]
        · exact h.2.2.1
        · intro j hj e
          have a := (hk j hj).2
          rw [← e, h.2.2.2] at a
          cases j with
          | zero =>
            have : zn_num p 0 = 0 := rfl
            omega
          | succ j =>
            rw [zn_num_s] at a
            have dj := D j
            have e1 : no n = no (zt_nd ch p j) := by
              rw [(hk j (by omega)).2]
              omega
            have e2 := t5 n _ ho (hk j (by omega)).1 e1
            exact c ⟨j, by omega, by omega⟩
  · intro n l hn h0 hb hl
    by_cases b : be n = 0
    · exact hchz _ (t4 n l hn h0 b hl)
    · have ho : zt_lv be n := zt_lvp hn (by omega)
      have c0 : ∃ j, j ≤ L ∧ n = zt_nd ch p j := by
        apply Classical.byContradiction
        intro c
        rw [hout n (fun j hj e => c ⟨j, hj, e⟩)] at hb
        omega
      obtain ⟨j, hj, e⟩ := c0
      have hwz : wn (no n) = 0 := by rw [← hwn n ho, hb]
      have hwc := hcl (no n) l hl hwz
      rcases t3 n l ho hl with h | h
      · exact hchz _ h.1
      · have hlc : zt_lv be (ch (8 * n + l)) := zt_lvp h.2.1 h.2.2.1
        have g1 := (t2 _ hlc).2
        rw [h.2.2.2, hw, hwc] at g1
        have g2 : zn_cv (9 * no n + l + 1) (zn_num p L) = true := by
          cases hb2 : zn_cv (9 * no n + l + 1) (zn_num p L) with
          | true => rfl
          | false =>
            rw [hb2] at g1
            have : zn_b false = 0 := rfl
            have := h.2.2.1
            omega
        obtain ⟨i, hi1, hi2⟩ := (zn_cv_iff D hL _).mp g2
        cases i with
        | zero =>
          have : zn_num p 0 = 0 := rfl
          omega
        | succ i =>
          rw [zn_num_s] at hi2
          have di := D i
          have e1 : no n = no (zt_nd ch p i) := by
            rw [(hk i (by omega)).2]
            omega
          have e2 := t5 n _ ho (hk i (by omega)).1 e1
          have e3 : l = p i := by
            rw [(hk i (by omega)).2] at e1
            omega
          rw [e2, e3, zs_ch_in hz D hi L (by omega) i (by omega)]
          have a1 := hin (i + 1) hi1
          have a2 : wn (zn_num p (i + 1)) = 0 := by
            rw [zn_num_s, ← hi2]
            exact hwc
          rw [if_pos (by omega)]
  · intro n n' hn hn'
    exact t5 n n' (hlv n hn) (hlv n' hn')
end ZS1
end
section
section ZX1
variable {kl a1 a2 a3 a4 al : Int32} {ak ac ao ab ae so va aq : Nat → Int32} {h : Nat} {x1 x2 x3 : Int32} {post : Int32 → Prop} {yk yl yp yr : Int32} {ym : Nat → Int32}
def zn_qI (A B : Nat → Int32) (x y : Int32) : Nat → Bool := fun e => decide (A e = x) && decide (B e = y)
theorem zn_qI_t {A B : Nat → Int32} {x y : Int32} {e : Nat} (a : A e = x) (b : B e = y) : zn_qI A B x y e = true := by
  unfold zn_qI
  rw [decide_eq_true a, decide_eq_true b]
  rfl
theorem zn_qI_f1 {A B : Nat → Int32} {x y : Int32} {e : Nat} (a : ¬ A e = x) : zn_qI A B x y e = false := by
  unfold zn_qI
  rw [decide_eq_false a]
  rfl
theorem zn_qI_f2 {A B : Nat → Int32} {x y : Int32} {e : Nat} (b : ¬ B e = y) : zn_qI A B x y e = false := by
  unfold zn_qI
  rw [decide_eq_false b]
  exact Bool.and_false _
theorem zn_qI_e {A B : Nat → Int32} {x y : Int32} {e : Nat} (a : zn_qI A B x y e = true) : A e = x ∧ B e = y := by
  by_cases z1 : A e = x
  · by_cases z2 : B e = y
    · exact ⟨z1, z2⟩
    · rw [zn_qI_f2 z2] at a
      cases a
  · rw [zn_qI_f1 z1] at a
    cases a
/-! count -/
theorem zx_cnt5 (h24 : h ≤ 24) (hp : post (nI (zn_cn (zn_qI ae so x1 x2) h))) : ∀ d e, e + d = h → wX_count_5 post x1 x2 kl (nI h) a1 a2 a3 a4 al ak ac ao ab ae so va aq (d + 1) (nI (zn_cn (zn_qI ae so x1 x2) e)) (nI e) := by
  intro d
  induction d with
  | zero =>
    intro e he
    have e0 : e = h := he
    rw [e0]
    exact br_t (nI_le (Nat.le_refl _) (by omega)) hp
  | succ d ih =>
    intro e he
    have hn : ¬ nI h ≤ nI e := nI_ge (by omega) (by omega)
    have hi : vp_in (nI e) 24 := vp_in_nI (by omega) (by omega)
    have ce : (nI e).toNatClampNeg = e := nI_clamp (by omega)
    have i := ih (e + 1) (by omega)
    refine br_f hn ⟨hi, ?_⟩
    rw [ce]
    by_cases z1 : ae e = x1
    · refine br_t z1 ⟨hi, ?_⟩
      by_cases z2 : so e = x2
      · rw [zn_cn_t (zn_qI_t z1 z2)] at i
        exact br_t z2 (nm_r (nI_1 _) (nm_r (nI_1 _) i))
      · rw [zn_cn_f (zn_qI_f2 z2)] at i
        exact br_f z2 (nm_r (Int32.add_zero _) (nm_r (nI_1 _) i))
    · rw [zn_cn_f (zn_qI_f1 z1)] at i
      exact br_f z1 (nm_r (Int32.add_zero _) (nm_r (nI_1 _) i))
theorem zx_count (h24 : h ≤ 24) (hp : post (nI (zn_cn (zn_qI ae so x1 x2) h))) : wpX_count post (kl, nI h, a1, a2, a3, a4, al, ak, ac, ao, ab, ae, so, va, aq) x1 x2 :=
  ⟨h + 1, zx_cnt5 h24 hp h 0 (by omega)⟩
theorem zy_cnt5 (h24 : h ≤ 24) (hp : post (nI (zn_cn (zn_qI ym so x1 x2) h))) : ∀ d e, e + d = h → wY_count_5 post x1 x2 (nI h) yk yl yp yr ym so va (d + 1) (nI (zn_cn (zn_qI ym so x1 x2) e)) (nI e) := by
  intro d
  induction d with
  | zero =>
    intro e he
    have e0 : e = h := he
    rw [e0]
    exact br_t (nI_le (Nat.le_refl _) (by omega)) hp
  | succ d ih =>
    intro e he
    have hn : ¬ nI h ≤ nI e := nI_ge (by omega) (by omega)
    have hi : vp_in (nI e) 24 := vp_in_nI (by omega) (by omega)
    have ce : (nI e).toNatClampNeg = e := nI_clamp (by omega)
    have i := ih (e + 1) (by omega)
    refine br_f hn ⟨hi, ?_⟩
    rw [ce]
    by_cases z1 : ym e = x1
    · refine br_t z1 ⟨hi, ?_⟩
      by_cases z2 : so e = x2
      · rw [zn_cn_t (zn_qI_t z1 z2)] at i
        exact br_t z2 (nm_r (nI_1 _) (nm_r (nI_1 _) i))
      · rw [zn_cn_f (zn_qI_f2 z2)] at i
        exact br_f z2 (nm_r (nI_1 _) i)
    · rw [zn_cn_f (zn_qI_f1 z1)] at i
      exact br_f z1 (nm_r (nI_1 _) i)
theorem zy_count (h24 : h ≤ 24) (hp : post (nI (zn_cn (zn_qI ym so x1 x2) h))) : wpY_count post (nI h, yk, yl, yp, yr, ym, so, va) x1 x2 :=
  ⟨h + 1, zy_cnt5 h24 hp h 0 (by omega)⟩
/-! the first entry of a value -/
def zn_fd (q : Nat → Bool) (v : Nat → Int32) (x : Int32) : Nat → Nat → Int32
  | 0, _ => -1
  | d + 1, e => if q e = true ∧ v e = x then nI e else zn_fd q v x d (e + 1)
theorem zn_fd_s (q : Nat → Bool) (v : Nat → Int32) (x : Int32) (d e : Nat) : zn_fd q v x (d + 1) e = if q e = true ∧ v e = x then nI e else zn_fd q v x d (e + 1) := rfl
theorem zn_fd_congr {q r : Nat → Bool} {v : Nat → Int32} {x : Int32} (g : ∀ e, e < h → q e = r e) : ∀ d e, e + d = h → zn_fd q v x d e = zn_fd r v x d e := by
  intro d
  induction d with
  | zero => intro e _; rfl
  | succ d ih =>
    intro e he
    rw [zn_fd_s, zn_fd_s, g e (by omega), ih (e + 1) (by omega)]
theorem zn_fd_spec {q : Nat → Bool} {v : Nat → Int32} {x : Int32} : ∀ d e, e + d = h → (zn_fd q v x d e = -1 ∧ ∀ f, e ≤ f → f < h → q f = true → v f ≠ x) ∨ (∃ f, f < h ∧ q f = true ∧ v f = x ∧ zn_fd q v x d e = nI f) := by
  intro d
  induction d with
  | zero =>
    intro e he
    exact Or.inl ⟨rfl, fun f h1 h2 => absurd h2 (by omega)⟩
  | succ d ih =>
    intro e he
    rw [zn_fd_s]
    by_cases c : q e = true ∧ v e = x
    · rw [if_pos c]
      exact Or.inr ⟨e, by omega, c.1, c.2, rfl⟩
    · rw [if_neg c]
      rcases ih (e + 1) (by omega) with i | i
      · refine Or.inl ⟨i.1, fun f h1 h2 h3 => ?_⟩
        by_cases z : f = e
        · rw [z] at h3 ⊢
          exact fun y => c ⟨h3, y⟩
        · exact i.2 f (by omega) h2 h3
      · exact Or.inr i
theorem zx_ea3 (h24 : h ≤ 24) : ∀ d e, e + d = h → post (zn_fd (zn_qI ae so x1 x2) va x3 d e) → wX_entryAt_3 post x1 x2 x3 kl (nI h) a1 a2 a3 a4 al ak ac ao ab ae so va aq (d + 1) (nI e) := by
  intro d
  induction d with
  | zero =>
    intro e he hp
    have e0 : e = h := he
    rw [e0]
    exact br_t (nI_le (Nat.le_refl _) (by omega)) hp
  | succ d ih =>
    intro e he hp
    rw [zn_fd_s] at hp
    have hn : ¬ nI h ≤ nI e := nI_ge (by omega) (by omega)
    have hi : vp_in (nI e) 24 := vp_in_nI (by omega) (by omega)
    have ce : (nI e).toNatClampNeg = e := nI_clamp (by omega)
    have i := ih (e + 1) (by omega)
    refine br_f hn ⟨hi, ?_⟩
    rw [ce]
    by_cases z1 : ae e = x1
    · refine br_t z1 ⟨hi, ?_⟩
      by_cases z2 : so e = x2
      · refine br_t z2 ⟨hi, ?_⟩
        by_cases z3 : va e = x3
        · rw [if_pos ⟨zn_qI_t z1 z2, z3⟩] at hp
          exact br_t z3 hp
        · rw [if_neg (fun y => z3 y.2)] at hp
          exact br_f z3 (nm_r (nI_1 _) (i hp))
      · rw [if_neg (fun y => z2 (zn_qI_e y.1).2)] at hp
        exact br_f z2 (nm_r (nI_1 _) (i hp))
    · rw [if_neg (fun y => z1 (zn_qI_e y.1).1)] at hp
      exact br_f z1 (nm_r (nI_1 _) (i hp))
theorem zx_entryAt (h24 : h ≤ 24) (hp : post (zn_fd (zn_qI ae so x1 x2) va x3 h 0)) : wpX_entryAt post (kl, nI h, a1, a2, a3, a4, al, ak, ac, ao, ab, ae, so, va, aq) x1 x2 x3 :=
  ⟨h + 1, zx_ea3 h24 h 0 (by omega) hp⟩
theorem zy_fd3 (h24 : h ≤ 24) : ∀ d e, e + d = h → post (zn_fd (zn_qI ym so x1 x2) va x3 d e) → wY_find_3 post x1 x2 x3 (nI h) yk yl yp yr ym so va (d + 1) (nI e) := by
  intro d
  induction d with
  | zero =>
    intro e he hp
    have e0 : e = h := he
    rw [e0]
    exact br_t (nI_le (Nat.le_refl _) (by omega)) hp
  | succ d ih =>
    intro e he hp
    rw [zn_fd_s] at hp
    have hn : ¬ nI h ≤ nI e := nI_ge (by omega) (by omega)
    have hi : vp_in (nI e) 24 := vp_in_nI (by omega) (by omega)
    have ce : (nI e).toNatClampNeg = e := nI_clamp (by omega)
    have i := ih (e + 1) (by omega)
    refine br_f hn ⟨hi, ?_⟩
    rw [ce]
    by_cases z1 : ym e = x1
    · refine br_t z1 ⟨hi, ?_⟩
      by_cases z2 : so e = x2
      · refine br_t z2 ⟨hi, ?_⟩
        by_cases z3 : va e = x3
        · rw [if_pos ⟨zn_qI_t z1 z2, z3⟩] at hp
          exact br_t z3 hp
        · rw [if_neg (fun y => z3 y.2)] at hp
          exact br_f z3 (nm_r (nI_1 _) (i hp))
      · rw [if_neg (fun y => z2 (zn_qI_e y.1).2)] at hp
        exact br_f z2 (nm_r (nI_1 _) (i hp))
    · rw [if_neg (fun y => z1 (zn_qI_e y.1).1)] at hp
      exact br_f z1 (nm_r (nI_1 _) (i hp))
theorem zy_find (h24 : h ≤ 24) (hp : post (zn_fd (zn_qI ym so x1 x2) va x3 h 0)) : wpY_find post (nI h, yk, yl, yp, yr, ym, so, va) x1 x2 x3 :=
  ⟨h + 1, zy_fd3 h24 h 0 (by omega) hp⟩
/-! the value with so many lesser ones -/
def zn_lq (q : Nat → Bool) (v : Nat → Int32) (e : Nat) : Nat → Bool := fun f => q f && !decide (v e ≤ v f)
theorem zn_lq_f1 {q : Nat → Bool} {v : Nat → Int32} {e f : Nat} (a : q f = false) : zn_lq q v e f = false := by
  unfold zn_lq
  rw [a]
  rfl
theorem zn_lq_f2 {q : Nat → Bool} {v : Nat → Int32} {e f : Nat} (a : v e ≤ v f) : zn_lq q v e f = false := by
  unfold zn_lq
  rw [decide_eq_true a]
  exact Bool.and_false _
theorem zn_lq_t {q : Nat → Bool} {v : Nat → Int32} {e f : Nat} (b : q f = true) (a : ¬ v e ≤ v f) : zn_lq q v e f = true := by
  unfold zn_lq
  rw [decide_eq_false a, b]
  rfl
def zn_rk (q : Nat → Bool) (v : Nat → Int32) (idx : Int32) (h : Nat) : Nat → Nat → Int32
  | 0, _ => 0
  | d + 1, e => if q e = true ∧ nI (zn_cn (zn_lq q v e) h) = idx then v e else zn_rk q v idx h d (e + 1)
theorem zn_rk_s (q : Nat → Bool) (v : Nat → Int32) (idx : Int32) (h d e : Nat) : zn_rk q v idx h (d + 1) e = if q e = true ∧ nI (zn_cn (zn_lq q v e) h) = idx then v e else zn_rk q v idx h d (e + 1) := rfl
theorem zn_rk_congr {q r : Nat → Bool} {v : Nat → Int32} {idx : Int32} (g : ∀ e, e < h → q e = r e) : ∀ d e, e + d = h → zn_rk q v idx h d e = zn_rk r v idx h d e := by
  intro d
  induction d with
  | zero => intro e _; rfl
  | succ d ih =>
    intro e he
    have c : zn_cn (zn_lq q v e) h = zn_cn (zn_lq r v e) h := zn_cn_congr h (fun f hf => by
      unfold zn_lq
      rw [g f hf])
    rw [zn_rk_s, zn_rk_s, g e (by omega), ih (e + 1) (by omega), c]
/-- an index outside the entries' number finds nothing -/
theorem zn_rk_out {q : Nat → Bool} {v : Nat → Int32} {idx : Int32} (h24 : h ≤ 24) (o : idx < 0 ∨ nI (zn_cn q h) ≤ idx) : ∀ d e, e + d = h → zn_rk q v idx h d e = 0 := by
  intro d
  induction d with
  | zero => intro e _; rfl
  | succ d ih =>
    intro e he
    rw [zn_rk_s, if_neg, ih (e + 1) (by omega)]
    intro c
    have h1 : zn_cn (zn_lq q v e) h < zn_cn q h := zn_cn_lt e (zn_lq_f2 (Int32.le_refl _)) c.1 h (by omega) (fun f _ hf => by
      cases hq : q f with
      | true => rfl
      | false =>
        rw [zn_lq_f1 hq] at hf
        cases hf)
    have h2 := zn_cn_le q h
    rcases o with o | o
    · rw [← c.2] at o
      exact nI_pos (by omega) o
    · rw [← c.2] at o
      exact nI_ge h1 (by omega) o
/-- the value is one of the entries' or 0 -/
theorem zn_rk_in {q : Nat → Bool} {v : Nat → Int32} {idx : Int32} : ∀ d e, e + d = h → zn_rk q v idx h d e = 0 ∨ ∃ f, f < h ∧ q f = true ∧ zn_rk q v idx h d e = v f := by
  intro d
  induction d with
  | zero => intro e _; exact Or.inl rfl
  | succ d ih =>
    intro e he
    rw [zn_rk_s]
    by_cases c : q e = true ∧ nI (zn_cn (zn_lq q v e) h) = idx
    · rw [if_pos c]
      exact Or.inr ⟨e, by omega, c.1, rfl⟩
    · rw [if_neg c]
      exact ih (e + 1) (by omega)
theorem zx_rk40 {J3 : Int32 → Prop} {g : Nat} (h24 : h ≤ 24) (hg : g < h) (hp : nI (zn_cn (zn_lq (zn_qI ae so x1 x2) va g) h) = x3 → post (va g)) (hj : ¬ nI (zn_cn (zn_lq (zn_qI ae so x1 x2) va g) h) = x3 → J3 (nI (g + 1))) :
    ∀ d e, e + d = h → wX_ranked_40 post J3 x1 x2 x3 (nI g) kl (nI h) a1 a2 a3 a4 al ak ac ao ab ae so va aq (d + 1) (nI (zn_cn (zn_lq (zn_qI ae so x1 x2) va g) e)) (nI e) := by
  have hig : vp_in (nI g) 24 := vp_in_nI (by omega) (by omega)
  have cg : (nI g).toNatClampNeg = g := nI_clamp (by omega)
  intro d
  induction d with
  | zero =>
    intro e he
    have e0 : e = h := he
    rw [e0]
    refine br_t (nI_le (Nat.le_refl _) (by omega)) ?_
    rw [cg]
    exact ⟨fun z => ⟨hig, hp z⟩, fun z => nm_r (nI_1 _) (hj z)⟩
  | succ d ih =>
    intro e he
    have hn : ¬ nI h ≤ nI e := nI_ge (by omega) (by omega)
    have hi : vp_in (nI e) 24 := vp_in_nI (by omega) (by omega)
    have ce : (nI e).toNatClampNeg = e := nI_clamp (by omega)
    have i := ih (e + 1) (by omega)
    refine br_f hn ⟨hi, ?_⟩
    rw [ce]
    by_cases z1 : ae e = x1
    · refine br_t z1 ⟨hi, ?_⟩
      by_cases z2 : so e = x2
      · refine br_t z2 ?_
        unfold wX_ranked_76
        refine br_f (by decide) ⟨hi, hig, ?_⟩
        rw [ce, cg]
        by_cases z3 : va g ≤ va e
        · rw [zn_cn_f (zn_lq_f2 z3)] at i
          exact br_t z3 (nm_r (Int32.add_zero _) (nm_r (nI_1 _) i))
        · rw [zn_cn_t (zn_lq_t (zn_qI_t z1 z2) z3)] at i
          exact br_f z3 (nm_r (nI_1 _) (nm_r (nI_1 _) i))
      · rw [zn_cn_f (zn_lq_f1 (zn_qI_f2 z2))] at i
        refine br_f z2 ?_
        unfold wX_ranked_75 wX_ranked_76
        exact br_t rfl (nm_r (Int32.add_zero _) (nm_r (nI_1 _) i))
    · rw [zn_cn_f (zn_lq_f1 (zn_qI_f1 z1))] at i
      refine br_f z1 ?_
      unfold wX_ranked_75 wX_ranked_76
      exact br_t rfl (nm_r (Int32.add_zero _) (nm_r (nI_1 _) i))
theorem zx_rk3 (h24 : h ≤ 24) : ∀ d e, e + d = h → post (zn_rk (zn_qI ae so x1 x2) va x3 h d e) → wX_ranked_3 post x1 x2 x3 kl (nI h) a1 a2 a3 a4 al ak ac ao ab ae so va aq (d + 1) (nI e) := by
  intro d
  induction d with
  | zero =>
    intro e he hp
    have e0 : e = h := he
    rw [e0]
    exact br_t (nI_le (Nat.le_refl _) (by omega)) hp
  | succ d ih =>
    intro e he hp
    rw [zn_rk_s] at hp
    have hn : ¬ nI h ≤ nI e := nI_ge (by omega) (by omega)
    have hi : vp_in (nI e) 24 := vp_in_nI (by omega) (by omega)
    have ce : (nI e).toNatClampNeg = e := nI_clamp (by omega)
    have i := ih (e + 1) (by omega)
    refine br_f hn ⟨hi, ?_⟩
    rw [ce]
    by_cases z1 : ae e = x1
    · refine br_t z1 ⟨hi, ?_⟩
      by_cases z2 : so e = x2
      · refine br_t z2 ⟨h + 1, zx_rk40 h24 (by omega) ?_ ?_ h 0 (by omega)⟩
        · intro z
          rw [if_pos ⟨zn_qI_t z1 z2, z⟩] at hp
          exact hp
        · intro z
          rw [if_neg (fun y => z y.2)] at hp
          exact i hp
      · rw [if_neg (fun y => z2 (zn_qI_e y.1).2)] at hp
        exact br_f z2 (nm_r (nI_1 _) (i hp))
    · rw [if_neg (fun y => z1 (zn_qI_e y.1).1)] at hp
      exact br_f z1 (nm_r (nI_1 _) (i hp))
theorem zx_ranked (h24 : h ≤ 24) (hp : post (zn_rk (zn_qI ae so x1 x2) va x3 h h 0)) : wpX_ranked post (kl, nI h, a1, a2, a3, a4, al, ak, ac, ao, ab, ae, so, va, aq) x1 x2 x3 :=
  ⟨h + 1, zx_rk3 h24 h 0 (by omega) hp⟩
theorem zy_rk40 {J3 : Int32 → Prop} {g : Nat} (h24 : h ≤ 24) (hg : g < h) (hp : nI (zn_cn (zn_lq (zn_qI ym so x1 x2) va g) h) = x3 → post (va g)) (hj : ¬ nI (zn_cn (zn_lq (zn_qI ym so x1 x2) va g) h) = x3 → J3 (nI (g + 1))) :
    ∀ d e, e + d = h → wY_valueOf_40 post J3 x1 x2 x3 (nI g) (nI h) yk yl yp yr ym so va (d + 1) (nI (zn_cn (zn_lq (zn_qI ym so x1 x2) va g) e)) (nI e) := by
  have hig : vp_in (nI g) 24 := vp_in_nI (by omega) (by omega)
  have cg : (nI g).toNatClampNeg = g := nI_clamp (by omega)
  intro d
  induction d with
  | zero =>
    intro e he
    have e0 : e = h := he
    rw [e0]
    refine br_t (nI_le (Nat.le_refl _) (by omega)) ?_
    rw [cg]
    exact ⟨fun z => ⟨hig, hp z⟩, fun z => nm_r (nI_1 _) (hj z)⟩
  | succ d ih =>
    intro e he
    have hn : ¬ nI h ≤ nI e := nI_ge (by omega) (by omega)
    have hi : vp_in (nI e) 24 := vp_in_nI (by omega) (by omega)
    have ce : (nI e).toNatClampNeg = e := nI_clamp (by omega)
    have i := ih (e + 1) (by omega)
    refine br_f hn ⟨hi, ?_⟩
    rw [ce, cg]
    by_cases z1 : ym e = x1
    · refine br_t z1 ⟨hi, ?_⟩
      by_cases z2 : so e = x2
      · refine br_t z2 ⟨hi, hig, ?_⟩
        by_cases z3 : va g ≤ va e
        · rw [zn_cn_f (zn_lq_f2 z3)] at i
          exact br_t z3 (nm_r (nI_1 _) i)
        · rw [zn_cn_t (zn_lq_t (zn_qI_t z1 z2) z3)] at i
          exact br_f z3 (nm_r (nI_1 _) (nm_r (nI_1 _) i))
      · rw [zn_cn_f (zn_lq_f1 (zn_qI_f2 z2))] at i
        exact br_f z2 (nm_r (nI_1 _) i)
    · rw [zn_cn_f (zn_lq_f1 (zn_qI_f1 z1))] at i
      exact br_f z1 (nm_r (nI_1 _) i)
theorem zy_rk3 (h24 : h ≤ 24) : ∀ d e, e + d = h → post (zn_rk (zn_qI ym so x1 x2) va x3 h d e) → wY_valueOf_3 post x1 x2 x3 (nI h) yk yl yp yr ym so va (d + 1) (nI e) := by
  intro d
  induction d with
  | zero =>
    intro e he hp
    have e0 : e = h := he
    rw [e0]
    exact br_t (nI_le (Nat.le_refl _) (by omega)) hp
  | succ d ih =>
    intro e he hp
    rw [zn_rk_s] at hp
    have hn : ¬ nI h ≤ nI e := nI_ge (by omega) (by omega)
    have hi : vp_in (nI e) 24 := vp_in_nI (by omega) (by omega)
    have ce : (nI e).toNatClampNeg = e := nI_clamp (by omega)
    have i := ih (e + 1) (by omega)
    refine br_f hn ⟨hi, ?_⟩
    rw [ce]
    by_cases z1 : ym e = x1
    · refine br_t z1 ⟨hi, ?_⟩
      by_cases z2 : so e = x2
      · refine br_t z2 ⟨h + 1, zy_rk40 h24 (by omega) ?_ ?_ h 0 (by omega)⟩
        · intro z
          rw [if_pos ⟨zn_qI_t z1 z2, z⟩] at hp
          exact hp
        · intro z
          rw [if_neg (fun y => z y.2)] at hp
          exact i hp
      · rw [if_neg (fun y => z2 (zn_qI_e y.1).2)] at hp
        exact br_f z2 (nm_r (nI_1 _) (i hp))
    · rw [if_neg (fun y => z1 (zn_qI_e y.1).1)] at hp
      exact br_f z1 (nm_r (nI_1 _) (i hp))
theorem zy_valueOf (h24 : h ≤ 24) (hp : post (zn_rk (zn_qI ym so x1 x2) va x3 h h 0)) : wpY_valueOf post (nI h, yk, yl, yp, yr, ym, so, va) x1 x2 x3 :=
  ⟨h + 1, zy_rk3 h24 h 0 (by omega) hp⟩
end ZX1
end
section
section ZY1
variable {h : Nat} {nm : Nat → Nat} {so va : Nat → Int32} {yk yl yp yr : Int32} {post : Int32 → Prop} {p : Nat → Nat} {m L : Nat}
def zn_i (x : Bool) : Int32 := if x = true then 1 else 0
theorem zn_i_t {x : Bool} (e : x = true) : zn_i x = 1 := if_pos e
theorem zn_i_f {x : Bool} (e : x = false) : zn_i x = 0 := if_neg (by rw [e]; decide)
theorem zn_8 (x l : Nat) : (8 : Int32) * nI x + nI l = nI (8 * x + l) := by
  rw [show (8 : Int32) = nI 8 from rfl, pk_mul, nI_add]
theorem zn_9 (x l : Nat) : (9 : Int32) * nI x + nI l + 1 = nI (9 * x + l + 1) := by
  rw [show (9 : Int32) = nI 9 from rfl, pk_mul, nI_add, nI_1]
theorem zn_star (x : Nat) : nI x * 9 + 8 = nI (9 * x + 8) := by
  rw [show (9 : Int32) = nI 9 from rfl, show (8 : Int32) = nI 8 from rfl, pk_mul, nI_add, Nat.mul_comm]
theorem zn_d9 {a : Nat} (h : a < 2 ^ 31) : nI a / 9 = nI (a / 9) := pk_div (d := 9) h (by omega) (by omega)
theorem zn_r9 {a : Nat} (h : a < 2 ^ 31) : nI a - nI a / 9 * 9 = nI (a % 9) := pk_rem (d := 9) h (by omega) (by omega)
theorem zn_ne9 : ¬ (9 : Int32) = 0 := by decide
/-! covers -/
theorem zy_cv4 (hm : m < 2 ^ 31) : ∀ d i b, i + d = 5 → b < 2 ^ 31 → post (zn_i (zn_cvF d m b)) → wY_covers_4 post (nI m) (d + 1) (nI b) (nI i) := by
  intro d
  induction d with
  | zero =>
    intro i b hi hb hp
    exact br_t (nI_le (a := 5) (by omega) (by omega)) hp
  | succ d ih =>
    intro i b hi hb hp
    rw [zn_cvF_s] at hp
    refine br_f (nI_ge (b := 5) (by omega) (by omega)) ?_
    by_cases z : b = m
    · rw [if_pos z] at hp
      exact br_t (by rw [z]) hp
    · rw [if_neg z] at hp
      exact br_f (fun y => z ((nI_eq hb hm).mp y)) ⟨zn_ne9, nm_r (zn_d9 hb) (nm_r (nI_1 _) (ih (i + 1) (b / 9) (by omega) (by omega) hp))⟩
theorem zy_covers {b : Nat} (hm : m < 2 ^ 31) (hb : b < 2 ^ 31) (hp : post (zn_i (zn_cv m b))) : wpY_covers post (nI m) (nI b) :=
  ⟨6, zy_cv4 hm 5 0 b (by omega) hb hp⟩
/-! there -/
def zn_th (nm : Nat → Nat) (h m : Nat) : Bool := decide (0 < zn_W nm h m ∨ m = 0)
theorem zn_th_t : zn_th nm h m = true ↔ (0 < zn_W nm h m ∨ m = 0) := decide_eq_true_iff
theorem zn_th_f : zn_th nm h m = false ↔ (zn_W nm h m = 0 ∧ m ≠ 0) := by
  unfold zn_th
  rw [decide_eq_false_iff_not]
  omega
theorem zn_th_0 : zn_th nm h 0 = true := zn_th_t.mpr (Or.inr rfl)
def zn_thF (nm : Nat → Nat) (m : Nat) : Nat → Nat → Bool
  | 0, _ => decide (m = 0)
  | d + 1, e => if zn_cv m (nm e) = true then true else zn_thF nm m d (e + 1)
theorem zn_thF_s (nm : Nat → Nat) (m d e : Nat) : zn_thF nm m (d + 1) e = if zn_cv m (nm e) = true then true else zn_thF nm m d (e + 1) := rfl
theorem zn_thF_iff : ∀ d e, e + d = h → (zn_thF nm m d e = true ↔ (∃ f, e ≤ f ∧ f < h ∧ zn_cv m (nm f) = true) ∨ m = 0) := by
  intro d
  induction d with
  | zero =>
    intro e he
    show decide (m = 0) = true ↔ _
    rw [decide_eq_true_iff]
    constructor
    · intro y
      exact Or.inr y
    · intro y
      rcases y with y | y
      · obtain ⟨f, a, b, _⟩ := y
        omega
      · exact y
  | succ d ih =>
    intro e he
    rw [zn_thF_s]
    by_cases c : zn_cv m (nm e) = true
    · rw [if_pos c]
      exact ⟨fun _ => Or.inl ⟨e, by omega, by omega, c⟩, fun _ => rfl⟩
    · rw [if_neg c, ih (e + 1) (by omega)]
      constructor
      · intro y
        rcases y with y | y
        · obtain ⟨f, a, b, g⟩ := y
          exact Or.inl ⟨f, by omega, b, g⟩
        · exact Or.inr y
      · intro y
        rcases y with y | y
        · obtain ⟨f, a, b, g⟩ := y
          have : f ≠ e := fun z => c (by rw [← z]; exact g)
          exact Or.inl ⟨f, by omega, b, g⟩
        · exact Or.inr y
theorem zn_thF_th : zn_thF nm m h 0 = zn_th nm h m := by
  rw [Bool.eq_iff_iff, zn_thF_iff (h := h) h 0 (by omega), zn_th_t, zn_W_pos]
  constructor
  · intro y
    rcases y with y | y
    · obtain ⟨f, a, b, g⟩ := y
      exact Or.inl ⟨f, b, g⟩
    · exact Or.inr y
  · intro y
    rcases y with y | y
    · obtain ⟨f, b, g⟩ := y
      exact Or.inl ⟨f, by omega, b, g⟩
    · exact Or.inr y
theorem zy_th2 (h24 : h ≤ 24) (hm : m < 2 ^ 31) (hN : ∀ e, e < h → nm e < 6561) : ∀ d e, e + d = h → post (zn_i (zn_thF nm m d e)) → wY_there_2 post (nI m) (nI h) yk yl yp yr (zn_I nm) so va (d + 1) (nI e) := by
  intro d
  induction d with
  | zero =>
    intro e he hp
    have e0 : e = h := he
    rw [e0]
    refine br_t (nI_le (Nat.le_refl _) (by omega)) ?_
    have hp : post (zn_i (decide (m = 0))) := hp
    by_cases z : m = 0
    · rw [zn_i_t (decide_eq_true z)] at hp
      exact br_t (by rw [z]; rfl) hp
    · rw [zn_i_f (decide_eq_false z)] at hp
      exact br_f (nI_ne0 (by omega) hm) hp
  | succ d ih =>
    intro e he hp
    rw [zn_thF_s] at hp
    have hn : ¬ nI h ≤ nI e := nI_ge (by omega) (by omega)
    have hi : vp_in (nI e) 24 := vp_in_nI (by omega) (by omega)
    have ce : (nI e).toNatClampNeg = e := nI_clamp (by omega)
    have he2 := hN e (by omega)
    refine br_f hn ⟨hi, ?_⟩
    rw [ce]
    refine zy_covers (b := nm e) hm (by omega) ?_
    by_cases c : zn_cv m (nm e) = true
    · rw [if_pos c] at hp
      rw [zn_i_t c]
      exact br_f (by decide) hp
    · rw [if_neg c] at hp
      rw [zn_i_f (Bool.eq_false_iff.mpr c)]
      exact br_t rfl (nm_r (nI_1 _) (ih (e + 1) (by omega) hp))
theorem zy_there (h24 : h ≤ 24) (hm : m < 2 ^ 31) (hN : ∀ e, e < h → nm e < 6561) (hp : post (zn_i (zn_th nm h m))) : wpY_there post (nI h, yk, yl, yp, yr, zn_I nm, so, va) (nI m) :=
  ⟨h + 1, zy_th2 h24 hm hN h 0 (by omega) (by rw [zn_thF_th]; exact hp)⟩
/-! handed -/
def zn_c4 (nm : Nat → Nat) (so : Nat → Int32) (h m : Nat) : Nat := zn_cn (zn_qI (zn_I nm) so (nI m) 4) h
def zn_hb (nm : Nat → Nat) (so : Nat → Int32) (h : Nat) (p : Nat → Nat) : Nat → Int32 → Int32
  | 0, b => b
  | k + 1, b => zn_hb nm so h p k (if 0 < zn_c4 nm so h (zn_num p (k + 1)) then nI (zn_num p (k + 1)) else b)
theorem zn_hb_s (k : Nat) (b : Int32) : zn_hb nm so h p (k + 1) b = zn_hb nm so h p k (if 0 < zn_c4 nm so h (zn_num p (k + 1)) then nI (zn_num p (k + 1)) else b) := rfl
theorem zn_hb_no : ∀ k b, (∀ j, 0 < j → j ≤ k → zn_c4 nm so h (zn_num p j) = 0) → zn_hb nm so h p k b = b := by
  intro k
  induction k with
  | zero => intro b _; rfl
  | succ k ih =>
    intro b g
    have := g (k + 1) (by omega) (by omega)
    rw [zn_hb_s, if_neg (by omega), ih b (fun j a c => g j a (by omega))]
theorem zn_hb_at {j : Nat} (j0 : 0 < j) (hj : 0 < zn_c4 nm so h (zn_num p j)) (g : ∀ i, 0 < i → i < j → zn_c4 nm so h (zn_num p i) = 0) : ∀ k b, j ≤ k → zn_hb nm so h p k b = nI (zn_num p j) := by
  intro k
  induction k with
  | zero => intro b z; omega
  | succ k ih =>
    intro b hk
    rw [zn_hb_s]
    by_cases e : j = k + 1
    · subst e
      rw [if_pos hj, zn_hb_no k _ (fun i a c => g i a (by omega))]
    · exact ih _ (by omega)
theorem zy_hd7 (D : zn_D p) (h24 : h ≤ 24) : ∀ k i b, k + i ≤ 4 → post (zn_hb nm so h p k b) → wY_handed_7 post (nI h) yk yl yp yr (zn_I nm) so va (k + 1) b (nI (zn_num p k)) (nI i) := by
  intro k
  induction k with
  | zero =>
    intro i b hi hp
    by_cases z : i = 4
    · exact br_t (nI_le (a := 4) (by omega) (by omega)) hp
    · exact br_f (nI_ge (b := 4) (by omega) (by omega)) (br_t (Int32.le_refl _) hp)
  | succ k ih =>
    intro i b hi hp
    have hl := zn_lt4 D (k := k + 1) (by omega)
    have h0 := zn_pos p (k := k + 1) (by omega)
    rw [zn_hb_s] at hp
    refine br_f (nI_ge (b := 4) (by omega) (by omega)) (br_f (nI_nle h0 (by omega)) (zy_count h24 ?_))
    have hq : nI (zn_num p (k + 1)) / 9 = nI (zn_num p k) := by rw [zn_d9 (by omega), zn_div D]
    have hcl := zn_cn_le (zn_qI (zn_I nm) so (nI (zn_num p (k + 1))) 4) h
    by_cases c : 0 < zn_c4 nm so h (zn_num p (k + 1))
    · rw [if_pos c] at hp
      exact br_f (nI_nle c (by omega)) ⟨zn_ne9, nm_r hq (nm_r (nI_1 _) (ih (i + 1) _ (by omega) hp))⟩
    · rw [if_neg c] at hp
      have c0 : zn_c4 nm so h (zn_num p (k + 1)) = 0 := by omega
      refine br_t ?_ ⟨zn_ne9, nm_r hq (nm_r (nI_1 _) (ih (i + 1) _ (by omega) hp))⟩
      show nI (zn_c4 nm so h (zn_num p (k + 1))) ≤ 0
      rw [c0]
      exact Int32.le_refl _
theorem zy_handed (D : zn_D p) (h24 : h ≤ 24) (hL : L ≤ 4) (hp : post (zn_hb nm so h p L (-1))) : wpY_handed post (nI h, yk, yl, yp, yr, zn_I nm, so, va) (nI (zn_num p L)) :=
  ⟨L + 1, zy_hd7 D h24 L 0 (-1) (by omega) hp⟩
/-! answering -/
def zn_dt (nm : Nat → Nat) (h : Nat) (p : Nat → Nat) : Nat → Nat
  | 0 => 0
  | k + 1 => if zn_th nm h (zn_num p (k + 1)) = true then k + 1 else zn_dt nm h p k
theorem zn_dt_s (k : Nat) : zn_dt nm h p (k + 1) = if zn_th nm h (zn_num p (k + 1)) = true then k + 1 else zn_dt nm h p k := rfl
theorem zn_dt_le : ∀ k, zn_dt nm h p k ≤ k := by
  intro k
  induction k with
  | zero => exact Nat.le_refl 0
  | succ k ih =>
    rw [zn_dt_s]
    split <;> omega
theorem zn_dt_th : ∀ k, zn_th nm h (zn_num p (zn_dt nm h p k)) = true := by
  intro k
  induction k with
  | zero => exact zn_th_0
  | succ k ih =>
    rw [zn_dt_s]
    by_cases c : zn_th nm h (zn_num p (k + 1)) = true
    · rw [if_pos c]
      exact c
    · rw [if_neg c]
      exact ih
theorem zn_dt_no : ∀ k j, zn_dt nm h p k < j → j ≤ k → zn_th nm h (zn_num p j) = false := by
  intro k
  induction k with
  | zero => intro j a b; omega
  | succ k ih =>
    intro j a b
    rw [zn_dt_s] at a
    by_cases c : zn_th nm h (zn_num p (k + 1)) = true
    · rw [if_pos c] at a
      omega
    · rw [if_neg c] at a
      by_cases e : j = k + 1
      · rw [e]
        exact Bool.eq_false_iff.mpr c
      · exact ih j a (by omega)
theorem zn_dt_top {k : Nat} (e : zn_th nm h (zn_num p k) = true) : zn_dt nm h p k = k := by
  cases k with
  | zero => rfl
  | succ k => rw [zn_dt_s, if_pos e]
def zn_sr (nm : Nat → Nat) (h m : Nat) : Int32 := if zn_th nm h (9 * m + 8) = true then nI (9 * m + 8) else -1
theorem zy_an41 (h24 : h ≤ 24) (hm : m < 6561) (hN : ∀ e, e < h → nm e < 6561) (hp : post (zn_sr nm h m)) : wY_answering_41 post (nI m) (nI h) yk yl yp yr (zn_I nm) so va := by
  refine nm_r (zn_star m) ?_
  refine zy_there h24 (by omega) hN ?_
  unfold zn_sr at hp
  by_cases c : zn_th nm h (9 * m + 8) = true
  · rw [if_pos c] at hp
    rw [zn_i_t c]
    exact br_f (by decide) hp
  · rw [if_neg c] at hp
    rw [zn_i_f (Bool.eq_false_iff.mpr c)]
    exact br_t rfl hp
theorem zy_an17 (D : zn_D p) (h24 : h ≤ 24) (hN : ∀ e, e < h → nm e < 6561) : ∀ k i, k + i ≤ 3 → post (zn_sr nm h (zn_num p (zn_dt nm h p k))) → wY_answering_17 post (nI h) yk yl yp yr (zn_I nm) so va (k + 1) (nI (zn_num p k)) (nI i) := by
  intro k
  induction k with
  | zero =>
    intro i hi hp
    refine br_f (nI_ge (b := 4) (by omega) (by omega)) ?_
    refine zy_there (m := 0) h24 (by omega) hN ?_
    rw [zn_i_t zn_th_0]
    exact br_f (by decide) (zy_an41 (m := 0) h24 (by omega) hN hp)
  | succ k ih =>
    intro i hi hp
    have hl := zn_lt4 D (k := k + 1) (by omega)
    refine br_f (nI_ge (b := 4) (by omega) (by omega)) ?_
    refine zy_there h24 (by omega) hN ?_
    rw [zn_dt_s] at hp
    by_cases c : zn_th nm h (zn_num p (k + 1)) = true
    · rw [if_pos c] at hp
      rw [zn_i_t c]
      exact br_f (by decide) (zy_an41 h24 hl hN hp)
    · rw [if_neg c] at hp
      rw [zn_i_f (Bool.eq_false_iff.mpr c)]
      have hq : nI (zn_num p (k + 1)) / 9 = nI (zn_num p k) := by rw [zn_d9 (by omega), zn_div D]
      exact br_t rfl ⟨zn_ne9, nm_r hq (nm_r (nI_1 _) (ih (i + 1) (by omega) hp))⟩
def zn_an (nm : Nat → Nat) (h : Nat) (p : Nat → Nat) (L : Nat) : Int32 := if zn_dt nm h p L = L then nI (zn_num p L) else zn_sr nm h (zn_num p (zn_dt nm h p L))
theorem zy_answering (D : zn_D p) (h24 : h ≤ 24) (hN : ∀ e, e < h → nm e < 6561) (hL : L ≤ 4) (hp : post (zn_an nm h p L)) : wpY_answering post (nI h, yk, yl, yp, yr, zn_I nm, so, va) (nI (zn_num p L)) := by
  have hl := zn_lt4 D (k := L) hL
  unfold zn_an at hp
  refine zy_there h24 (by omega) hN ?_
  by_cases c : zn_th nm h (zn_num p L) = true
  · rw [if_pos (zn_dt_top c)] at hp
    rw [zn_i_t c]
    exact br_f (by decide) hp
  · rw [zn_i_f (Bool.eq_false_iff.mpr c)]
    cases L with
    | zero => exact absurd zn_th_0 c
    | succ k =>
      have hd := zn_dt_le (nm := nm) (h := h) (p := p) k
      rw [zn_dt_s, if_neg c, if_neg (by omega)] at hp
      have hq : nI (zn_num p (k + 1)) / 9 = nI (zn_num p k) := by rw [zn_d9 (by omega), zn_div D]
      exact br_t rfl ⟨zn_ne9, nm_r hq ⟨k + 1, zy_an17 D h24 hN k 0 (by omega) hp⟩⟩
end ZY1
end
section
section ZD1
variable {kl hd a1 a2 a3 a4 al : Int32} {ak ac ao ab ae so va aq : Nat → Int32} {post : Int32 → Prop} {p t : Nat → Nat} {L l : Nat}
/-! is it a name -/
def zn_Tg (v : Int32) : Prop := ∃ t l, zn_D t ∧ l ≤ 4 ∧ v = nI (zn_num t l)
def zn_isF : Nat → Nat → Bool
  | 0, _ => true
  | d + 1, a => if a = 0 then true else if a % 9 = 0 then false else zn_isF d (a / 9)
theorem zn_isF_s (d a : Nat) : zn_isF (d + 1) a = if a = 0 then true else if a % 9 = 0 then false else zn_isF d (a / 9) := rfl
theorem zn_isF_0 (d : Nat) : zn_isF d 0 = true := by
  cases d with
  | zero => rfl
  | succ d => rw [zn_isF_s, if_pos rfl]
theorem zn_isF_num : ∀ d a, a < 9 ^ d → zn_isF d a = true → ∃ t l, zn_D t ∧ l ≤ d ∧ a = zn_num t l := by
  intro d
  induction d with
  | zero =>
    intro a ha _
    rw [Nat.pow_zero] at ha
    exact ⟨fun _ => 0, 0, zn_D0, by omega, by show a = 0; omega⟩
  | succ d ih =>
    intro a ha h
    rw [zn_isF_s] at h
    by_cases c : a = 0
    · exact ⟨fun _ => 0, 0, zn_D0, by omega, c⟩
    · rw [if_neg c] at h
      by_cases c2 : a % 9 = 0
      · rw [if_pos c2] at h
        cases h
      · rw [if_neg c2] at h
        rw [Nat.pow_succ] at ha
        obtain ⟨t, l, D, hl, e⟩ := ih (a / 9) (by omega) h
        refine ⟨zn_up t l (a % 9 - 1), l + 1, fun i => ?_, by omega, ?_⟩
        · by_cases z : i = l
          · rw [z, zn_us]
            omega
          · rw [zn_un z]
            exact D i
        · rw [zn_num_s, zn_us, zn_congr (b := t) l (fun i hi => zn_un (by omega)), ← e]
          omega
theorem zx_is17 : ∀ d i a, i + d = 4 → a < 2 ^ 31 → post (zn_i (zn_isF d a)) → wX_isNumber_17 post (d + 1) (nI a) (nI i) := by
  intro d
  induction d with
  | zero =>
    intro i a hi ha hp
    exact br_t (nI_le (a := 4) (by omega) (by omega)) hp
  | succ d ih =>
    intro i a hi ha hp
    rw [zn_isF_s] at hp
    refine br_f (nI_ge (b := 4) (by omega) (by omega)) ?_
    by_cases c : a = 0
    · rw [if_pos c] at hp
      refine br_t (by rw [c]; exact Int32.le_refl _) ⟨zn_ne9, nm_r (zn_d9 ha) (nm_r (nI_1 _) (ih (i + 1) (a / 9) (by omega) (by omega) ?_))⟩
      rw [show a / 9 = 0 from by omega, zn_isF_0]
      exact hp
    · rw [if_neg c] at hp
      refine br_f (nI_nle (by omega) ha) ⟨zn_ne9, ?_⟩
      rw [zn_r9 ha]
      by_cases c2 : a % 9 = 0
      · rw [if_pos c2] at hp
        exact br_t (by rw [c2]; rfl) hp
      · rw [if_neg c2] at hp
        exact br_f (nI_ne0 (by omega) (by omega)) ⟨zn_ne9, nm_r (zn_d9 ha) (nm_r (nI_1 _) (ih (i + 1) (a / 9) (by omega) (by omega) hp))⟩
theorem zy_is17 : ∀ d i a, i + d = 4 → a < 2 ^ 31 → post (zn_i (zn_isF d a)) → wY_isName_17 post (d + 1) (nI a) (nI i) := by
  intro d
  induction d with
  | zero =>
    intro i a hi ha hp
    exact br_t (nI_le (a := 4) (by omega) (by omega)) hp
  | succ d ih =>
    intro i a hi ha hp
    rw [zn_isF_s] at hp
    refine br_f (nI_ge (b := 4) (by omega) (by omega)) ?_
    by_cases c : a = 0
    · rw [if_pos c] at hp
      exact br_t (by rw [c]; exact Int32.le_refl _) hp
    · rw [if_neg c] at hp
      refine br_f (nI_nle (by omega) ha) ⟨zn_ne9, ?_⟩
      rw [zn_r9 ha]
      by_cases c2 : a % 9 = 0
      · rw [if_pos c2] at hp
        exact br_t (by rw [c2]; rfl) hp
      · rw [if_neg c2] at hp
        exact br_f (nI_ne0 (by omega) (by omega)) ⟨zn_ne9, nm_r (zn_d9 ha) (nm_r (nI_1 _) (ih (i + 1) (a / 9) (by omega) (by omega) hp))⟩
theorem zn_isN (v : Int32) : ∃ b : Bool, (b = true → zn_Tg v) ∧ (∀ post : Int32 → Prop, post (zn_i b) → wpX_isNumber post v) ∧ (∀ post : Int32 → Prop, post (zn_i b) → wpY_isName post v) := by
  by_cases c : v < 0
  · exact ⟨false, fun z => (by cases z), fun post hp => br_t c hp, fun post hp => br_t c hp⟩
  · obtain ⟨a, ha, rfl⟩ := nI_of c
    by_cases c2 : a < 6561
    · have x1 : nI a ≤ 6560 := nI_le (b := 6560) (by omega) (by omega)
      have x2 : nI a < 6561 := nI_lt (b := 6561) (by omega) (by omega)
      refine ⟨zn_isF 4 a, fun z => ?_, fun post hp => br_f c (br_t x1 ⟨5, zx_is17 4 0 a (by omega) ha hp⟩), fun post hp => br_f c (br_t x2 ⟨5, zy_is17 4 0 a (by omega) ha hp⟩)⟩
      obtain ⟨t, l, D, hl, e⟩ := zn_isF_num 4 a c2 z
      exact ⟨t, l, D, hl, by rw [e]⟩
    · have x1 : ¬ nI a ≤ 6560 := nI_ge (a := 6560) (by omega) ha
      have x2 : ¬ nI a < 6561 := nI_nlt (b := 6561) (by omega) ha
      exact ⟨false, fun z => (by cases z), fun post hp => br_f c (br_f x1 hp), fun post hp => br_f c (br_f x2 hp)⟩
/-! the number of a row of labels -/
theorem zx_nu4 (hL : L ≤ 4) (g : ∀ i, i < L → ak i = nI (p i)) (hp : post (nI (zn_num p L))) : ∀ d k, k + d = L → wX_number_4 post (nI L) hd a1 a2 a3 a4 al ak ac ao ab ae so va aq (d + 1) (nI (zn_num p k)) (nI k) := by
  intro d
  induction d with
  | zero =>
    intro k hk
    have e0 : k = L := hk
    rw [e0]
    exact br_t (nI_le (Nat.le_refl _) (by omega)) hp
  | succ d ih =>
    intro k hk
    have ck : (nI k).toNatClampNeg = k := nI_clamp (by omega)
    refine br_f (nI_ge (by omega) (by omega)) ⟨vp_in_nI (by omega) (by omega), ?_⟩
    rw [ck, g k (by omega), zn_9]
    exact nm_e (nm_r (nI_1 _) (ih (k + 1) (by omega)))
theorem zx_number (hL : L ≤ 4) (g : ∀ i, i < L → ak i = nI (p i)) (hp : post (nI (zn_num p L))) : wpX_number post (nI L, hd, a1, a2, a3, a4, al, ak, ac, ao, ab, ae, so, va, aq) :=
  ⟨L + 1, zx_nu4 hL g hp L 0 (by omega)⟩
theorem zx_an4 (hL : L ≤ 4) (g : ∀ i, i < L → aq i = nI (p i)) (hp : post (nI (zn_num p L))) : ∀ d k, k + d = L → wX_askedNumber_4 post kl hd a1 a2 a3 a4 (nI L) ak ac ao ab ae so va aq (d + 1) (nI (zn_num p k)) (nI k) := by
  intro d
  induction d with
  | zero =>
    intro k hk
    have e0 : k = L := hk
    rw [e0]
    exact br_t (nI_le (Nat.le_refl _) (by omega)) hp
  | succ d ih =>
    intro k hk
    have ck : (nI k).toNatClampNeg = k := nI_clamp (by omega)
    refine br_f (nI_ge (by omega) (by omega)) ⟨vp_in_nI (by omega) (by omega), ?_⟩
    rw [ck, g k (by omega), zn_9]
    exact nm_e (nm_r (nI_1 _) (ih (k + 1) (by omega)))
theorem zx_askedNumber (hL : L ≤ 4) (g : ∀ i, i < L → aq i = nI (p i)) (hp : post (nI (zn_num p L))) : wpX_askedNumber post (kl, hd, a1, a2, a3, a4, nI L, ak, ac, ao, ab, ae, so, va, aq) :=
  ⟨L + 1, zx_an4 hL g hp L 0 (by omega)⟩
/-! the labels of a number -/
def zn_pw : Nat → Nat
  | 0 => 0
  | s + 1 => 9 ^ s
theorem zn_pw_d (s : Nat) : zn_pw (s + 1) / 9 = zn_pw s := by
  cases s with
  | zero => rfl
  | succ s =>
    show 9 ^ (s + 1) / 9 = 9 ^ s
    rw [Nat.pow_succ]
    omega
theorem zn_pw_lt {s : Nat} (hs : s ≤ 4) : zn_pw s < 730 := by
  cases s with
  | zero => decide
  | succ s =>
    have : 9 ^ s ≤ 9 ^ 3 := Nat.pow_le_pow_right (by decide) (by omega)
    show 9 ^ s < 730
    omega
theorem zx_ak9 (D : zn_D t) (hl : l ≤ 4) :
    ∀ s, s ≤ 4 → ∀ aq : Nat → Int32, (∀ i, i < l - s → aq i = nI (t i)) → ∃ aq' : Nat → Int32, (∀ i, i < l → aq' i = nI (t i)) ∧ ∀ post : SX → Prop, post (kl, hd, a1, a2, a3, a4, nI l, ak, ac, ao, ab, ae, so, va, aq') → wX_askNumber_9 post (nI (zn_num t l)) kl hd a1 a2 a3 a4 (s + 1) (nI (zn_pw s)) (nI (l - s)) ak ac ao ab ae so va aq := by
  intro s
  induction s with
  | zero =>
    intro _ aq g
    exact ⟨aq, g, fun post hp => br_t (Int32.le_refl _) hp⟩
  | succ s ih =>
    intro hs aq g
    have p1 := zn_pw_lt hs
    have p2 : 0 < zn_pw (s + 1) := Nat.pow_pos (by decide)
    have hn := zn_lt4 D hl
    have hq : nI (zn_num t l) / nI (zn_pw (s + 1)) = nI (zn_num t (l - s)) := by
      rw [pk_div (by omega) p2 (by omega)]
      show nI (zn_num t l / 9 ^ s) = _
      rw [zn_dp D]
    have hm := zn_lt4 D (k := l - s) (by omega)
    have hd : nI (zn_pw (s + 1)) / 9 = nI (zn_pw s) := by rw [zn_d9 (by omega), zn_pw_d]
    by_cases c : l - s = 0
    · obtain ⟨aq', ha, i⟩ := ih (by omega) aq (fun i hi => by omega)
      refine ⟨aq', ha, fun post hp => ?_⟩
      refine br_f (nI_nle p2 (by omega)) ⟨nI_ne0 p2 (by omega), zn_ne9, ?_⟩
      rw [hq, zn_r9 (by omega)]
      refine nm_e ?_
      have e1 : l - (s + 1) = l - s := by omega
      rw [e1]
      refine br_t ?_ ⟨zn_ne9, nm_r hd (i post hp)⟩
      rw [c]
      exact Int32.le_refl _
    · obtain ⟨j, hj⟩ : ∃ j, l - s = j + 1 := ⟨l - s - 1, by omega⟩
      have e1 : l - (s + 1) = j := by omega
      have ej : nI (t j + 1) - 1 = nI (t j) := nI_pred (t j)
      have dj := D j
      have cj : (nI j).toNatClampNeg = j := nI_clamp (by omega)
      obtain ⟨aq', ha, i⟩ := ih (by omega) (upd aq j (nI (t j))) (fun i hi => by
        by_cases z : i = j
        · rw [z, pk_us]
        · rw [pk_un z]
          exact g i (by omega))
      refine ⟨aq', ha, fun post hp => ?_⟩
      have i := i post hp
      rw [hj] at i
      refine br_f (nI_nle p2 (by omega)) ⟨nI_ne0 p2 (by omega), zn_ne9, ?_⟩
      rw [hq, zn_r9 (by omega)]
      refine nm_e ?_
      rw [hj, zn_mod D, e1]
      refine br_f (nI_nle (by omega) (by omega)) ⟨vp_in_nI (by omega) (by omega), ?_⟩
      rw [cj, ej]
      exact nm_e (nm_r (nI_1 _) ⟨zn_ne9, nm_r hd i⟩)
theorem zx_askNumber (D : zn_D t) (hl : l ≤ 4) : ∃ aq' : Nat → Int32, (∀ i, i < l → aq' i = nI (t i)) ∧ ∀ post : SX → Prop, post (kl, hd, a1, a2, a3, a4, nI l, ak, ac, ao, ab, ae, so, va, aq') → wpX_askNumber post (kl, hd, a1, a2, a3, a4, al, ak, ac, ao, ab, ae, so, va, aq) (nI (zn_num t l)) := by
  obtain ⟨aq', ha, i⟩ := zx_ak9 (kl := kl) (hd := hd) (a1 := a1) (a2 := a2) (a3 := a3) (a4 := a4) (ak := ak) (ac := ac) (ao := ao) (ab := ab) (ae := ae) (so := so) (va := va) D hl 4 (by omega) aq (fun i hi => by omega)
  refine ⟨aq', ha, fun post hp => ⟨5, ?_⟩⟩
  have j := i post hp
  rw [show l - 4 = 0 from by omega] at j
  exact j
end ZD1
end
section
section ZF1
variable {kl hd a1 a2 a3 a4 al : Int32} {ak ac ao ab ae so va aq : Nat → Int32} {post : Int32 → Prop} {w ch no be ky : Nat → Nat} {L : Nat}
/-! findNode -/
def zn_fn (w ch ky : Nat → Nat) (L : Nat) : Int32 := if L = 0 ∨ 0 < w (zn_num ky L) then nI (zt_nd ch ky L) else -1
theorem zx_fn4 (T : zt_TI w ch no be) (D : zn_D ky) (hL : L ≤ 4) (hp : post (zn_fn w ch ky L)) : ∀ d k, k + d = L → (k = 0 ∨ 0 < w (zn_num ky k)) → wX_findNode_4 post (nI L) hd a1 a2 a3 a4 al (zn_I ky) (zn_I ch) ao ab ae so va aq (d + 1) (nI (zt_nd ch ky k)) (nI k) := by
  intro d
  induction d with
  | zero =>
    intro k hk g
    have e0 : k = L := hk
    rw [e0] at g ⊢
    unfold zn_fn at hp
    rw [if_pos g] at hp
    exact br_t (nI_le (Nat.le_refl _) (by omega)) hp
  | succ d ih =>
    intro k hk g
    have ck : (nI k).toNatClampNeg = k := nI_clamp (by omega)
    obtain ⟨o1, o2⟩ := zt_nd_ok T D k g
    have dk := D k
    have ol := o1.1
    refine br_f (nI_ge (by omega) (by omega)) ⟨vp_in_nI (by omega) (by omega), ?_⟩
    rw [ck, zn_Ia, zn_8, nI_clamp (by omega)]
    refine ⟨vp_in_nI (by omega) (by omega), nm_r (e' := nI (zt_nd ch ky (k + 1))) rfl ?_⟩
    rcases zt_step T D o1 o2 with h1 | h1
    · rw [h1.1]
      refine br_t rfl ?_
      have hw := zt_wup D T.2.2.2.2.2 h1.2 L (by omega)
      unfold zn_fn at hp
      rw [if_neg (by omega)] at hp
      exact hp
    · refine br_f (nI_ne0 h1.1 (by omega)) (nm_r (nI_1 _) (ih (k + 1) (by omega) (Or.inr ?_)))
      rw [← h1.2.2.2, ← (T.2.1 _ (zt_lvp h1.2.1 h1.2.2.1)).2]
      exact h1.2.2.1
theorem zx_findNode (T : zt_TI w ch no be) (D : zn_D ky) (hL : L ≤ 4) (hp : post (zn_fn w ch ky L)) : wpX_findNode post (nI L, hd, a1, a2, a3, a4, al, zn_I ky, zn_I ch, ao, ab, ae, so, va, aq) :=
  ⟨L + 1, zx_fn4 T D hL hp L 0 (by omega) (Or.inl rfl)⟩
/-! freeNode -/
theorem zx_fr2 (hb : ∀ n, n < 100 → be n ≤ 30) : ∀ d x, x + d = 100 → 0 < x → (∃ f, x ≤ f ∧ f < 100 ∧ be f = 0) → ∃ g, 0 < g ∧ g < 100 ∧ be g = 0 ∧ ∀ post : Int32 → Prop, post (nI g) → wX_freeNode_2 post kl hd a1 a2 a3 a4 al ak (zn_I ch) ao (zn_I be) ae so va aq (d + 1) (nI x) := by
  intro d
  induction d with
  | zero =>
    intro x hx _ e
    obtain ⟨f, h1, h2, _⟩ := e
    omega
  | succ d ih =>
    intro x hx x0 e
    have cx : (nI x).toNatClampNeg = x := nI_clamp (by omega)
    have bx := hb x (by omega)
    have hi : vp_in (nI x) 100 := vp_in_nI (by omega) (by omega)
    by_cases c : be x = 0
    · refine ⟨x, x0, by omega, c, fun post hp => br_f (nI_ge (b := 100) (by omega) (by omega)) ⟨hi, ?_⟩⟩
      rw [cx, zn_Ia, c]
      exact br_t rfl hp
    · obtain ⟨f, h1, h2, h3⟩ := e
      have hne : f ≠ x := fun z => c (by rw [← z]; exact h3)
      obtain ⟨g, g1, g2, g3, g4⟩ := ih (x + 1) (by omega) (by omega) ⟨f, by omega, h2, h3⟩
      refine ⟨g, g1, g2, g3, fun post hp => br_f (nI_ge (b := 100) (by omega) (by omega)) ⟨hi, ?_⟩⟩
      rw [cx, zn_Ia]
      exact br_f (nI_ne0 (by omega) (by omega)) (nm_r (nI_1 _) (g4 post hp))
theorem zx_freeNode (hb : ∀ n, n < 100 → be n ≤ 30) (e : ∃ f, 0 < f ∧ f < 100 ∧ be f = 0) : ∃ g, 0 < g ∧ g < 100 ∧ be g = 0 ∧ ∀ post : Int32 → Prop, post (nI g) → wpX_freeNode post (kl, hd, a1, a2, a3, a4, al, ak, zn_I ch, ao, zn_I be, ae, so, va, aq) := by
  obtain ⟨g, g1, g2, g3, g4⟩ := zx_fr2 (kl := kl) (hd := hd) (a1 := a1) (a2 := a2) (a3 := a3) (a4 := a4) (al := al) (ak := ak) (ch := ch) (ao := ao) (ae := ae) (so := so) (va := va) (aq := aq) hb 99 1 (by omega) (by omega) e
  exact ⟨g, g1, g2, g3, fun post hp => ⟨100, g4 post hp⟩⟩
end ZF1
section ZG1
variable {kl hd a1 a2 a3 a4 al : Int32} {ak ac ao ab ae so va aq : Nat → Int32} {post : Int32 → SX → Prop} {W w ch no be ky : Nat → Nat} {L : Nat}
theorem zx_g89 {J14 : Int32 → Int32 → (Nat → Int32) → (Nat → Int32) → (Nat → Int32) → (Nat → Int32) → (Nat → Int32) → (Nat → Int32) → (Nat → Int32) → (Nat → Int32) → Prop} {k c : Nat} (hc : c < 100) (hJ : J14 (nI c) (nI (k + 1)) ak (zn_I ch) ao (zn_I (zn_up be c (be c + 1))) ae so va aq) : wX_growNode_89 post J14 (nI k) (nI c) kl hd a1 a2 a3 a4 al ak (zn_I ch) ao (zn_I be) ae so va aq := by
  have hi : vp_in (nI c) 100 := vp_in_nI hc (by omega)
  have cc : (nI c).toNatClampNeg = c := nI_clamp (by omega)
  refine ⟨hi, hi, nm_r (e' := zn_I (zn_up be c (be c + 1))) ?_ (nm_r (nI_1 _) hJ)⟩
  rw [cc, zn_Ia, nI_1, zn_upI]
def zn_St (no be no' be' : Nat → Nat) : Prop := ∀ n, zt_lv be n → zt_lv be' n ∧ no' n = no n
theorem zx_gr14 {no0 be0 : Nat → Nat} (D : zn_D ky) (hL : L ≤ 4) (hW : ∀ m, W m ≤ 24)
    (hf : ∀ k ch no be, k ≤ L → zt_TI (zt_pw W ky k) ch no be → ∃ f, 0 < f ∧ f < 100 ∧ be f = 0)
    (hp : ∀ ch no be x, zt_TI (zt_pw W ky L) ch no be → zt_lv be x → no x = zn_num ky L → zn_St no0 be0 no be → post (nI x) (nI L, hd, a1, a2, a3, a4, al, zn_I ky, zn_I ch, zn_I no, zn_I be, ae, so, va, aq)) :
    ∀ d k ch no be x, k + d = L → zt_TI (zt_pw W ky k) ch no be → zt_lv be x → no x = zn_num ky k → zn_St no0 be0 no be →
    wX_growNode_14 post (nI L) hd a1 a2 a3 a4 al (d + 1) (nI x) (nI k) (zn_I ky) (zn_I ch) (zn_I no) (zn_I be) ae so va aq := by
  intro d
  induction d with
  | zero =>
    intro k ch no be x hk T hx hn hs
    have e0 : k = L := hk
    rw [e0] at T hn ⊢
    exact br_t (nI_le (Nat.le_refl _) (by omega)) (hp ch no be x T hx hn hs)
  | succ d ih =>
    intro k ch no be x hk T hx hn hs
    have ck : (nI k).toNatClampNeg = k := nI_clamp (by omega)
    have dk := D k
    have hx1 := hx.1
    have hw0 : 0 < zt_pw W ky k (no x) := by
      rw [hn, zt_pw_eq D (by omega), zn_cv_self]
      have : zn_b true = 1 := rfl
      omega
    have hM : zn_num ky (k + 1) = 9 * no x + ky k + 1 := by rw [hn, zn_num_s]
    have hb : ∀ n, n < 100 → be n ≤ 30 := fun n h => zt_be_le T (fun m => by
      have h1 := hW m
      have h2 : zn_b (zn_cv m (zn_num ky k)) ≤ 1 := by
        unfold zn_b
        split <;> omega
      rw [zt_pw_eq D (by omega)]
      omega) n h
    have hik : vp_in (nI k) 4 := vp_in_nI (by omega) (by omega)
    have hix : vp_in (nI x) 100 := vp_in_nI hx1 (by omega)
    have hi8 : vp_in (nI (8 * x + ky k)) 800 := vp_in_nI (by omega) (by omega)
    have cx : (nI x).toNatClampNeg = x := nI_clamp (by omega)
    refine br_f (nI_ge (by omega) (by omega)) ⟨hik, ?_⟩
    rw [ck, zn_Ia ky k, zn_8, nI_clamp (n := 8 * x + ky k) (by omega)]
    refine ⟨hi8, nm_r (e' := nI (ch (8 * x + ky k))) rfl ?_⟩
    by_cases c : ch (8 * x + ky k) = 0
    · refine br_t (by rw [c]; rfl) ?_
      obtain ⟨g, g1, g2, g3, g4⟩ := zx_freeNode (kl := nI L) (hd := hd) (a1 := a1) (a2 := a2) (a3 := a3) (a4 := a4) (al := al) (ak := zn_I ky) (ch := ch) (ao := zn_I no) (ae := ae) (so := so) (va := va) (aq := aq) hb (hf k ch no be (by omega) T)
      have cg : (nI g).toNatClampNeg = g := nI_clamp (by omega)
      have T' := zt_g0 T hx dk hw0 hM c ⟨ky, k + 1, D, by omega, rfl⟩ g1 g2 g3
      rw [← zt_pw_s] at T'
      refine g4 _ ⟨hik, hi8, nm_r (zn_upI _ _ _) ⟨hix, hik, vp_in_nI g2 (by omega), nm_r (e' := zn_I (zn_up no g (zn_num ky (k + 1)))) ?_ (zx_g89 g2 (ih (k + 1) _ _ _ g (by omega) T' (zt_lvp g2 ?_) zn_us ?_))⟩⟩
      · rw [cg, cx, zn_Ia, zn_9, ← hM, zn_upI]
      · rw [zn_us]
        omega
      · intro n hn0
        obtain ⟨s1, s2⟩ := hs n hn0
        have hng : n ≠ g := fun z => by
          rcases s1.2 with y | y
          · omega
          · rw [z] at y
            omega
        refine ⟨⟨s1.1, ?_⟩, ?_⟩
        · rw [zn_un hng]
          exact s1.2
        · rw [zn_un hng]
          exact s2
    · have h3 := T.2.2.1 x (ky k) hx dk
      have h4 : 0 < ch (8 * x + ky k) ∧ ch (8 * x + ky k) < 100 ∧ 0 < be (ch (8 * x + ky k)) ∧ no (ch (8 * x + ky k)) = 9 * no x + ky k + 1 := by
        rcases h3 with h3 | h3
        · exact absurd h3.1 c
        · exact h3
      have T' := zt_g1 T hx dk hw0 hM rfl c
      rw [← zt_pw_s] at T'
      refine br_f (nI_ne0 h4.1 (by omega)) (zx_g89 h4.2.1 (ih (k + 1) _ _ _ _ (by omega) T' (zt_lvp h4.2.1 ?_) ?_ ?_))
      · rw [zn_us]
        omega
      · rw [h4.2.2.2, hM]
      · intro n hn0
        obtain ⟨s1, s2⟩ := hs n hn0
        refine ⟨⟨s1.1, ?_⟩, s2⟩
        by_cases z : n = ch (8 * x + ky k)
        · rw [z, zn_us]
          exact Or.inr (by omega)
        · rw [zn_un z]
          exact s1.2
theorem zx_growNode (T : zt_TI W ch no be) (D : zn_D ky) (hL : L ≤ 4) (hW : ∀ m, W m ≤ 24)
    (hf : ∀ k ch no be, k ≤ L → zt_TI (zt_pw W ky k) ch no be → ∃ f, 0 < f ∧ f < 100 ∧ be f = 0)
    (hp : ∀ ch' no' be' x, zt_TI (zt_pw W ky L) ch' no' be' → zt_lv be' x → no' x = zn_num ky L → zn_St no be no' be' → post (nI x) (nI L, hd, a1, a2, a3, a4, al, zn_I ky, zn_I ch', zn_I no', zn_I be', ae, so, va, aq)) :
    wpX_growNode post (nI L, hd, a1, a2, a3, a4, al, zn_I ky, zn_I ch, zn_I no, zn_I be, ae, so, va, aq) := by
  refine nm_r (e' := zn_I (zn_up be 0 (be 0 + 1))) ?_ ⟨L + 1, zx_gr14 (no0 := no) (be0 := be) D hL hW hf hp L 0 ch no _ 0 (by omega) (zt_gr T) (zt_lv0 _) T.1 ?_⟩
  · rw [zn_Ia, nI_1, zn_upI]
  · intro n hn
    refine ⟨⟨hn.1, ?_⟩, rfl⟩
    by_cases z : n = 0
    · exact Or.inl z
    · rw [zn_un z]
      exact hn.2
/-! shrinkPath -/
theorem zx_sh14 {post : SX → Prop} (T : zt_TI w ch no be) (D : zn_D ky) (hL : L ≤ 4) (hw : ∀ m, w m ≤ 30) (h0 : 0 < w (zn_num ky L))
    (hp : post (nI L, hd, a1, a2, a3, a4, al, zn_I ky, zn_I (zs_ch ch be (zt_nd ch ky) ky L), ao, zn_I (zs_be be (zt_nd ch ky) L), ae, so, va, aq)) :
    ∀ d k, k + d = L → wX_shrinkPath_14 post (nI L) hd a1 a2 a3 a4 al (d + 1) (nI (zt_nd ch ky k)) (nI k) (zn_I ky) (zn_I (zs_ch ch be (zt_nd ch ky) ky k)) ao (zn_I (zs_be be (zt_nd ch ky) k)) ae so va aq := by
  have hk : ∀ k, k ≤ L → zt_lv be (zt_nd ch ky k) ∧ no (zt_nd ch ky k) = zn_num ky k := fun k h => zt_nd_ok T D k (Or.inr (zt_wdn D T.2.2.2.2.2 h0 h))
  have hz : zt_nd ch ky 0 = 0 := rfl
  have hi : ∀ i j, i ≤ L → j ≤ L → zt_nd ch ky i = zt_nd ch ky j → i = j := fun i j a b e => zn_injk D ((hk i a).2.symm.trans ((congrArg no e).trans (hk j b).2))
  intro d
  induction d with
  | zero =>
    intro k hk
    have e0 : k = L := hk
    rw [e0]
    exact br_t (nI_le (Nat.le_refl _) (by omega)) hp
  | succ d ih =>
    intro k hkd
    have ck : (nI k).toNatClampNeg = k := nI_clamp (by omega)
    have dk := D k
    have x1 := (hk k (by omega)).1.1
    have c1 := (hk (k + 1) (by omega)).1.1
    have cc : (nI (zt_nd ch ky (k + 1))).toNatClampNeg = zt_nd ch ky (k + 1) := nI_clamp (by omega)
    have hik : vp_in (nI k) 4 := vp_in_nI (by omega) (by omega)
    have hic : vp_in (nI (zt_nd ch ky (k + 1))) 100 := vp_in_nI c1 (by omega)
    have hi8 : vp_in (nI (8 * zt_nd ch ky k + ky k)) 800 := vp_in_nI (by omega) (by omega)
    have hrd : zs_ch ch be (zt_nd ch ky) ky k (8 * zt_nd ch ky k + ky k) = zt_nd ch ky (k + 1) := by
      rw [zs_ch_out k (fun j hj z => by
        have d1 := D j
        have := hi k j (by omega) (by omega) (by omega)
        omega), zt_nd_s]
    have hbo : zs_be be (zt_nd ch ky) k (zt_nd ch ky (k + 1)) = be (zt_nd ch ky (k + 1)) := zs_be_out hz k (fun j hj z => by
      have := hi (k + 1) j (by omega) (by omega) z
      omega)
    have hb1 : 0 < be (zt_nd ch ky (k + 1)) := by
      rw [(T.2.1 _ (hk (k + 1) (by omega)).1).2, (hk (k + 1) (by omega)).2]
      exact zt_wdn D T.2.2.2.2.2 h0 (by omega)
    have hb2 := zt_be_le T hw _ c1
    have hbe : upd (zn_I (zs_be be (zt_nd ch ky) k)) (zt_nd ch ky (k + 1)) (zn_I (zs_be be (zt_nd ch ky) k) (zt_nd ch ky (k + 1)) - 1) = zn_I (zs_be be (zt_nd ch ky) (k + 1)) := by
      rw [zn_Ia, show (1 : Int32) = nI 1 from rfl, pk_sub (by omega), zn_upI, zs_be_s]
    have hval : zs_be be (zt_nd ch ky) (k + 1) (zt_nd ch ky (k + 1)) = be (zt_nd ch ky (k + 1)) - 1 := by rw [zs_be_s, zn_us, hbo]
    have i := ih (k + 1) (by omega)
    rw [zs_ch_s] at i
    refine br_f (nI_ge (by omega) (by omega)) ⟨hik, ?_⟩
    rw [ck, zn_Ia ky k, zn_8, nI_clamp (n := 8 * zt_nd ch ky k + ky k) (by omega)]
    refine ⟨hi8, nm_r (e' := nI (zt_nd ch ky (k + 1))) (by rw [zn_Ia, hrd]) ⟨hic, hic, ?_⟩⟩
    rw [cc]
    refine nm_r hbe ⟨hic, ?_⟩
    rw [zn_Ia, hval]
    rw [hval] at i
    by_cases c : be (zt_nd ch ky (k + 1)) - 1 = 0
    · rw [if_pos c] at i
      exact br_t (by rw [c]; rfl) ⟨hik, hi8, nm_r (zn_upI _ _ 0) (nm_r (nI_1 _) i)⟩
    · rw [if_neg c] at i
      exact br_f (nI_ne0 (by omega) (by omega)) (nm_r (nI_1 _) i)
theorem zx_shrinkPath {post : SX → Prop} (T : zt_TI w ch no be) (D : zn_D ky) (hL : L ≤ 4) (hw : ∀ m, w m ≤ 30) (h0 : 0 < w (zn_num ky L))
    (hp : post (nI L, hd, a1, a2, a3, a4, al, zn_I ky, zn_I (zs_ch ch be (zt_nd ch ky) ky L), ao, zn_I (zs_be be (zt_nd ch ky) L), ae, so, va, aq)) :
    wpX_shrinkPath post (nI L, hd, a1, a2, a3, a4, al, zn_I ky, zn_I ch, ao, zn_I be, ae, so, va, aq) := by
  refine nm_r (e' := zn_I (zs_be be (zt_nd ch ky) 0)) ?_ ⟨L + 1, zx_sh14 T D hL hw h0 hp L 0 (by omega)⟩
  have hw0 := zt_wdn D T.2.2.2.2.2 h0 (j := 0) (by omega)
  have e := (T.2.1 0 (zt_lv0 be)).2
  rw [T.1] at e
  have e2 : 0 < be 0 := by
    rw [e]
    exact hw0
  rw [zn_Ia, show (1 : Int32) = nI 1 from rfl, pk_sub (by omega), zn_upI]
  rfl
end ZG1
end
section
section ZL1
variable {kl a1 a2 a3 a4 : Int32} {ak ab so va aq : Nat → Int32} {h L : Nat} {ch no be en nm p : Nat → Nat} {x1 : Int32} {post : SX → Prop}
def zn_fo (c : Nat) : Int32 := if 0 < c then 1 else 2
theorem zx_settle {n : Nat} {r : Int32} (hn : n < 100) (hp : post (kl, nI h, r, nI (no n), nI n, a4, nI L, ak, zn_I ch, zn_I no, ab, zn_I en, so, va, aq)) : wpX_settle post (kl, nI h, a1, a2, a3, a4, nI L, ak, zn_I ch, zn_I no, ab, zn_I en, so, va, aq) r (nI n) := by
  refine ⟨vp_in_nI hn (by omega), ?_⟩
  rw [nI_clamp (by omega)]
  exact nm_e hp
theorem zx_dec52 {n : Nat} (hn : n < 100) (h24 : h ≤ 24) (hp : post (kl, nI h, zn_fo (zn_cn (zn_qI (zn_I en) so (nI n) x1) h), nI (no n), nI n, a4, nI L, ak, zn_I ch, zn_I no, ab, zn_I en, so, va, aq)) : wX_decide_52 post x1 (nI n) kl (nI h) a1 a2 a3 a4 (nI L) ak (zn_I ch) (zn_I no) ab (zn_I en) so va aq := by
  have hc := zn_cn_le (zn_qI (zn_I en) so (nI n) x1) h
  refine zx_count h24 ?_
  unfold zn_fo at hp
  by_cases c : 0 < zn_cn (zn_qI (zn_I en) so (nI n) x1) h
  · rw [if_pos c] at hp
    exact br_f (nI_nle c (by omega)) (zx_settle hn hp)
  · rw [if_neg c] at hp
    refine br_t ?_ (zx_settle hn hp)
    rw [show zn_cn (zn_qI (zn_I en) so (nI n) x1) h = 0 from by omega]
    exact Int32.le_refl _
theorem zx_decA {n : Nat} (hn : n < 100) (h24 : h ≤ 24) (c : x1 = 3 ∨ zn_cn (zn_qI (zn_I en) so (nI n) 3) h = 0) (hp : post (kl, nI h, zn_fo (zn_cn (zn_qI (zn_I en) so (nI n) x1) h), nI (no n), nI n, a4, nI L, ak, zn_I ch, zn_I no, ab, zn_I en, so, va, aq)) : wpX_decide post (kl, nI h, a1, a2, a3, a4, nI L, ak, zn_I ch, zn_I no, ab, zn_I en, so, va, aq) x1 (nI n) := by
  by_cases e : x1 = 3
  · exact br_t e (zx_dec52 hn h24 hp)
  · refine br_f e (zx_count h24 ?_)
    have c0 : zn_cn (zn_qI (zn_I en) so (nI n) 3) h = 0 := by
      rcases c with c | c
      · exact absurd c e
      · exact c
    refine br_t ?_ (zx_dec52 hn h24 hp)
    rw [c0]
    exact Int32.le_refl _
theorem zx_decB {n : Nat} (h24 : h ≤ 24) (hL : L ≤ 4) (g : ∀ i, i < L → aq i = nI (p i)) (e : ¬ x1 = 3) (c : 0 < zn_cn (zn_qI (zn_I en) so (nI n) 3) h) (hp : post (kl, nI h, 5, nI (zn_num p L), a3, nI 5, nI L, ak, zn_I ch, zn_I no, ab, zn_I en, so, va, aq)) : wpX_decide post (kl, nI h, a1, a2, a3, nI 5, nI L, ak, zn_I ch, zn_I no, ab, zn_I en, so, va, aq) x1 (nI n) := by
  have hc := zn_cn_le (zn_qI (zn_I en) so (nI n) 3) h
  exact br_f e (zx_count h24 (br_f (nI_nle c (by omega)) (br_t rfl (zx_askedNumber hL g hp))))
theorem zx_decC {n r l : Nat} {t : Nat → Nat} (h24 : h ≤ 24) (hr : r < 5) (e : ¬ x1 = 3) (c : 0 < zn_cn (zn_qI (zn_I en) so (nI n) 3) h) (D : zn_D t) (hl : l ≤ 4) (ht : zn_rk (zn_qI (zn_I en) so (nI n) 3) va 0 h h 0 = nI (zn_num t l)) :
    ∃ aq' : Nat → Int32, (∀ i, i < l → aq' i = nI (t i)) ∧ ∀ post : SX → Prop, post (kl, nI h, a1, a2, a3, nI r, nI l, ak, zn_I ch, zn_I no, ab, zn_I en, so, va, aq') → wpX_decide post (kl, nI h, a1, a2, a3, nI r, nI L, ak, zn_I ch, zn_I no, ab, zn_I en, so, va, aq) x1 (nI n) := by
  have hc := zn_cn_le (zn_qI (zn_I en) so (nI n) 3) h
  obtain ⟨aq', ha, i⟩ := zx_askNumber (kl := kl) (hd := nI h) (a1 := a1) (a2 := a2) (a3 := a3) (a4 := nI r) (al := nI L) (ak := ak) (ac := zn_I ch) (ao := zn_I no) (ab := ab) (ae := zn_I en) (so := so) (va := va) (aq := aq) D hl
  refine ⟨aq', ha, fun post hp => br_f e (zx_count h24 (br_f (nI_nle c (by omega)) (br_f ?_ (zx_ranked h24 ?_))))⟩
  · exact fun z => by
      have := (nI_eq (b := 5) (by omega) (by omega)).mp z
      omega
  · rw [ht]
    exact i _ hp
/-! the way down -/
theorem zx_head {k n : Nat} (hL : L ≤ 4) (D : zn_D p) (g : ∀ i, i < L → aq i = nI (p i)) (hk : k < L) (o : zt_nd ch p k < 100) (o2 : zt_nd ch p (k + 1) < 100)
    (K1 : zt_nd ch p (k + 1) = 0 → wX_walk_53 post (wX_walk_10 post x1 kl (nI h) a1 a2 a3 a4 (nI L) ak (zn_I ch) (zn_I no) ab (zn_I en) so va aq n) x1 (nI (zt_nd ch p k)) (nI k) (nI k) (nI (zt_nd ch p (k + 1))) 0 kl (nI h) a1 a2 a3 a4 (nI L) ak (zn_I ch) (zn_I no) ab (zn_I en) so va aq)
    (K2 : 0 < zt_nd ch p (k + 1) → wX_walk_53 post (wX_walk_10 post x1 kl (nI h) a1 a2 a3 a4 (nI L) ak (zn_I ch) (zn_I no) ab (zn_I en) so va aq n) x1 (nI (zt_nd ch p k)) (nI k) (nI k) (nI (zt_nd ch p (k + 1))) 1 kl (nI h) a1 a2 a3 a4 (nI L) ak (zn_I ch) (zn_I no) ab (zn_I en) so va aq) :
    wX_walk_10 post x1 kl (nI h) a1 a2 a3 a4 (nI L) ak (zn_I ch) (zn_I no) ab (zn_I en) so va aq (n + 1) (nI (zt_nd ch p k)) (nI k) 1 (nI k) := by
  have dk := D k
  have ck : (nI k).toNatClampNeg = k := nI_clamp (by omega)
  refine br_f (nI_ge hk (by omega)) (br_f (by decide) ⟨vp_in_nI (by omega) (by omega), ?_⟩)
  rw [ck, g k hk, zn_8, nI_clamp (n := 8 * zt_nd ch p k + p k) (by omega)]
  refine ⟨vp_in_nI (by omega) (by omega), nm_r (e' := nI (zt_nd ch p (k + 1))) rfl ?_⟩
  by_cases c : zt_nd ch p (k + 1) = 0
  · refine br_t ?_ (K1 c)
    rw [c]
    exact Int32.le_refl _
  · exact br_f (nI_nle (by omega) (by omega)) (K2 (by omega))
theorem zx_step1 {k n : Nat} (hL : L ≤ 4) (h24 : h ≤ 24) (D : zn_D p) (g : ∀ i, i < L → aq i = nI (p i)) (hk : k < L) (o : zt_nd ch p k < 100) (c0 : 0 < zt_nd ch p (k + 1)) (c1 : zt_nd ch p (k + 1) < 100)
    (hc : x1 = 4 ∨ zn_cn (zn_qI (zn_I en) so (nI (zt_nd ch p (k + 1))) 4) h = 0) (K : wX_walk_10 post x1 kl (nI h) a1 a2 a3 a4 (nI L) ak (zn_I ch) (zn_I no) ab (zn_I en) so va aq n (nI (zt_nd ch p (k + 1))) (nI (k + 1)) 1 (nI (k + 1))) :
    wX_walk_10 post x1 kl (nI h) a1 a2 a3 a4 (nI L) ak (zn_I ch) (zn_I no) ab (zn_I en) so va aq (n + 1) (nI (zt_nd ch p k)) (nI k) 1 (nI k) := by
  refine zx_head hL D g hk o c1 (fun z => by omega) (fun _ => ?_)
  refine br_f (by decide) (nm_r (nI_1 _) ?_)
  by_cases e : x1 = 4
  · exact br_t e (nm_r (nI_1 _) K)
  · refine br_f e (zx_count h24 ?_)
    have c2 : zn_cn (zn_qI (zn_I en) so (nI (zt_nd ch p (k + 1))) 4) h = 0 := by
      rcases hc with c | c
      · exact absurd c e
      · exact c
    refine br_t ?_ (nm_r (nI_1 _) K)
    rw [c2]
    exact Int32.le_refl _
theorem zx_hand {k n : Nat} (hL : L ≤ 4) (h24 : h ≤ 24) (D : zn_D p) (g : ∀ i, i < L → aq i = nI (p i)) (hk : k < L) (o : zt_nd ch p k < 100) (c0 : 0 < zt_nd ch p (k + 1)) (c1 : zt_nd ch p (k + 1) < 100)
    (e : ¬ x1 = 4) (hc : 0 < zn_cn (zn_qI (zn_I en) so (nI (zt_nd ch p (k + 1))) 4) h) (hp : post (kl, nI h, 4, nI (no (zt_nd ch p (k + 1))), nI (zt_nd ch p (k + 1)), a4, nI L, ak, zn_I ch, zn_I no, ab, zn_I en, so, va, aq)) :
    wX_walk_10 post x1 kl (nI h) a1 a2 a3 a4 (nI L) ak (zn_I ch) (zn_I no) ab (zn_I en) so va aq (n + 1) (nI (zt_nd ch p k)) (nI k) 1 (nI k) := by
  have hcl := zn_cn_le (zn_qI (zn_I en) so (nI (zt_nd ch p (k + 1))) 4) h
  refine zx_head hL D g hk o c1 (fun z => by omega) (fun _ => ?_)
  refine br_f (by decide) (nm_r (nI_1 _) ?_)
  exact br_f e (zx_count h24 (br_f (nI_nle hc (by omega)) (zx_settle c1 hp)))
theorem zx_adv {w : Nat → Nat} (T : zt_TI w ch no be) (hL : L ≤ 4) (h24 : h ≤ 24) (D : zn_D p) (g : ∀ i, i < L → aq i = nI (p i)) :
    ∀ k n, k ≤ L → (k = 0 ∨ 0 < w (zn_num p k)) → (∀ j, 0 < j → j ≤ k → x1 = 4 ∨ zn_cn (zn_qI (zn_I en) so (nI (zt_nd ch p j)) 4) h = 0) →
    wX_walk_10 post x1 kl (nI h) a1 a2 a3 a4 (nI L) ak (zn_I ch) (zn_I no) ab (zn_I en) so va aq n (nI (zt_nd ch p k)) (nI k) 1 (nI k) → wX_walk_10 post x1 kl (nI h) a1 a2 a3 a4 (nI L) ak (zn_I ch) (zn_I no) ab (zn_I en) so va aq (n + k) (nI 0) (nI 0) 1 (nI 0) := by
  intro k
  induction k with
  | zero => intro n _ _ _ K; exact K
  | succ k ih =>
    intro n hk hw hc K
    have hw1 : 0 < w (zn_num p (k + 1)) := by
      rcases hw with z | z
      · omega
      · exact z
    have hw0 := zt_wdn D T.2.2.2.2.2 hw1 (j := k) (by omega)
    have o := zt_nd_ok T D k (Or.inr hw0)
    have o2 := zt_nd_ok T D (k + 1) (Or.inr hw1)
    have i := ih (n + 1) (by omega) (Or.inr hw0) (fun j a b => hc j a (by omega)) (zx_step1 hL h24 D g (by omega) o.1.1 (zt_nd_p T D hw1) o2.1.1 (hc (k + 1) (by omega) (by omega)) K)
    rw [show n + 1 + k = n + (k + 1) from by omega] at i
    exact i
theorem zx_end {n : Nat} (hL : L ≤ 4) (K : wpX_decide post (kl, nI h, a1, a2, a3, a4, nI L, ak, zn_I ch, zn_I no, ab, zn_I en, so, va, aq) x1 (nI (zt_nd ch p L))) : wX_walk_10 post x1 kl (nI h) a1 a2 a3 a4 (nI L) ak (zn_I ch) (zn_I no) ab (zn_I en) so va aq (n + 1) (nI (zt_nd ch p L)) (nI L) 1 (nI L) := by
  have hl : nI L ≤ nI L := nI_le (Nat.le_refl _) (by omega)
  exact br_t hl (br_t hl K)
theorem zx_off {k n : Nat} (hL : L ≤ 4) (D : zn_D p) (g : ∀ i, i < L → aq i = nI (p i)) (hk : k < L) (o : zt_nd ch p k < 100) (o2 : zt_nd ch p (k + 1) = 0)
    (K : wX_walk_93 post x1 (nI (zt_nd ch p k)) (nI k) kl (nI h) a1 a2 a3 a4 (nI L) ak (zn_I ch) (zn_I no) ab (zn_I en) so va aq) : wX_walk_10 post x1 kl (nI h) a1 a2 a3 a4 (nI L) ak (zn_I ch) (zn_I no) ab (zn_I en) so va aq (n + 2) (nI (zt_nd ch p k)) (nI k) 1 (nI k) := by
  refine zx_head (n := n + 1) hL D g hk o (by omega) (fun _ => ?_) (fun z => by omega)
  refine br_t rfl (nm_r (nI_1 _) ?_)
  by_cases c : L ≤ k + 1
  · exact br_t (nI_le c (by omega)) K
  · exact br_f (nI_ge (by omega) (by omega)) (br_t rfl K)
theorem zx_93 {k : Nat} (hL : L ≤ 4) (g : ∀ i, i < L → aq i = nI (p i)) (hk : k < L) (o : zt_nd ch p k < 100) (o2 : ch (8 * zt_nd ch p k + 7) < 100)
    (K1 : ch (8 * zt_nd ch p k + 7) = 0 → post (kl, nI h, 3, nI (zn_num p L), a3, a4, nI L, ak, zn_I ch, zn_I no, ab, zn_I en, so, va, aq))
    (K2 : 0 < ch (8 * zt_nd ch p k + 7) → wpX_decide post (kl, nI h, a1, a2, a3, a4, nI L, ak, zn_I ch, zn_I no, ab, zn_I en, so, va, aq) x1 (nI (ch (8 * zt_nd ch p k + 7)))) : wX_walk_93 post x1 (nI (zt_nd ch p k)) (nI k) kl (nI h) a1 a2 a3 a4 (nI L) ak (zn_I ch) (zn_I no) ab (zn_I en) so va aq := by
  refine br_f (nI_ge hk (by omega)) ?_
  rw [show (8 : Int32) * nI (zt_nd ch p k) + 7 = nI (8 * zt_nd ch p k + 7) from zn_8 _ 7, nI_clamp (n := 8 * zt_nd ch p k + 7) (by omega)]
  refine ⟨vp_in_nI (by omega) (by omega), nm_r (e' := nI (ch (8 * zt_nd ch p k + 7))) rfl ?_⟩
  by_cases c : ch (8 * zt_nd ch p k + 7) = 0
  · exact br_t (by rw [c]; rfl) (zx_askedNumber hL g (K1 c))
  · exact br_f (nI_ne0 (by omega) (by omega)) (K2 (by omega))
end ZL1
section ZL2
variable {so va : Nat → Int32} {h L r n : Nat} {nm p : Nat → Nat} {x1 yk yl yp yr : Int32} {post : Int32 → SY → Prop}
theorem zy_81 {m : Nat} (h24 : h ≤ 24) (hp : post (zn_fo (zn_cn (zn_qI (zn_I nm) so (nI m) x1) h)) (nI h, yk, yl, nI m, yr, zn_I nm, so, va)) : wY_lookUp_81 post x1 (nI m) (nI h) yk yl yp yr (zn_I nm) so va := by
  have hc := zn_cn_le (zn_qI (zn_I nm) so (nI m) x1) h
  refine zy_count h24 ?_
  unfold zn_fo at hp
  by_cases c : 0 < zn_cn (zn_qI (zn_I nm) so (nI m) x1) h
  · rw [if_pos c] at hp
    exact br_f (nI_nle c (by omega)) hp
  · rw [if_neg c] at hp
    refine br_t ?_ hp
    rw [show zn_cn (zn_qI (zn_I nm) so (nI m) x1) h = 0 from by omega]
    exact Int32.le_refl _
theorem zy_43 {q : Int32} (h24 : h ≤ 24) (hL : L ≤ 4) (D : zn_D p) (hr : r ≤ 5) (hq : q = nI (zn_num p L)) (hno : x1 = 4 ∨ ∀ j, 0 < j → j ≤ L → zn_c4 nm so h (zn_num p j) = 0)
    (K : wY_lookUp_43 post (wY_lookUp_10 post x1 (nI h) yk yl (zn_I nm) so va n) x1 q (-1) q (nI h) yk yl yp (nI r) (zn_I nm) so va) : wY_lookUp_10 post x1 (nI h) yk yl (zn_I nm) so va (n + 1) q yp (nI r) := by
  subst hq
  refine br_f (nI_nlt (a := 5) (b := r) hr (by omega)) ?_
  by_cases e : x1 = 4
  · exact br_t e (br_t (by decide) K)
  · refine br_f e (zy_handed D h24 hL ?_)
    have c : ∀ j, 0 < j → j ≤ L → zn_c4 nm so h (zn_num p j) = 0 := by
      rcases hno with c | c
      · exact absurd c e
      · exact c
    rw [zn_hb_no L (-1) c]
    exact br_t (by decide) K
theorem zy_H {j : Nat} (h24 : h ≤ 24) (hL : L ≤ 4) (D : zn_D p) (hr : r ≤ 5) (e : ¬ x1 = 4) (j0 : 0 < j) (jL : j ≤ L) (hj : 0 < zn_c4 nm so h (zn_num p j)) (hm : ∀ i, 0 < i → i < j → zn_c4 nm so h (zn_num p i) = 0)
    (hp : post 4 (nI h, yk, yl, nI (zn_num p j), nI r, zn_I nm, so, va)) : wY_lookUp_10 post x1 (nI h) yk yl (zn_I nm) so va (n + 1) (nI (zn_num p L)) yp (nI r) := by
  have hl := zn_lt4 D (k := j) (by omega)
  have hz : ¬ nI (zn_num p j) < 0 := nI_pos (by omega)
  refine br_f (nI_nlt (a := 5) (b := r) hr (by omega)) (br_f e (zy_handed D h24 hL ?_))
  rw [zn_hb_at j0 hj hm L (-1) jL]
  exact br_f hz (br_f hz hp)
theorem zy_no {J : Int32 → Int32 → Int32 → Prop} {q : Int32} (h24 : h ≤ 24) (hL : L ≤ 4) (D : zn_D p) (hN : ∀ e, e < h → nm e < 6561) (hq : q = nI (zn_num p L)) (ha : zn_an nm h p L = -1) (hp : post 3 (nI h, yk, yl, q, yr, zn_I nm, so, va)) :
    wY_lookUp_43 post J x1 q (-1) q (nI h) yk yl yp yr (zn_I nm) so va := by
  subst hq
  refine br_t (by decide) (zy_answering D h24 hN hL ?_)
  rw [ha]
  exact br_f (by decide) hp
theorem zy_A {J : Int32 → Int32 → Int32 → Prop} {q : Int32} {m : Nat} (h24 : h ≤ 24) (hL : L ≤ 4) (D : zn_D p) (hN : ∀ e, e < h → nm e < 6561) (hq : q = nI (zn_num p L)) (hm : m < 2 ^ 31) (ha : zn_an nm h p L = nI m) (c : x1 = 3 ∨ zn_cn (zn_qI (zn_I nm) so (nI m) 3) h = 0)
    (hp : post (zn_fo (zn_cn (zn_qI (zn_I nm) so (nI m) x1) h)) (nI h, yk, yl, nI m, yr, zn_I nm, so, va)) : wY_lookUp_43 post J x1 q (-1) q (nI h) yk yl yp yr (zn_I nm) so va := by
  have hc := zn_cn_le (zn_qI (zn_I nm) so (nI m) 3) h
  subst hq
  refine br_t (by decide) (zy_answering D h24 hN hL ?_)
  rw [ha]
  refine br_t (nI_pos' hm) (zy_count h24 ?_)
  by_cases c3 : zn_cn (zn_qI (zn_I nm) so (nI m) 3) h = 0
  · refine br_t ?_ (zy_81 h24 hp)
    rw [c3]
    rfl
  · refine br_f (nI_ne0 (by omega) (by omega)) (br_t ?_ (zy_81 h24 hp))
    rcases c with c | c
    · exact c
    · exact absurd c c3
theorem zy_B {J : Int32 → Int32 → Int32 → Prop} {q : Int32} {m : Nat} (h24 : h ≤ 24) (hL : L ≤ 4) (D : zn_D p) (hN : ∀ e, e < h → nm e < 6561) (hq : q = nI (zn_num p L)) (hm : m < 2 ^ 31) (ha : zn_an nm h p L = nI m) (e : ¬ x1 = 3) (c : 0 < zn_cn (zn_qI (zn_I nm) so (nI m) 3) h)
    (hp : post 5 (nI h, yk, yl, q, nI 5, zn_I nm, so, va)) : wY_lookUp_43 post J x1 q (-1) q (nI h) yk yl yp (nI 5) (zn_I nm) so va := by
  have hc := zn_cn_le (zn_qI (zn_I nm) so (nI m) 3) h
  subst hq
  refine br_t (by decide) (zy_answering D h24 hN hL ?_)
  rw [ha]
  exact br_t (nI_pos' hm) (zy_count h24 (br_f (nI_ne0 (by omega) (by omega)) (br_f e (br_t rfl hp))))
theorem zy_C {J : Int32 → Int32 → Int32 → Prop} {q : Int32} {m : Nat} (h24 : h ≤ 24) (hL : L ≤ 4) (D : zn_D p) (hN : ∀ e, e < h → nm e < 6561) (hq : q = nI (zn_num p L)) (hm : m < 2 ^ 31) (ha : zn_an nm h p L = nI m) (hr : r < 5) (e : ¬ x1 = 3) (c : 0 < zn_cn (zn_qI (zn_I nm) so (nI m) 3) h)
    (hJ : J (zn_rk (zn_qI (zn_I nm) so (nI m) 3) va 0 h h 0) q (nI (r + 1))) : wY_lookUp_43 post J x1 q (-1) q (nI h) yk yl yp (nI r) (zn_I nm) so va := by
  have hc := zn_cn_le (zn_qI (zn_I nm) so (nI m) 3) h
  subst hq
  refine br_t (by decide) (zy_answering D h24 hN hL ?_)
  rw [ha]
  refine br_t (nI_pos' hm) (zy_count h24 (br_f (nI_ne0 (by omega) (by omega)) (br_f e (br_f ?_ (zy_valueOf h24 (nm_r (nI_1 _) hJ))))))
  exact fun z => by
    have := (nI_eq (b := 5) (by omega) (by omega)).mp z
    omega
end ZL2
end
section
section ZR1
/-! the entries and the tree -/
def zr_EI (h : Nat) (ch no be en nm : Nat → Nat) (so va : Nat → Int32) : Prop :=
  h ≤ 24 ∧ zt_TI (zn_W nm h) ch no be ∧ (∀ e, e < h → zt_lv be (en e) ∧ no (en e) = nm e) ∧ (∀ e, e < h → so e = 3 → zn_Tg (va e))
variable {h L r n : Nat} {ch no be en nm p : Nat → Nat} {so va : Nat → Int32}
theorem zr_N (E : zr_EI h ch no be en nm so va) (e : Nat) (he : e < h) : zn_Nm (nm e) := by
  obtain ⟨a, b⟩ := E.2.2.1 e he
  rw [← b]
  exact (E.2.1.2.1 _ a).1
theorem zr_lt (E : zr_EI h ch no be en nm so va) (e : Nat) (he : e < h) : nm e < 6561 := zn_Nm_lt (zr_N E e he)
theorem zr_q (E : zr_EI h ch no be en nm so va) (hn : zt_lv be n) (s : Int32) (e : Nat) (he : e < h) : zn_qI (zn_I en) so (nI n) s e = zn_qI (zn_I nm) so (nI (no n)) s e := by
  obtain ⟨a, b⟩ := E.2.2.1 e he
  have h1 := zr_lt E e he
  have h2 := zn_Nm_lt (E.2.1.2.1 _ hn).1
  have h3 := a.1
  have h4 := hn.1
  have i : (zn_I en e = nI n) ↔ (zn_I nm e = nI (no n)) := by
    rw [zn_Ia, zn_Ia, nI_eq (by omega) (by omega), nI_eq (by omega) (by omega), ← b]
    exact ⟨fun z => by rw [z], fun z => E.2.1.2.2.2.2.1 _ _ a hn z⟩
  unfold zn_qI
  rw [decide_eq_decide.mpr i]
theorem zr_c (E : zr_EI h ch no be en nm so va) (hn : zt_lv be n) (s : Int32) : zn_cn (zn_qI (zn_I en) so (nI n) s) h = zn_cn (zn_qI (zn_I nm) so (nI (no n)) s) h := zn_cn_congr h (zr_q E hn s)
theorem zr_pos (E : zr_EI h ch no be en nm so va) {m : Nat} {s : Int32} (hm : m < 6561) (c : 0 < zn_cn (zn_qI (zn_I nm) so (nI m) s) h) : 0 < zn_W nm h m := by
  obtain ⟨e, he, g⟩ := (zn_cn_pos h).mp c
  have h1 := zr_lt E e he
  have h2 : nm e = m := (nI_eq (by omega) (by omega)).mp (zn_qI_e g).1
  exact zn_W_pos.mpr ⟨e, he, by rw [h2]; exact zn_cv_self m⟩
theorem zr_tg (E : zr_EI h ch no be en nm so va) (x : Int32) : zn_Tg (zn_rk (zn_qI (zn_I nm) so x 3) va 0 h h 0) := by
  rcases zn_rk_in (h := h) (q := zn_qI (zn_I nm) so x 3) (v := va) (idx := 0) h 0 (by omega) with z | z
  · rw [z]
    exact ⟨fun _ => 0, 0, zn_D0, by omega, rfl⟩
  · obtain ⟨f, hf, g, z⟩ := z
    rw [z]
    exact E.2.2.2 f hf (zn_qI_e g).2
/-- a name is on the way or not; the least place with a property -/
theorem zn_least {P : Nat → Prop} : ∀ k, (∃ j, 0 < j ∧ j ≤ k ∧ P j ∧ ∀ i, 0 < i → i < j → ¬ P i) ∨ (∀ j, 0 < j → j ≤ k → ¬ P j) := by
  intro k
  induction k with
  | zero => exact Or.inr (fun j a b => by omega)
  | succ k ih =>
    rcases ih with i | i
    · obtain ⟨j, a, b, c, d⟩ := i
      exact Or.inl ⟨j, a, by omega, c, d⟩
    · by_cases z : P (k + 1)
      · exact Or.inl ⟨k + 1, by omega, by omega, z, fun i' a b => i i' a (by omega)⟩
      · refine Or.inr (fun j a b => ?_)
        by_cases e : j = k + 1
        · rw [e]
          exact z
        · exact i j a (by omega)
def zo_N (no be : Nat → Nat) (ans pl nd : Int32) : Prop := (ans = 1 ∨ ans = 4) → ∃ n, zt_lv be n ∧ nd = nI n ∧ pl = nI (no n)
theorem zn_fo_0 (c : Nat) : zn_fo c ≠ 0 := by
  unfold zn_fo
  split <;> decide
variable {kl a1 a2 a3 : Int32} {ak ab aq : Nat → Int32} {x1 yk yl yp : Int32}
/-- a round ends, or names the next name -/
def zr_Out (h L r n : Nat) (ch no be en nm p : Nat → Nat) (so va : Nat → Int32) (kl a1 a2 a3 : Int32) (ak ab aq : Nat → Int32) (x1 yk yl yp : Int32) : Prop :=
  (∃ ans pl nd : Int32, ans ≠ 0 ∧ zo_N no be ans pl nd ∧
    (∀ post : SX → Prop, post (kl, nI h, ans, pl, nd, nI r, nI L, ak, zn_I ch, zn_I no, ab, zn_I en, so, va, aq) → wpX_walk post (kl, nI h, a1, a2, a3, nI r, nI L, ak, zn_I ch, zn_I no, ab, zn_I en, so, va, aq) x1) ∧
    (∀ post : Int32 → SY → Prop, post ans (nI h, yk, yl, pl, nI r, zn_I nm, so, va) → wY_lookUp_10 post x1 (nI h) yk yl (zn_I nm) so va (n + 1) (nI (zn_num p L)) yp (nI r))) ∨
  (∃ (t : Nat → Nat) (l : Nat) (aq' : Nat → Int32), r < 5 ∧ zn_D t ∧ l ≤ 4 ∧ (∀ i, i < l → aq' i = nI (t i)) ∧
    (∀ post : SX → Prop, post (kl, nI h, a1, a2, a3, nI r, nI l, ak, zn_I ch, zn_I no, ab, zn_I en, so, va, aq') → wpX_walk post (kl, nI h, a1, a2, a3, nI r, nI L, ak, zn_I ch, zn_I no, ab, zn_I en, so, va, aq) x1) ∧
    (∀ post : Int32 → SY → Prop, wY_lookUp_10 post x1 (nI h) yk yl (zn_I nm) so va n (nI (zn_num t l)) (nI (zn_num p L)) (nI (r + 1)) → wY_lookUp_10 post x1 (nI h) yk yl (zn_I nm) so va (n + 1) (nI (zn_num p L)) yp (nI r)))
/-- a round that comes to a node of the name m -/
theorem zr_dec {m : Nat} (E : zr_EI h ch no be en nm so va) (D : zn_D p) (hL : L ≤ 4) (hr : r ≤ 5) (g : ∀ i, i < L → aq i = nI (p i)) (hn : zt_lv be m)
    (hno : x1 = 4 ∨ ∀ j, 0 < j → j ≤ L → zn_c4 nm so h (zn_num p j) = 0) (ha : zn_an nm h p L = nI (no m))
    (hX : ∀ post : SX → Prop, wpX_decide post (kl, nI h, a1, a2, a3, nI r, nI L, ak, zn_I ch, zn_I no, ab, zn_I en, so, va, aq) x1 (nI m) → wpX_walk post (kl, nI h, a1, a2, a3, nI r, nI L, ak, zn_I ch, zn_I no, ab, zn_I en, so, va, aq) x1) :
    zr_Out h L r n ch no be en nm p so va kl a1 a2 a3 ak ab aq x1 yk yl yp := by
  have h24 := E.1
  have hN := zr_lt E
  have hm := zn_Nm_lt (E.2.1.2.1 _ hn).1
  have ec := zr_c E hn
  by_cases c : x1 = 3 ∨ zn_cn (zn_qI (zn_I nm) so (nI (no m)) 3) h = 0
  · refine Or.inl ⟨zn_fo (zn_cn (zn_qI (zn_I nm) so (nI (no m)) x1) h), nI (no m), nI m, zn_fo_0 _, fun _ => ⟨m, hn, rfl, rfl⟩, fun post hp => hX post (zx_decA hn.1 h24 ?_ ?_), fun post hp => zy_43 h24 hL D hr rfl hno (zy_A h24 hL D hN rfl (by omega) ha c hp)⟩
    · rw [ec 3]
      exact c
    · rw [ec x1]
      exact hp
  · have e : ¬ x1 = 3 := fun z => c (Or.inl z)
    have c3 : 0 < zn_cn (zn_qI (zn_I nm) so (nI (no m)) 3) h := Nat.pos_of_ne_zero (fun z => c (Or.inr z))
    have c3' : 0 < zn_cn (zn_qI (zn_I en) so (nI m) 3) h := by
      rw [ec 3]
      exact c3
    by_cases r5 : r = 5
    · subst r5
      exact Or.inl ⟨5, nI (zn_num p L), a3, by decide, fun z => absurd z (by decide), fun post hp => hX post (zx_decB h24 hL g e c3' hp), fun post hp => zy_43 h24 hL D hr rfl hno (zy_B h24 hL D hN rfl (by omega) ha e c3 hp)⟩
    · obtain ⟨t, l, Dt, hl, et⟩ := zr_tg E (nI (no m))
      have et' : zn_rk (zn_qI (zn_I en) so (nI m) 3) va 0 h h 0 = nI (zn_num t l) := by
        rw [← et]
        exact zn_rk_congr (zr_q E hn 3) h 0 (by omega)
      obtain ⟨aq', ga, i⟩ := zx_decC (kl := kl) (a1 := a1) (a2 := a2) (a3 := a3) (ak := ak) (ab := ab) (aq := aq) (ch := ch) (no := no) (L := L) (r := r) h24 (by omega) e c3' Dt hl et'
      refine Or.inr ⟨t, l, aq', by omega, Dt, hl, ga, fun post hp => hX post (i post hp), fun post hp => zy_43 h24 hL D hr rfl hno (zy_C h24 hL D hN rfl (by omega) ha (by omega) e c3 ?_)⟩
      rw [et]
      exact hp
theorem zr_round (E : zr_EI h ch no be en nm so va) (D : zn_D p) (hL : L ≤ 4) (hr : r ≤ 5) (g : ∀ i, i < L → aq i = nI (p i)) :
    zr_Out h L r n ch no be en nm p so va kl a1 a2 a3 ak ab aq x1 yk yl yp := by
  have h24 := E.1
  have T := E.2.1
  have hN := zr_lt E
  by_cases hA : ¬ x1 = 4 ∧ ∃ j, 0 < j ∧ j ≤ L ∧ 0 < zn_c4 nm so h (zn_num p j) ∧ ∀ i, 0 < i → i < j → ¬ 0 < zn_c4 nm so h (zn_num p i)
  · obtain ⟨e, j, j0, jL, hj, hm⟩ := hA
    have hm' : ∀ i, 0 < i → i < j → zn_c4 nm so h (zn_num p i) = 0 := fun i a b => Nat.eq_zero_of_not_pos (hm i a b)
    have hl := zn_lt4 D (k := j) (by omega)
    have wj : 0 < zn_W nm h (zn_num p j) := zr_pos E hl hj
    obtain ⟨o1, o2⟩ := zt_nd_ok T D j (Or.inr wj)
    obtain ⟨k, rfl⟩ : ∃ k, j = k + 1 := ⟨j - 1, by omega⟩
    have wk := zt_wdn D T.2.2.2.2.2 wj (j := k) (by omega)
    have ok := zt_nd_ok T D k (Or.inr wk)
    refine Or.inl ⟨4, nI (zn_num p (k + 1)), nI (zt_nd ch p (k + 1)), by decide, fun _ => ⟨_, o1, rfl, by rw [o2]⟩, fun post hp => ⟨1 + k, ?_⟩, fun post hp => zy_H h24 hL D hr e j0 jL hj hm' hp⟩
    refine zx_adv T hL h24 D g k 1 (by omega) (Or.inr wk) (fun i a b => Or.inr ?_) ?_
    · have wi := zt_wdn D T.2.2.2.2.2 wj (j := i) (by omega)
      obtain ⟨q1, q2⟩ := zt_nd_ok T D i (Or.inr wi)
      rw [zr_c E q1, q2]
      exact hm' i a (by omega)
    · refine zx_hand (n := 0) hL h24 D g (by omega) ok.1.1 (zt_nd_p T D wj) o1.1 e ?_ ?_
      · rw [zr_c E o1, o2]
        exact hj
      · rw [o2]
        exact hp
  · have hno : x1 = 4 ∨ ∀ j, 0 < j → j ≤ L → zn_c4 nm so h (zn_num p j) = 0 := by
      by_cases e : x1 = 4
      · exact Or.inl e
      · rcases zn_least (P := fun j => 0 < zn_c4 nm so h (zn_num p j)) L with z | z
        · exact absurd ⟨e, z⟩ hA
        · exact Or.inr (fun j a b => Nat.eq_zero_of_not_pos (z j a b))
    have dl := zn_dt_le (nm := nm) (h := h) (p := p) L
    have dth := zn_th_t.mp (zn_dt_th (nm := nm) (h := h) (p := p) L)
    have dno := zn_dt_no (nm := nm) (h := h) (p := p) L
    have han : zn_an nm h p L = if zn_dt nm h p L = L then nI (zn_num p L) else zn_sr nm h (zn_num p (zn_dt nm h p L)) := rfl
    revert dl dth dno han
    generalize zn_dt nm h p L = d
    intro dl dth dno han
    have wd : d = 0 ∨ 0 < zn_W nm h (zn_num p d) := by
      rcases dth with z | z
      · exact Or.inr z
      · refine Or.inl (Nat.eq_zero_of_not_pos (fun y => ?_))
        have := zn_pos p y
        omega
    have wi : ∀ i, 0 < i → i ≤ d → 0 < zn_W nm h (zn_num p i) := fun i a b => by
      rcases wd with z | z
      · omega
      · exact zt_wdn D T.2.2.2.2.2 z b
    obtain ⟨o1, o2⟩ := zt_nd_ok T D d wd
    have hcx : ∀ j, 0 < j → j ≤ d → x1 = 4 ∨ zn_cn (zn_qI (zn_I en) so (nI (zt_nd ch p j)) 4) h = 0 := fun j a b => by
      rcases hno with z | z
      · exact Or.inl z
      · obtain ⟨q1, q2⟩ := zt_nd_ok T D j (Or.inr (wi j a b))
        rw [zr_c E q1, q2]
        exact Or.inr (z j a (by omega))
    by_cases dL : d = L
    · subst dL
      rw [if_pos rfl, ← o2] at han
      exact zr_dec E D hL hr g o1 hno han (fun post K => ⟨1 + d, zx_adv T hL h24 D g d 1 (by omega) wd hcx (zx_end (n := 0) hL K)⟩)
    · rw [if_neg dL] at han
      have dz := zn_th_f.mp (dno (d + 1) (by omega) (by omega))
      have nz := zt_nd_z T D wd dz.1
      have h7 := T.2.2.1 _ 7 o1 (by omega)
      unfold zt_ch at h7
      rw [o2] at h7
      unfold zn_sr at han
      rcases h7 with h7 | h7
      · have hf : ¬ zn_th nm h (9 * zn_num p d + 8) = true := fun z => by
          have y := zn_th_t.mp z
          have y2 : zn_W nm h (9 * zn_num p d + 8) = 0 := h7.2
          omega
        rw [if_neg hf] at han
        exact Or.inl ⟨3, nI (zn_num p L), a3, by decide, fun z => absurd z (by decide), fun post hp => ⟨2 + d, zx_adv T hL h24 D g d 2 (by omega) wd hcx (zx_off (n := 0) hL D g (by omega) o1.1 nz (zx_93 hL g (by omega) o1.1 (by omega) (fun _ => hp) (fun z => by omega)))⟩, fun post hp => zy_43 h24 hL D hr rfl hno (zy_no h24 hL D hN rfl han hp)⟩
      · have hlv : zt_lv be (ch (8 * zt_nd ch p d + 7)) := zt_lvp h7.2.1 h7.2.2.1
        have hw : 0 < zn_W nm h (9 * zn_num p d + 8) := by
          have y := (T.2.1 _ hlv).2
          rw [h7.2.2.2] at y
          have y2 := h7.2.2.1
          have y3 : be (ch (8 * zt_nd ch p d + 7)) = zn_W nm h (9 * zn_num p d + 8) := y
          omega
        rw [if_pos (zn_th_t.mpr (Or.inl hw))] at han
        have han2 : zn_an nm h p L = nI (no (ch (8 * zt_nd ch p d + 7))) := by
          rw [han, h7.2.2.2]
        exact zr_dec E D hL hr g hlv hno han2 (fun post K => ⟨2 + d, zx_adv T hL h24 D g d 2 (by omega) wd hcx (zx_off (n := 0) hL D g (by omega) o1.1 nz (zx_93 hL g (by omega) o1.1 h7.2.1 (fun z => by omega) (fun _ => K)))⟩)
end ZR1
end
section
section ZR2
variable {h : Nat} {ch no be en nm ky : Nat → Nat} {so va : Nat → Int32} {kl a2 a3 : Int32} {ak ab : Nat → Int32} {x1 yk yl : Int32}
theorem zr_loop (E : zr_EI h ch no be en nm so va) : ∀ d r L p a4 aq yp, r + d = 6 → r ≤ 5 → zn_D p → L ≤ 4 → (∀ i, i < L → aq i = nI (p i)) →
    ∃ (ans pl nd ro al' : Int32) (aq' : Nat → Int32), zo_N no be ans pl nd ∧
      (∀ post : SX → Prop, post (kl, nI h, ans, pl, nd, ro, al', ak, zn_I ch, zn_I no, ab, zn_I en, so, va, aq') → wX_lookUp_48 post x1 (d + 1) (nI r) kl (nI h) 0 a2 a3 a4 (nI L) ak (zn_I ch) (zn_I no) ab (zn_I en) so va aq) ∧
      (∀ post : Int32 → SY → Prop, post ans (nI h, yk, yl, pl, ro, zn_I nm, so, va) → wY_lookUp_10 post x1 (nI h) yk yl (zn_I nm) so va (d + 1) (nI (zn_num p L)) yp (nI r)) := by
  intro d
  induction d with
  | zero => intro r L p a4 aq yp hr hr5; omega
  | succ d ih =>
    intro r L p a4 aq yp hr hr5 D hL g
    have h5 : ¬ (5 : Int32) < nI r := nI_nlt (a := 5) (b := r) hr5 (by omega)
    rcases zr_round (r := r) (n := d + 1) (kl := kl) (a1 := 0) (a2 := a2) (a3 := a3) (ak := ak) (ab := ab) (aq := aq) (x1 := x1) (yk := yk) (yl := yl) (yp := yp) E D hL hr5 g with o | o
    · obtain ⟨ans, pl, nd, a0, hN, oX, oY⟩ := o
      refine ⟨ans, pl, nd, nI r, nI L, aq, hN, fun post hp => br_f h5 (br_t rfl (oX _ (nm_r (nI_1 _) ?_))), oY⟩
      by_cases r5 : r = 5
      · exact br_t (nI_lt (a := 5) (by omega) (by omega)) hp
      · exact br_f (nI_nlt (a := 5) (b := r + 1) (by omega) (by omega)) (br_f a0 hp)
    · obtain ⟨t, l, aq', r5, Dt, hl, ga, oX, oY⟩ := o
      obtain ⟨ans, pl, nd, ro, al', aq2, hN, iX, iY⟩ := ih (r + 1) l t (nI r) aq' (nI (zn_num p L)) (by omega) (by omega) Dt hl ga
      exact ⟨ans, pl, nd, ro, al', aq2, hN, fun post hp => br_f h5 (br_t rfl (oX _ (nm_r (nI_1 _) (iX post hp)))), fun post hp => oY post (iY post hp)⟩
theorem zx_lu10 {L : Nat} {a1 a4 al : Int32} {ac ao ae : Nat → Int32} {hd : Int32} (hL : L ≤ 4) : ∀ d k aq, k + d = L → (∀ i, i < k → aq i = nI (ky i)) →
    ∃ aq' : Nat → Int32, (∀ i, i < L → aq' i = nI (ky i)) ∧ ∀ post : SX → Prop, (∃ n, wX_lookUp_48 post x1 n 1 (nI L) hd 0 a2 a3 0 al (zn_I ky) ac ao ab ae so va aq') → wX_lookUp_10 post x1 (nI L) hd a1 a2 a3 a4 al (d + 1) (nI k) (zn_I ky) ac ao ab ae so va aq := by
  intro d
  induction d with
  | zero =>
    intro k aq hk g
    have e0 : k = L := hk
    rw [e0] at g ⊢
    exact ⟨aq, g, fun post hp => br_t (nI_le (Nat.le_refl _) (by omega)) hp⟩
  | succ d ih =>
    intro k aq hk g
    have ck : (nI k).toNatClampNeg = k := nI_clamp (by omega)
    obtain ⟨aq', ga, i⟩ := ih (k + 1) (upd aq k (nI (ky k))) (by omega) (fun i hi => by
      by_cases z : i = k
      · rw [z, pk_us]
      · rw [pk_un z]
        exact g i (by omega))
    refine ⟨aq', ga, fun post hp => br_f (nI_ge (by omega) (by omega)) ⟨vp_in_nI (by omega) (by omega), vp_in_nI (by omega) (by omega), ?_⟩⟩
    rw [ck]
    exact nm_e (nm_r (nI_1 _) (i post hp))
/-- a lookup, both sides at once -/
theorem zr_lookUp {L : Nat} {a1 a4 al yp yr : Int32} {aq : Nat → Int32} (E : zr_EI h ch no be en nm so va) (D : zn_D ky) (hL : L ≤ 4) :
    ∃ (ans pl nd ro al' : Int32) (aq' : Nat → Int32), zo_N no be ans pl nd ∧
      (∀ post : SX → Prop, post (nI L, nI h, ans, pl, nd, ro, al', zn_I ky, zn_I ch, zn_I no, ab, zn_I en, so, va, aq') → wpX_lookUp post (nI L, nI h, a1, a2, a3, a4, al, zn_I ky, zn_I ch, zn_I no, ab, zn_I en, so, va, aq) x1) ∧
      (∀ post : Int32 → SY → Prop, post ans (nI h, nI (zn_num ky L), yl, pl, ro, zn_I nm, so, va) → wpY_lookUp post (nI h, nI (zn_num ky L), yl, yp, yr, zn_I nm, so, va) x1) := by
  obtain ⟨aq1, g1, i1⟩ := zx_lu10 (ky := ky) (so := so) (va := va) (ab := ab) (a1 := a1) (a2 := a2) (a3 := a3) (a4 := a4) (al := nI L) (ac := zn_I ch) (ao := zn_I no) (ae := zn_I en) (hd := nI h) (x1 := x1) hL L 0 aq (by omega) (fun i hi => by omega)
  obtain ⟨ans, pl, nd, ro, al', aq', hN, iX, iY⟩ := zr_loop (kl := nI L) (a2 := a2) (a3 := a3) (ak := zn_I ky) (ab := ab) (x1 := x1) (yk := nI (zn_num ky L)) (yl := yl) E 5 1 L ky 0 aq1 yp (by omega) (by omega) D hL g1
  exact ⟨ans, pl, nd, ro, al', aq', hN, fun post hp => ⟨L + 1, i1 post ⟨6, iX post hp⟩⟩, fun post hp => ⟨6, iY post hp⟩⟩
end ZR2
end
section
section ZI1
def zr_rm (s : Int32) : Nat := if 2 < s then 1 else 3
def zr_RI (L h : Nat) (ky ch no be en nm : Nat → Nat) (so va : Nat → Int32) : Prop :=
  L ≤ 4 ∧ zn_D ky ∧ zr_EI h ch no be en nm so va ∧ (∀ x s : Int32, zn_cn (zn_qI (zn_I nm) so x s) h ≤ zr_rm s)
/-- the two states hold the same key and the same entries; the tree holds the entries' names -/
def i_Rel (_ : Nat) (u : SX) (v : SY) : Prop :=
  ∃ (L h : Nat) (ky ch no be en nm : Nat → Nat) (so va : Nat → Int32) (a1 a2 a3 a4 al : Int32) (aq : Nat → Int32) (yp yr : Int32), u = (nI L, nI h, a1, a2, a3, a4, al, zn_I ky, zn_I ch, zn_I no, zn_I be, zn_I en, so, va, aq) ∧ v = (nI h, nI (zn_num ky L), nI L, yp, yr, zn_I nm, so, va) ∧ zr_RI L h ky ch no be en nm so va
theorem i_up {k : Nat} {u : SX} {v : SY} (h : i_Rel k u v) : i_Rel (k + 3) u v := h
theorem zi_mk {k L h : Nat} {ky ch no be en nm : Nat → Nat} {so va : Nat → Int32} {a1 a2 a3 a4 al : Int32} {aq : Nat → Int32} {yp yr : Int32} (R : zr_RI L h ky ch no be en nm so va) : i_Rel k (nI L, nI h, a1, a2, a3, a4, al, zn_I ky, zn_I ch, zn_I no, zn_I be, zn_I en, so, va, aq) (nI h, nI (zn_num ky L), nI L, yp, yr, zn_I nm, so, va) :=
  ⟨L, h, ky, ch, no, be, en, nm, so, va, a1, a2, a3, a4, al, aq, yp, yr, rfl, rfl, R⟩
theorem zi_el {P : SX → SY → Prop} {k : Nat} {u : SX} {v : SY} (H : ∀ (L h : Nat) (ky ch no be en nm : Nat → Nat) (so va : Nat → Int32) (a1 a2 a3 a4 al : Int32) (aq : Nat → Int32) (yp yr : Int32), zr_RI L h ky ch no be en nm so va → P (nI L, nI h, a1, a2, a3, a4, al, zn_I ky, zn_I ch, zn_I no, zn_I be, zn_I en, so, va, aq) (nI h, nI (zn_num ky L), nI L, yp, yr, zn_I nm, so, va)) (I : i_Rel k u v) : P u v := by
  obtain ⟨L, h, ky, ch, no, be, en, nm, so, va, a1, a2, a3, a4, al, aq, yp, yr, e1, e2, R⟩ := I
  rw [e1, e2]
  exact H L h ky ch no be en nm so va a1 a2 a3 a4 al aq yp yr R
/-! the beginning -/
theorem zi_0 : zr_RI 0 0 (fun _ => 0) (fun _ => 0) (fun _ => 0) (fun _ => 0) (fun _ => 0) (fun _ => 0) (fun _ => 0) (fun _ => 0) := by
  have lv0 : ∀ n, zt_lv (fun _ => 0) n → n = 0 := fun n hn => by
    rcases hn.2 with z | z
    · exact z
    · exact absurd z (Nat.lt_irrefl 0)
  refine ⟨by omega, zn_D0, ⟨by omega, ⟨rfl, ?_, ?_, ?_, ?_, ?_⟩, fun e he => by omega, fun e he => by omega⟩, fun x s => Nat.zero_le _⟩
  · exact fun n hn => ⟨zn_Nm_0, rfl⟩
  · exact fun n l hn hl => Or.inl ⟨rfl, rfl⟩
  · exact fun n l _ _ _ _ => rfl
  · intro n n' hn hn' _
    rw [lv0 n hn, lv0 n' hn']
  · exact fun m l _ _ => rfl
theorem i_vc0 : wpX_init (fun u => wpY_init (fun v => i_Rel 0 u v)) := zi_mk (k := 0) (L := 0) (h := 0) (a1 := 0) (a2 := 0) (a3 := 0) (a4 := 0) (al := 0) (aq := fun _ => 0) (yp := 0) (yr := 0) zi_0
/-! one entry more -/
variable {L h : Nat} {ky ch no be en nm : Nat → Nat} {so va : Nat → Int32}
theorem zi_W (R : zr_RI L h ky ch no be en nm so va) : zt_pw (zn_W nm h) ky L = zn_W (zn_up nm h (zn_num ky L)) (h + 1) := by
  funext m
  rw [zt_pw_eq R.2.1 R.1, zn_W_add]
theorem zi_free (R : zr_RI L h ky ch no be en nm so va) (h23 : h < 24) (k : Nat) (ch' no' be' : Nat → Nat) (hk : k ≤ L) (T : zt_TI (zt_pw (zn_W nm h) ky k) ch' no' be') : ∃ f, 0 < f ∧ f < 100 ∧ be' f = 0 := by
  have hL := R.1
  refine zt_free (nm := zn_up nm h (zn_num ky L)) (h := h + 1) T (by omega) ?_ ?_
  · intro e he
    by_cases z : e = h
    · rw [z, zn_us]
      exact ⟨ky, L, R.2.1, R.1, rfl⟩
    · rw [zn_un z]
      exact zr_N R.2.2.1 e (by omega)
  · intro m hm
    rw [zt_pw_eq R.2.1 (by omega)] at hm
    by_cases c : 0 < zn_W nm h m
    · obtain ⟨e, he, g⟩ := zn_W_pos.mp c
      exact ⟨e, by omega, by rw [zn_un (by omega)]; exact g⟩
    · refine ⟨h, by omega, ?_⟩
      rw [zn_us]
      cases hb : zn_cv m (zn_num ky k) with
      | false =>
        rw [hb] at hm
        have : zn_b false = 0 := rfl
        omega
      | true =>
        obtain ⟨j, hj, e⟩ := (zn_cv_iff R.2.1 (by omega) m).mp hb
        exact (zn_cv_iff R.2.1 R.1 m).mpr ⟨j, by omega, e⟩
theorem zi_add {x : Nat} {ch' no' be' : Nat → Nat} {s v : Int32} (R : zr_RI L h ky ch no be en nm so va) (h23 : h < 24) (T : zt_TI (zt_pw (zn_W nm h) ky L) ch' no' be') (hx : zt_lv be' x) (hn : no' x = zn_num ky L) (S : zn_St no be no' be')
    (hc : zn_cn (zn_qI (zn_I nm) so (nI (zn_num ky L)) s) h < zr_rm s) (ht : s = 3 → zn_Tg v) :
    zr_RI L (h + 1) ky ch' no' be' (zn_up en h x) (zn_up nm h (zn_num ky L)) (upd so h s) (upd va h v) := by
  rw [zi_W R] at T
  have E := R.2.2.1
  refine ⟨R.1, R.2.1, ⟨by omega, T, ?_, ?_⟩, ?_⟩
  · intro e he
    by_cases z : e = h
    · rw [z, zn_us, zn_us]
      exact ⟨hx, hn⟩
    · rw [zn_un z, zn_un z]
      obtain ⟨a, b⟩ := E.2.2.1 e (by omega)
      obtain ⟨c, d⟩ := S _ a
      exact ⟨c, d.trans b⟩
  · intro e he
    by_cases z : e = h
    · rw [z, pk_us, pk_us]
      exact ht
    · rw [pk_un z, pk_un z]
      exact E.2.2.2 e (by omega)
  · intro y t
    have e1 : zn_cn (zn_qI (zn_I (zn_up nm h (zn_num ky L))) (upd so h s) y t) h = zn_cn (zn_qI (zn_I nm) so y t) h := zn_cn_congr h (fun e he => by
      unfold zn_qI
      rw [zn_Ia, zn_un (by omega), pk_un (by omega)]
      rfl)
    have h0 := R.2.2.2 y t
    by_cases c : nI (zn_num ky L) = y ∧ s = t
    · obtain ⟨c1, c2⟩ := c
      subst c1
      subst c2
      rw [zn_cn_s, e1]
      split <;> omega
    · rw [zn_cn_f, e1]
      · exact h0
      · by_cases c1 : nI (zn_num ky L) = y
        · refine zn_qI_f2 ?_
          rw [pk_us]
          exact fun z => c ⟨c1, z⟩
        · refine zn_qI_f1 ?_
          rw [zn_Ia, zn_us]
          exact c1
/-! one entry less -/
theorem zi_rem {f : Nat} (R : zr_RI L (h + 1) ky ch no be en nm so va) (hf : f ≤ h) (hk : nm f = zn_num ky L) :
    zr_RI L h ky (zs_ch ch be (zt_nd ch ky) ky L) no (zs_be be (zt_nd ch ky) L) (zn_up en f (en h)) (zn_up nm f (nm h)) (upd so f (so h)) (upd va f (va h)) := by
  have E := R.2.2.1
  have hw : 0 < zn_W nm (h + 1) (zn_num ky L) := zn_W_pos.mpr ⟨f, by omega, by rw [hk]; exact zn_cv_self _⟩
  have hN : ∀ e, e < h → zn_Nm (zn_up nm f (nm h) e) := fun e he => by
    by_cases z : e = f
    · rw [z, zn_us]
      exact zr_N E h (by omega)
    · rw [zn_un z]
      exact zr_N E e (by omega)
  have T := zs_TI (wn := zn_W (zn_up nm f (nm h)) h) E.2.1 R.2.1 R.1 hw (fun m => by rw [← hk, zn_W_rem hf]) (zn_W_cl hN)
  have h24 := E.1
  have hlv : ∀ e, e < h → ∀ n, zt_lv be n → no n = zn_up nm f (nm h) e → zt_lv (zs_be be (zt_nd ch ky) L) n := fun e he n a b => by
    refine ⟨a.1, ?_⟩
    by_cases z : n = 0
    · exact Or.inl z
    · refine Or.inr ?_
      have hk : ∀ k, k ≤ L → zt_lv be (zt_nd ch ky k) ∧ no (zt_nd ch ky k) = zn_num ky k := fun k hkl => zt_nd_ok E.2.1 R.2.1 k (Or.inr (zt_wdn R.2.1 E.2.1.2.2.2.2.2 hw hkl))
      have hi : ∀ i j, i ≤ L → j ≤ L → zt_nd ch ky i = zt_nd ch ky j → i = j := fun i j a b e => zn_injk R.2.1 ((hk i a).2.symm.trans ((congrArg no e).trans (hk j b).2))
      have hpos : 0 < zn_W (zn_up nm f (nm h)) h (no n) := zn_W_pos.mpr ⟨e, he, by rw [b]; exact zn_cv_self _⟩
      have hrel := zn_W_rem (nm := nm) hf (no n)
      have hbe := (E.2.1.2.1 n a).2
      by_cases c : ∃ j, j ≤ L ∧ n = zt_nd ch ky j
      · obtain ⟨j, hj, ej⟩ := c
        have hcv : zn_cv (no n) (nm f) = true := by
          rw [‹nm f = zn_num ky L›]
          exact (zn_cv_iff R.2.1 R.1 _).mpr ⟨j, hj, by rw [ej, (hk j hj).2]⟩
        rw [hcv] at hrel
        have : zn_b true = 1 := rfl
        have e4 : zs_be be (zt_nd ch ky) L n = be n - 1 := by
          rw [ej]
          exact zs_be_in rfl hi L (Nat.le_refl _) j hj
        omega
      · rw [zs_be_out rfl L (fun j hj e => c ⟨j, hj, e⟩), hbe]
        omega
  refine ⟨R.1, R.2.1, ⟨by omega, T, ?_, ?_⟩, ?_⟩
  · intro e he
    by_cases z : e = f
    · subst z
      obtain ⟨a, b⟩ := E.2.2.1 h (by omega)
      rw [zn_us, zn_us]
      exact ⟨hlv e he _ a (by rw [zn_us]; exact b), b⟩
    · obtain ⟨a, b⟩ := E.2.2.1 e (by omega)
      rw [zn_un z, zn_un z]
      exact ⟨hlv e he _ a (by rw [zn_un z]; exact b), b⟩
  · intro e he
    by_cases z : e = f
    · rw [z, pk_us, pk_us]
      exact E.2.2.2 h (by omega)
    · rw [pk_un z, pk_un z]
      exact E.2.2.2 e (by omega)
  · intro y t
    have h0 := R.2.2.2 y t
    have i := zn_cn_swap (q := zn_qI (zn_I nm) so y t) (r := zn_qI (zn_I (zn_up nm f (nm h))) (upd so f (so h)) y t) hf (fun _ => by
      unfold zn_qI
      rw [zn_Ia, zn_us, pk_us]
      rfl) (fun e he _ => by
      unfold zn_qI
      rw [zn_Ia, zn_un he, pk_un he]
      rfl)
    omega
end ZI1
end
section
section ZV1
theorem zn_k9 (a j : Nat) : nI a * 9 + nI j + 1 = nI (9 * a + j + 1) := by
  rw [show (9 : Int32) = nI 9 from rfl, pk_mul, nI_add, nI_1, Nat.mul_comm]
theorem i_vc_label {k : Nat} {u : SX} {v : SY} (I : i_Rel k u v) (hk : k + 3 ≤ 1536) (v1 : Int32) : wpX_label (fun r u' => wpY_label (fun r' v' => r' = r ∧ i_Rel (k + 3) u' v') v v1) u v1 := by
  refine zi_el (P := fun u v => wpX_label (fun r u' => wpY_label (fun r' v' => r' = r ∧ i_Rel (k + 3) u' v') v v1) u v1) ?_ I
  intro L h ky ch no be en nm so va a1 a2 a3 a4 al aq yp yr R
  have hL := R.1
  by_cases c : L = 4
  · exact br_f (nI_nlt (a := L) (b := 4) (by omega) (by omega)) (br_t (by rw [c]; rfl) ⟨rfl, zi_mk R⟩)
  · obtain ⟨j, hj, ej⟩ := pk_andE v1 (m := 7) 3 (by decide)
    refine br_t (nI_lt (b := 4) (by omega) (by omega)) ⟨vp_in_nI (by omega) (by omega), ?_⟩
    rw [ej, nI_clamp (by omega)]
    refine nm_r (zn_upI ky L j) (nm_r (nI_1 L) ?_)
    refine br_f (fun z => c ((nI_eq (b := 4) (by omega) (by omega)).mp z)) (nm_r (e' := nI (zn_num (zn_up ky L j) (L + 1))) ?_ (nm_r (nI_1 L) ⟨rfl, zi_mk ⟨by omega, fun i => ?_, R.2.2⟩⟩))
    · rw [ej, zn_k9, zn_num_s, zn_us, zn_congr (b := ky) L (fun i hi => zn_un (by omega))]
    · by_cases z : i = L
      · rw [z, zn_us]
        exact hj
      · rw [zn_un z]
        exact R.2.1 i
theorem i_vc_back {k : Nat} {u : SX} {v : SY} (I : i_Rel k u v) (hk : k + 3 ≤ 1536) : wpX_back (fun r u' => wpY_back (fun r' v' => r' = r ∧ i_Rel (k + 3) u' v') v) u := by
  refine zi_el (P := fun u v => wpX_back (fun r u' => wpY_back (fun r' v' => r' = r ∧ i_Rel (k + 3) u' v') v) u) ?_ I
  intro L h ky ch no be en nm so va a1 a2 a3 a4 al aq yp yr R
  have hL := R.1
  cases L with
  | zero => exact br_t rfl (br_t rfl ⟨rfl, zi_mk (L := 0) R⟩)
  | succ j =>
    have hl := zn_lt4 R.2.1 hL
    have hz : ¬ nI (j + 1) = 0 := nI_ne0 (by omega) (by omega)
    refine br_f hz (nm_r (nI_pred j) ⟨vp_in_nI (by omega) (by omega), ?_⟩)
    rw [nI_clamp (by omega)]
    refine br_f hz ⟨zn_ne9, nm_r (e' := nI (ky j)) ?_ ⟨zn_ne9, nm_r (e' := nI (zn_num ky j)) ?_ (nm_r (nI_pred j) ⟨rfl, zi_mk ⟨by omega, R.2⟩⟩)⟩⟩
    · rw [zn_r9 (by omega), zn_mod R.2.1, nI_pred]
    · rw [zn_d9 (by omega), zn_div R.2.1]
theorem i_vc_erase {k : Nat} {u : SX} {v : SY} (I : i_Rel k u v) (hk : k + 3 ≤ 1536) : wpX_erase (fun u' => wpY_erase (fun v' => i_Rel (k + 3) u' v') v) u := by
  refine zi_el (P := fun u v => wpX_erase (fun u' => wpY_erase (fun v' => i_Rel (k + 3) u' v') v) u) ?_ I
  intro L h ky ch no be en nm so va a1 a2 a3 a4 al aq yp yr R
  exact zi_mk (k := k + 3) (L := 0) (ky := ky) ⟨by omega, R.2⟩
theorem i_vc_number {k : Nat} {u : SX} {v : SY} (I : i_Rel k u v) (hk : k + 3 ≤ 1536) : wpX_number (fun r => wpY_number (fun r' => r' = r ∧ i_Rel (k + 3) u v) v) u := by
  refine zi_el (P := fun u v => wpX_number (fun r => wpY_number (fun r' => r' = r ∧ i_Rel (k + 3) u v) v) u) ?_ I
  intro L h ky ch no be en nm so va a1 a2 a3 a4 al aq yp yr R
  exact zx_number R.1 (fun i _ => rfl) ⟨rfl, zi_mk R⟩
theorem i_vc_exists {k : Nat} {u : SX} {v : SY} (I : i_Rel k u v) (hk : k + 3 ≤ 1536) : wpX_exists (fun r => wpY_exists (fun r' => r' = r ∧ i_Rel (k + 3) u v) v) u := by
  refine zi_el (P := fun u v => wpX_exists (fun r => wpY_exists (fun r' => r' = r ∧ i_Rel (k + 3) u v) v) u) ?_ I
  intro L h ky ch no be en nm so va a1 a2 a3 a4 al aq yp yr R
  have E := R.2.2.1
  have hl := zn_lt4 R.2.1 R.1
  refine zx_findNode E.2.1 R.2.1 R.1 ?_
  unfold zn_fn
  by_cases c : L = 0 ∨ 0 < zn_W nm h (zn_num ky L)
  · have o := zt_nd_ok E.2.1 R.2.1 L c
    have o1 := o.1.1
    rw [if_pos c]
    refine br_f (nI_pos (by omega)) (zy_there E.1 (by omega) (zr_lt E) ?_)
    rw [zn_i_t (zn_th_t.mpr (by
      rcases c with c | c
      · rw [c]
        exact Or.inr rfl
      · exact Or.inl c))]
    exact br_f (by decide) ⟨rfl, zi_mk R⟩
  · rw [if_neg c]
    have hp := zn_pos ky (k := L) (by omega)
    refine br_t (by decide) (zy_there E.1 (by omega) (zr_lt E) ?_)
    rw [zn_i_f (zn_th_f.mpr ⟨by omega, by omega⟩)]
    exact br_t rfl ⟨rfl, zi_mk R⟩
theorem i_vc_look {k : Nat} {u : SX} {v : SY} (I : i_Rel k u v) (hk : k + 3 ≤ 1536) (v1 : Int32) : wpX_look (fun r u' => wpY_look (fun r' v' => r' = r ∧ i_Rel (k + 3) u' v') v v1) u v1 := by
  refine zi_el (P := fun u v => wpX_look (fun r u' => wpY_look (fun r' v' => r' = r ∧ i_Rel (k + 3) u' v') v v1) u v1) ?_ I
  intro L h ky ch no be en nm so va a1 a2 a3 a4 al aq yp yr R
  by_cases c1 : v1 < 1
  · exact br_t c1 (br_t c1 (br_f (by decide) ⟨rfl, zi_mk R⟩))
  · by_cases c2 : v1 ≤ 4
    · obtain ⟨ans, pl, nd, ro, al', aq', hN, iX, iY⟩ := zr_lookUp (a1 := a1) (a2 := a2) (a3 := a3) (a4 := a4) (al := al) (ab := zn_I be) (aq := aq) (x1 := v1) (yl := nI L) (yp := yp) (yr := yr) R.2.2.1 R.2.1 R.1
      exact br_f c1 (br_t c2 (iX _ (br_f c1 (br_t c2 (br_t rfl (iY _ ⟨rfl, zi_mk R⟩))))))
    · exact br_f c1 (br_f c2 (br_f c1 (br_f c2 (br_f (by decide) ⟨rfl, zi_mk R⟩))))
theorem i_vc_place {k : Nat} {u : SX} {v : SY} (I : i_Rel k u v) (hk : k + 3 ≤ 1536) (v1 : Int32) : wpX_place (fun r u' => wpY_place (fun r' v' => r' = r ∧ i_Rel (k + 3) u' v') v v1) u v1 := by
  refine zi_el (P := fun u v => wpX_place (fun r u' => wpY_place (fun r' v' => r' = r ∧ i_Rel (k + 3) u' v') v v1) u v1) ?_ I
  intro L h ky ch no be en nm so va a1 a2 a3 a4 al aq yp yr R
  by_cases c1 : v1 < 1
  · exact br_t c1 (br_t c1 (br_f (by decide) ⟨rfl, zi_mk R⟩))
  · by_cases c2 : v1 ≤ 4
    · obtain ⟨ans, pl, nd, ro, al', aq', hN, iX, iY⟩ := zr_lookUp (a1 := a1) (a2 := a2) (a3 := a3) (a4 := a4) (al := al) (ab := zn_I be) (aq := aq) (x1 := v1) (yl := nI L) (yp := yp) (yr := yr) R.2.2.1 R.2.1 R.1
      exact br_f c1 (br_t c2 (iX _ (br_f c1 (br_t c2 (br_t rfl (iY _ ⟨rfl, zi_mk R⟩))))))
    · exact br_f c1 (br_f c2 (br_f c1 (br_f c2 (br_f (by decide) ⟨rfl, zi_mk R⟩))))
theorem i_vc_rounds {k : Nat} {u : SX} {v : SY} (I : i_Rel k u v) (hk : k + 3 ≤ 1536) (v1 : Int32) : wpX_rounds (fun r u' => wpY_rounds (fun r' v' => r' = r ∧ i_Rel (k + 3) u' v') v v1) u v1 := by
  refine zi_el (P := fun u v => wpX_rounds (fun r u' => wpY_rounds (fun r' v' => r' = r ∧ i_Rel (k + 3) u' v') v v1) u v1) ?_ I
  intro L h ky ch no be en nm so va a1 a2 a3 a4 al aq yp yr R
  by_cases c1 : v1 < 1
  · exact br_t c1 (br_t c1 (br_f (by decide) ⟨rfl, zi_mk R⟩))
  · by_cases c2 : v1 ≤ 4
    · obtain ⟨ans, pl, nd, ro, al', aq', hN, iX, iY⟩ := zr_lookUp (a1 := a1) (a2 := a2) (a3 := a3) (a4 := a4) (al := al) (ab := zn_I be) (aq := aq) (x1 := v1) (yl := nI L) (yp := yp) (yr := yr) R.2.2.1 R.2.1 R.1
      exact br_f c1 (br_t c2 (iX _ (br_f c1 (br_t c2 (br_t rfl (iY _ ⟨rfl, zi_mk R⟩))))))
    · exact br_f c1 (br_f c2 (br_f c1 (br_f c2 (br_f (by decide) ⟨rfl, zi_mk R⟩))))
theorem i_vc_value {k : Nat} {u : SX} {v : SY} (I : i_Rel k u v) (hk : k + 3 ≤ 1536) (v1 : Int32) (v2 : Int32) : wpX_value (fun r u' => wpY_value (fun r' v' => r' = r ∧ i_Rel (k + 3) u' v') v v1 v2) u v1 v2 := by
  refine zi_el (P := fun u v => wpX_value (fun r u' => wpY_value (fun r' v' => r' = r ∧ i_Rel (k + 3) u' v') v v1 v2) u v1 v2) ?_ I
  intro L h ky ch no be en nm so va a1 a2 a3 a4 al aq yp yr R
  have E := R.2.2.1
  have h24 := E.1
  by_cases c1 : v1 < 1
  · exact br_t c1 (br_t c1 (br_f (by decide) ⟨rfl, zi_mk R⟩))
  · by_cases c2 : v1 ≤ 4
    · obtain ⟨ans, pl, nd, ro, al', aq', hN, iX, iY⟩ := zr_lookUp (a1 := a1) (a2 := a2) (a3 := a3) (a4 := a4) (al := al) (ab := zn_I be) (aq := aq) (x1 := v1) (yl := nI L) (yp := yp) (yr := yr) E R.2.1 R.1
      refine br_f c1 (br_t c2 (iX _ ?_))
      by_cases s4 : ans = 4
      · obtain ⟨n, hn, e1, e2⟩ := hN (Or.inr s4)
        subst e1
        subst e2
        subst s4
        refine br_t rfl ?_
        by_cases z : v2 = 0
        · refine br_t z (zx_ranked h24 ?_)
          rw [zn_rk_congr (zr_q E hn 4) h 0 (by omega)]
          exact br_f c1 (br_t c2 (br_t rfl (iY _ (br_f (by decide) (br_t rfl (br_t z (zy_valueOf h24 ⟨rfl, zi_mk R⟩)))))))
        · exact br_f z (br_f c1 (br_t c2 (br_t rfl (iY _ (br_f (by decide) (br_t rfl (br_f z ⟨rfl, zi_mk R⟩)))))))
      · refine br_f s4 ?_
        by_cases s1 : ans = 1
        · obtain ⟨n, hn, e1, e2⟩ := hN (Or.inl s1)
          subst e1
          subst e2
          subst s1
          refine br_t rfl ?_
          have oY : ∀ w : Int32, zn_rk (zn_qI (zn_I nm) so (nI (no n)) v1) va v2 h h 0 = w → wpY_value (fun r' v' => r' = w ∧ i_Rel (k + 3) (nI L, nI h, 1, nI (no n), nI n, ro, al', zn_I ky, zn_I ch, zn_I no, zn_I be, zn_I en, so, va, aq') v') (nI h, nI (zn_num ky L), nI L, yp, yr, zn_I nm, so, va) v1 v2 := fun w ew =>
            br_f c1 (br_t c2 (br_t rfl (iY _ (br_t rfl (zy_valueOf h24 ⟨ew, zi_mk R⟩)))))
          by_cases z : v2 < 0
          · exact br_t z (oY 0 (zn_rk_out h24 (Or.inl z) h 0 (by omega)))
          · refine br_f z (zx_count h24 ?_)
            rw [zr_c E hn]
            by_cases z2 : nI (zn_cn (zn_qI (zn_I nm) so (nI (no n)) v1) h) ≤ v2
            · exact br_t z2 (oY 0 (zn_rk_out h24 (Or.inr z2) h 0 (by omega)))
            · refine br_f z2 (zx_ranked h24 ?_)
              rw [zn_rk_congr (zr_q E hn v1) h 0 (by omega)]
              exact oY _ rfl
        · exact br_f s1 (br_f c1 (br_t c2 (br_t rfl (iY _ (br_f s1 (br_f s4 ⟨rfl, zi_mk R⟩))))))
    · exact br_f c1 (br_f c2 (br_f c1 (br_f c2 (br_f (by decide) ⟨rfl, zi_mk R⟩))))
end ZV1
end
section
section ZW1
variable {L h : Nat} {ky ch no be en nm : Nat → Nat} {so va : Nat → Int32} {a1 a2 a3 a4 al : Int32} {aq : Nat → Int32} {yp yr : Int32} {s v : Int32}
theorem zy_65 {post : Int32 → SY → Prop} {z0 z1 : Int32} (h23 : h < 24) (hz : ¬ z1 = z0) (hp : post (nI (h + 1)) (nI (h + 1), nI (zn_num ky L), nI L, yp, yr, zn_I (zn_up nm h (zn_num ky L)), upd so h s, upd va h v)) : wY_add_65 post s v z0 z1 (nI h) (nI (zn_num ky L)) (nI L) yp yr (zn_I nm) so va := by
  have hi : vp_in (nI h) 24 := vp_in_nI h23 (by omega)
  refine br_f hz ?_
  rw [nI_clamp (by omega)]
  exact ⟨hi, nm_r (zn_upI _ _ _) ⟨hi, nm_e ⟨hi, nm_e (nm_r (nI_1 h) hp)⟩⟩⟩
theorem zy_addL {post : Int32 → SY → Prop} (h23 : h < 24) (hf : zn_fd (zn_qI (zn_I nm) so (nI (zn_num ky L)) s) va v h 0 = -1) (hc : zn_cn (zn_qI (zn_I nm) so (nI (zn_num ky L)) s) h < zr_rm s)
    (hp : post (nI (h + 1)) (nI (h + 1), nI (zn_num ky L), nI L, yp, yr, zn_I (zn_up nm h (zn_num ky L)), upd so h s, upd va h v)) : wY_add_22 post s v (nI h) (nI (zn_num ky L)) (nI L) yp yr (zn_I nm) so va := by
  have hcl := zn_cn_le (zn_qI (zn_I nm) so (nI (zn_num ky L)) s) h
  have h0 : ¬ nI h = 24 := fun z => by
    have := (nI_eq (b := 24) (by omega) (by omega)).mp z
    omega
  refine br_f h0 (zy_find (by omega) ?_)
  rw [hf]
  refine br_f (by decide) (zy_count (by omega) ?_)
  unfold zr_rm at hc
  by_cases c : 2 < s
  · rw [if_pos c] at hc
    exact br_t c (zy_65 h23 (fun z => by
      have := (nI_eq (b := 1) (by omega) (by omega)).mp z
      omega) hp)
  · rw [if_neg c] at hc
    exact br_f c (zy_65 h23 (fun z => by
      have := (nI_eq (b := 3) (by omega) (by omega)).mp z
      omega) hp)
theorem zy_addN {post : Int32 → SY → Prop} (h23 : h < 24) (o : (∃ f, f < h ∧ zn_fd (zn_qI (zn_I nm) so (nI (zn_num ky L)) s) va v h 0 = nI f) ∨ zn_cn (zn_qI (zn_I nm) so (nI (zn_num ky L)) s) h = zr_rm s)
    (hp : post (-1) (nI h, nI (zn_num ky L), nI L, yp, yr, zn_I nm, so, va)) : wY_add_22 post s v (nI h) (nI (zn_num ky L)) (nI L) yp yr (zn_I nm) so va := by
  have h0 : ¬ nI h = 24 := fun z => by
    have := (nI_eq (b := 24) (by omega) (by omega)).mp z
    omega
  refine br_f h0 (zy_find (by omega) ?_)
  rcases zn_fd_spec (h := h) (q := zn_qI (zn_I nm) so (nI (zn_num ky L)) s) (v := va) (x := v) h 0 (by omega) with w | w
  · rw [w.1]
    have hc : zn_cn (zn_qI (zn_I nm) so (nI (zn_num ky L)) s) h = zr_rm s := by
      rcases o with o | o
      · obtain ⟨f, hf, ef⟩ := o
        rw [w.1] at ef
        have := nI_pos (n := f) (by omega)
        rw [← ef] at this
        exact absurd (by decide) this
      · exact o
    refine br_f (by decide) (zy_count (by omega) ?_)
    rw [hc]
    unfold zr_rm
    by_cases c : 2 < s
    · rw [if_pos c]
      exact br_t c (br_t rfl hp)
    · rw [if_neg c]
      exact br_f c (br_t rfl hp)
  · obtain ⟨f, hf, _, _, ef⟩ := w
    rw [ef]
    exact br_t (nI_pos' (by omega)) hp
theorem zx_82 {Q : Int32 → SX → Prop} (R : zr_RI L h ky ch no be en nm so va) (h23 : h < 24) (hc : zn_cn (zn_qI (zn_I nm) so (nI (zn_num ky L)) s) h < zr_rm s) (ht : s = 3 → zn_Tg v)
    (hQ : ∀ (ch' no' be' : Nat → Nat) (x : Nat), zr_RI L (h + 1) ky ch' no' be' (zn_up en h x) (zn_up nm h (zn_num ky L)) (upd so h s) (upd va h v) → Q (nI (h + 1)) (nI L, nI (h + 1), a1, a2, a3, a4, al, zn_I ky, zn_I ch', zn_I no', zn_I be', zn_I (zn_up en h x), upd so h s, upd va h v, aq)) : wX_add_82 Q s v (nI L) (nI h) a1 a2 a3 a4 al (zn_I ky) (zn_I ch) (zn_I no) (zn_I be) (zn_I en) so va aq := by
  have hi : vp_in (nI h) 24 := vp_in_nI h23 (by omega)
  unfold wX_add_82
  refine zx_growNode R.2.2.1.2.1 R.2.1 R.1 (fun m => by
    have := zn_W_le nm h m
    omega) (zi_free R h23) ?_
  intro ch' no' be' x T hx hn S
  dsimp only
  rw [nI_clamp (by omega)]
  exact ⟨hi, nm_r (zn_upI _ _ _) ⟨hi, nm_e ⟨hi, nm_e (nm_r (nI_1 h) (hQ ch' no' be' x (zi_add R h23 T hx hn S hc ht)))⟩⟩⟩
theorem zr_53 {Q : Int32 → SX → Prop} {k : Nat} (R : zr_RI L h ky ch no be en nm so va) (h23 : h < 24) (ht : s = 3 → zn_Tg v)
    (hQ : ∀ r u', wY_add_22 (fun r' v' => r' = r ∧ i_Rel k u' v') s v (nI h) (nI (zn_num ky L)) (nI L) yp yr (zn_I nm) so va → Q r u') : wX_add_53 Q s v (zn_fn (zn_W nm h) ch ky L) (nI (zr_rm s)) (nI L) (nI h) a1 a2 a3 a4 al (zn_I ky) (zn_I ch) (zn_I no) (zn_I be) (zn_I en) so va aq := by
  have E := R.2.2.1
  have hcl := zn_cn_le (zn_qI (zn_I nm) so (nI (zn_num ky L)) s) h
  have hrm : 0 < zr_rm s ∧ zr_rm s ≤ 3 := by
    unfold zr_rm
    split <;> omega
  have hro := R.2.2.2 (nI (zn_num ky L)) s
  unfold zn_fn
  by_cases c : L = 0 ∨ 0 < zn_W nm h (zn_num ky L)
  · have o := zt_nd_ok E.2.1 R.2.1 L c
    have o1 := o.1.1
    rw [if_pos c]
    refine br_f (nI_pos (by omega)) (zx_count E.1 ?_)
    rw [zr_c E o.1, o.2]
    by_cases z : zr_rm s ≤ zn_cn (zn_qI (zn_I nm) so (nI (zn_num ky L)) s) h
    · exact br_t (nI_le z (by omega)) (hQ _ _ (zy_addN h23 (Or.inr (Nat.le_antisymm hro z)) ⟨rfl, zi_mk R⟩))
    · refine br_f (nI_ge (by omega) (by omega)) (zx_entryAt E.1 ?_)
      rw [zn_fd_congr (zr_q E o.1 s) h 0 (by omega), o.2]
      rcases zn_fd_spec (h := h) (q := zn_qI (zn_I nm) so (nI (zn_num ky L)) s) (v := va) (x := v) h 0 (by omega) with w | w
      · rw [w.1]
        exact br_t (by decide) (zx_82 R h23 (by omega) ht (fun ch' no' be' x R' => hQ _ _ (zy_addL h23 w.1 (by omega) ⟨rfl, zi_mk R'⟩)))
      · obtain ⟨f, hf, _, _, ef⟩ := w
        rw [ef]
        exact br_f (nI_pos (by omega)) (hQ _ _ (zy_addN h23 (Or.inl ⟨f, hf, ef⟩) ⟨rfl, zi_mk R⟩))
  · rw [if_neg c]
    have hl := zn_lt4 R.2.1 R.1
    have hc0 : zn_cn (zn_qI (zn_I nm) so (nI (zn_num ky L)) s) h = 0 := Nat.eq_zero_of_not_pos (fun z => c (Or.inr (zr_pos E hl z)))
    have hf : zn_fd (zn_qI (zn_I nm) so (nI (zn_num ky L)) s) va v h 0 = -1 := by
      rcases zn_fd_spec (h := h) (q := zn_qI (zn_I nm) so (nI (zn_num ky L)) s) (v := va) (x := v) h 0 (by omega) with w | w
      · exact w.1
      · obtain ⟨f, hf, hq, _, _⟩ := w
        have := (zn_cn_pos h).mpr ⟨f, hf, hq⟩
        omega
    exact br_t (by decide) (zx_82 R h23 (by omega) ht (fun ch' no' be' x R' => hQ _ _ (zy_addL h23 hf (by omega) ⟨rfl, zi_mk R'⟩)))
theorem zr_srt (c1 : ¬ s < 1) (c2 : ¬ 4 < s) : s = 1 ∨ s = 2 ∨ s = 3 ∨ s = 4 := by
  obtain ⟨j, hj, rfl⟩ := nI_of2 (x := s) (M := 4) (n := 4) (by decide) (fun z => c1 (Int32.lt_trans z (by decide))) (Int32.not_lt.mp c2)
  have hj : j = 0 ∨ j = 1 ∨ j = 2 ∨ j = 3 ∨ j = 4 := by omega
  rcases hj with e | e | e | e | e
  · subst e
    exact absurd (by decide) c1
  · subst e
    exact Or.inl rfl
  · subst e
    exact Or.inr (Or.inl rfl)
  · subst e
    exact Or.inr (Or.inr (Or.inl rfl))
  · subst e
    exact Or.inr (Or.inr (Or.inr rfl))
theorem zr_add {Q : Int32 → SX → Prop} {k : Nat} (R : zr_RI L h ky ch no be en nm so va) (h23 : h < 24) (c1 : ¬ s < 1) (c2 : ¬ 4 < s) (ht : s = 3 → zn_Tg v)
    (hQ : ∀ r u', wY_add_22 (fun r' v' => r' = r ∧ i_Rel k u' v') s v (nI h) (nI (zn_num ky L)) (nI L) yp yr (zn_I nm) so va → Q r u') : wX_add_33 Q s v (nI L) (nI h) a1 a2 a3 a4 al (zn_I ky) (zn_I ch) (zn_I no) (zn_I be) (zn_I en) so va aq := by
  have K := zr_53 (a1 := a1) (a2 := a2) (a3 := a3) (a4 := a4) (al := al) (aq := aq) R h23 ht hQ
  unfold wX_add_33
  refine zx_findNode R.2.2.1.2.1 R.2.1 R.1 ?_
  rcases zr_srt c1 c2 with e | e | e | e
  · subst e
    exact br_f (by decide) (br_f (by decide) K)
  · subst e
    exact br_f (by decide) (br_f (by decide) K)
  · subst e
    exact br_t rfl K
  · subst e
    exact br_f (by decide) (br_t rfl K)
theorem i_vc_add {k : Nat} {u : SX} {v : SY} (I : i_Rel k u v) (hk : k + 3 ≤ 1536) (v1 : Int32) (v2 : Int32) : wpX_add (fun r u' => wpY_add (fun r' v' => r' = r ∧ i_Rel (k + 3) u' v') v v1 v2) u v1 v2 := by
  refine zi_el (P := fun u v => wpX_add (fun r u' => wpY_add (fun r' v' => r' = r ∧ i_Rel (k + 3) u' v') v v1 v2) u v1 v2) ?_ I
  intro L h ky ch no be en nm so va a1 a2 a3 a4 al aq yp yr R
  have h24 := R.2.2.1.1
  by_cases c1 : v1 < 1
  · exact br_t c1 (br_t c1 ⟨rfl, zi_mk R⟩)
  by_cases c2 : 4 < v1
  · exact br_f c1 (br_t c2 (br_f c1 (br_t c2 ⟨rfl, zi_mk R⟩)))
  obtain ⟨b, bt, bX, bY⟩ := zn_isN v2
  by_cases e : h = 24
  · have e24 : nI h = 24 := by
      rw [e]
      rfl
    refine br_f c1 (br_f c2 (br_t (nI_le (a := 24) (by omega) (by omega)) (br_f c1 (br_f c2 ?_))))
    by_cases s3 : v1 = 3
    · refine br_t s3 (bY _ ?_)
      cases b with
      | false => exact br_t rfl ⟨rfl, zi_mk R⟩
      | true => exact br_f (by decide) (br_t e24 ⟨rfl, zi_mk R⟩)
    · exact br_f s3 (br_t e24 ⟨rfl, zi_mk R⟩)
  · refine br_f c1 (br_f c2 (br_f (nI_ge (b := 24) (by omega) (by omega)) ?_))
    by_cases s3 : v1 = 3
    · refine br_t s3 (bX _ ?_)
      cases b with
      | false => exact br_t rfl (br_f c1 (br_f c2 (br_t s3 (bY _ (br_t rfl ⟨rfl, zi_mk R⟩)))))
      | true => exact br_f (by decide) (zr_add R (by omega) c1 c2 (fun _ => bt rfl) (fun r u' K => br_f c1 (br_f c2 (br_t s3 (bY _ (br_f (by decide) K))))))
    · exact br_f s3 (zr_add R (by omega) c1 c2 (fun z => absurd z s3) (fun r u' K => br_f c1 (br_f c2 (br_f s3 K))))
/-! remove -/
theorem zx_rem {Q : Int32 → SX → Prop} {f : Nat} (R : zr_RI L (h + 1) ky ch no be en nm so va) (hf : f ≤ h) (hk : nm f = zn_num ky L)
    (hp : Q (nI h) (nI L, nI h, a1, a2, a3, a4, al, zn_I ky, zn_I (zs_ch ch be (zt_nd ch ky) ky L), zn_I no, zn_I (zs_be be (zt_nd ch ky) L), zn_I (zn_up en f (en h)), upd so f (so h), upd va f (va h), aq)) : wX_remove_20 Q (nI f) (nI L) (nI (h + 1)) a1 a2 a3 a4 al (zn_I ky) (zn_I ch) (zn_I no) (zn_I be) (zn_I en) so va aq := by
  have E := R.2.2.1
  have h24 := E.1
  have hif : vp_in (nI f) 24 := vp_in_nI (by omega) (by omega)
  have hih : vp_in (nI h) 24 := vp_in_nI (by omega) (by omega)
  have hw : 0 < zn_W nm (h + 1) (zn_num ky L) := zn_W_pos.mpr ⟨f, by omega, by rw [hk]; exact zn_cv_self _⟩
  refine br_t (nI_pos' (by omega)) (nm_r (nI_pred h) ⟨hih, hif, ?_⟩)
  rw [nI_clamp (n := f) (by omega), nI_clamp (n := h) (by omega)]
  refine nm_r (zn_upI en f (en h)) ⟨hih, hif, nm_e ⟨hih, hif, nm_e ?_⟩⟩
  exact zx_shrinkPath E.2.1 R.2.1 R.1 (fun m => by
    have := zn_W_le nm (h + 1) m
    omega) hw hp
theorem i_vc_remove {k : Nat} {u : SX} {v : SY} (I : i_Rel k u v) (hk : k + 3 ≤ 1536) (v1 : Int32) (v2 : Int32) : wpX_remove (fun r u' => wpY_remove (fun r' v' => r' = r ∧ i_Rel (k + 3) u' v') v v1 v2) u v1 v2 := by
  refine zi_el (P := fun u v => wpX_remove (fun r u' => wpY_remove (fun r' v' => r' = r ∧ i_Rel (k + 3) u' v') v v1 v2) u v1 v2) ?_ I
  intro L h ky ch no be en nm so va a1 a2 a3 a4 al aq yp yr R
  have E := R.2.2.1
  have h24 := E.1
  have hl := zn_lt4 R.2.1 R.1
  have Nn : zn_fd (zn_qI (zn_I nm) so (nI (zn_num ky L)) v1) va v2 h 0 = -1 → wX_remove_20 (fun r u' => wpY_remove (fun r' v' => r' = r ∧ i_Rel (k + 3) u' v') (nI h, nI (zn_num ky L), nI L, yp, yr, zn_I nm, so, va) v1 v2) (-1) (nI L) (nI h) a1 a2 a3 a4 al (zn_I ky) (zn_I ch) (zn_I no) (zn_I be) (zn_I en) so va aq := fun ef => by
    refine br_f (by decide) (zy_find h24 ?_)
    rw [ef]
    exact br_f (by decide) ⟨rfl, zi_mk R⟩
  unfold wpX_remove
  refine zx_findNode E.2.1 R.2.1 R.1 ?_
  unfold zn_fn
  by_cases c : L = 0 ∨ 0 < zn_W nm h (zn_num ky L)
  · have o := zt_nd_ok E.2.1 R.2.1 L c
    have o1 := o.1.1
    rw [if_pos c]
    refine br_t (nI_pos' (by omega)) (zx_entryAt h24 ?_)
    rw [zn_fd_congr (zr_q E o.1 v1) h 0 (by omega), o.2]
    rcases zn_fd_spec (h := h) (q := zn_qI (zn_I nm) so (nI (zn_num ky L)) v1) (v := va) (x := v2) h 0 (by omega) with w | w
    · rw [w.1]
      exact Nn w.1
    · obtain ⟨f, hf, hq, _, ef⟩ := w
      rw [ef]
      have hnl := zr_lt E f hf
      have hnm : nm f = zn_num ky L := (nI_eq (by omega) (by omega)).mp (zn_qI_e hq).1
      obtain ⟨h', rfl⟩ : ∃ h', h = h' + 1 := ⟨h - 1, by omega⟩
      have R' := zi_rem R (by omega) hnm
      refine zx_rem R (by omega) hnm (zy_find h24 ?_)
      rw [ef]
      have hif : vp_in (nI f) 24 := vp_in_nI (by omega) (by omega)
      have hih : vp_in (nI h') 24 := vp_in_nI (by omega) (by omega)
      refine br_t (nI_pos' (by omega)) (nm_r (nI_pred h') ⟨hih, hif, ?_⟩)
      rw [nI_clamp (n := f) (by omega), nI_clamp (n := h') (by omega)]
      exact nm_r (zn_upI nm f (nm h')) ⟨hih, hif, nm_e ⟨hih, hif, nm_e ⟨rfl, zi_mk R'⟩⟩⟩
  · rw [if_neg c]
    refine br_f (by decide) (Nn ?_)
    rcases zn_fd_spec (h := h) (q := zn_qI (zn_I nm) so (nI (zn_num ky L)) v1) (v := va) (x := v2) h 0 (by omega) with w | w
    · exact w.1
    · obtain ⟨f, hf, hq, _, _⟩ := w
      exact absurd (Or.inr (zr_pos E hl ((zn_cn_pos h).mpr ⟨f, hf, hq⟩))) c
end ZW1
end
