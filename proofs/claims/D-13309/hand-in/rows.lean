section
/-! a flag: a boolean place of an array, against a proposition -/
def qf_fl (x : Int32) (p : Prop) : Prop := (p → x = 1) ∧ (¬ p → x = 0)
theorem qf_fl_t {p : Prop} (h : p) : qf_fl 1 p := ⟨fun _ => rfl, fun n => absurd h n⟩
theorem qf_fl_f {p : Prop} (h : ¬ p) : qf_fl 0 p := ⟨fun a => absurd a h, fun _ => rfl⟩
theorem qf_fl_iff {x : Int32} {p q : Prop} (h : qf_fl x p) (e : p ↔ q) : qf_fl x q := ⟨fun a => h.1 (e.mpr a), fun a => h.2 (fun b => a (e.mp b))⟩
theorem qf_10 : ¬ (1 : Int32) = 0 := by decide
theorem qf_fl_br {x : Int32} {p A B : Prop} (h : qf_fl x p) (f : ¬ p → A) (g : p → B) : (x = 0 → A) ∧ (¬ x = 0 → B) := by
  by_cases hp : p
  · rw [h.1 hp]
    exact ⟨fun z => absurd z qf_10, fun _ => g hp⟩
  · rw [h.2 hp]
    exact ⟨fun _ => f hp, fun z => absurd rfl z⟩
theorem qf_fl_01 {x : Int32} {p : Prop} (h : qf_fl x p) : x = 0 ∨ x = 1 := by
  by_cases hp : p
  · exact Or.inr (h.1 hp)
  · exact Or.inl (h.2 hp)
theorem qf_fl_0 {x : Int32} {p : Prop} (h : qf_fl x p) : x = 0 ↔ ¬ p := by
  constructor
  · intro hx hp
    rw [h.1 hp] at hx
    exact qf_10 hx
  · exact h.2
theorem qf_nar01 {x : Int32} (h : x = 0 ∨ x = 1) : vp_nar .boolean x = x := by
  rcases h with h | h
  · rw [h]; decide
  · rw [h]; decide
/-! numbers -/
theorem qf_sl : ∀ b, b < 9 → (1 : Int32) <<< (nI b &&& 31) = nI (2 ^ b) := by decide +kernel
theorem qf_sh : ∀ b, b < 7 → ∀ p, p < 256 → nI p >>> ((8 - nI b) &&& 31) = nI (p / 2 ^ (8 - b)) := by decide +kernel
theorem qf_lo : ∀ b, b < 7 → ∀ p, p < 256 → nI p &&& (((1 : Int32) <<< ((8 - nI b) &&& 31)) - 1) = nI (p % 2 ^ (8 - b)) := by decide +kernel
theorem qf_af : ∀ b, b < 7 → ∀ s, s < 64 → (nI s + 1) &&& (nI (2 ^ b) - 1) = nI ((s + 1) % 2 ^ b) := by decide +kernel
theorem qf_be : ∀ b, b < 7 → ∀ s, s < 64 → (nI s - 1) &&& (nI (2 ^ b) - 1) = nI ((s + 2 ^ b - 1) % 2 ^ b) := by decide +kernel
theorem qf_fp : ∀ b, b < 7 → ∀ e, e < 256 → ((nI (e / 2 ^ (8 - b)) <<< ((8 - nI b) &&& 31)) ||| nI (e % 2 ^ (8 - b))).toInt16.toInt32 = nI e := by decide +kernel
theorem qf_i8 : ∀ n, n < 128 → (nI n).toInt8.toInt32 = nI n := by decide +kernel
theorem qf_2b : ∀ b, b < 7 → 3 ≤ b → 8 ≤ 2 ^ b ∧ 2 ^ b ≤ 64 ∧ 2 ^ b * 2 ^ (8 - b) = 256 := by decide +kernel
theorem qf_2b64 : ∀ b, b < 7 → 2 ^ b ≤ 64 := by decide +kernel
theorem qf_2K : ∀ b, b < 7 → 3 ≤ b → 2 ^ (8 - b) ≤ 32 ∧ 0 < 2 ^ (8 - b) := by decide +kernel
theorem qf_2p : ∀ b, b < 7 → 0 < 2 ^ b := by decide +kernel
/-! the fingerprint -/
def qf_pr (x : Int32) : Nat := (x * (-1640531535)).toBitVec.toNat / 2 ^ 24
theorem qf_pr_lt (x : Int32) : qf_pr x < 256 := by
  unfold qf_pr
  have h := (x * (-1640531535)).toBitVec.isLt
  omega
theorem qf_pr_e (x : Int32) : ((x * (-1640531535)).toUInt32 >>> ((24 : Int32).toUInt32 &&& Int32.toUInt32 31)).toInt32 = nI (qf_pr x) := by
  have h := pk_ushr (x * (-1640531535)) 24 24 (by decide)
  have hl := qf_pr_lt x
  apply Int32.toBitVec_inj.mp
  apply BitVec.eq_of_toNat_eq
  rw [h, pk_tn (by omega)]
  rfl
/-! places of the arrays -/
theorem qf_ix {f s : Nat} (hf : f < 2) (hs : s < 64) : (nI (64 * f) + nI s).toNatClampNeg = 64 * f + s := by
  rw [nI_add, nI_clamp (by omega)]
theorem qf_in {f s : Nat} (hf : f < 2) (hs : s < 64) : vp_in (nI (64 * f) + nI s) 128 := by
  rw [nI_add]
  exact vp_in_nI (by omega) (by omega)
theorem qf_fx {f s : Nat} (hf : f < 2) (hs : s < 64) {a : Nat → Int32} {p : Prop} (h : qf_fl (a (64 * f + s)) p) : qf_fl (a ((nI (64 * f) + nI s).toNatClampNeg)) p := by
  rw [qf_ix hf hs]
  exact h
end
section
/-! sums over naturals -/
def qf_S (g : Nat → Nat) : Nat → Nat
  | 0 => 0
  | n + 1 => qf_S g n + g n
theorem qf_S_congr {g h : Nat → Nat} : ∀ n, (∀ i, i < n → g i = h i) → qf_S g n = qf_S h n
  | 0, _ => rfl
  | n + 1, e => by
    show qf_S g n + g n = qf_S h n + h n
    rw [qf_S_congr n (fun i hi => e i (by omega)), e n (by omega)]
theorem qf_S_add (g : Nat → Nat) (a : Nat) : ∀ c, qf_S g (a + c) = qf_S g a + qf_S (fun i => g (a + i)) c
  | 0 => rfl
  | c + 1 => by
    show qf_S g (a + c) + g (a + c) = qf_S g a + (qf_S (fun i => g (a + i)) c + g (a + c))
    rw [qf_S_add g a c]
    omega
theorem qf_S_zero {g : Nat → Nat} : ∀ n, (∀ i, i < n → g i = 0) → qf_S g n = 0
  | 0, _ => rfl
  | n + 1, e => by
    show qf_S g n + g n = 0
    rw [qf_S_zero n (fun i hi => e i (by omega)), e n (by omega)]
theorem qf_S_one {g : Nat → Nat} : ∀ n, (∀ i, i < n → g i = 1) → qf_S g n = n
  | 0, _ => rfl
  | n + 1, e => by
    show qf_S g n + g n = n + 1
    rw [qf_S_one n (fun i hi => e i (by omega)), e n (by omega)]
theorem qf_S_le {g : Nat → Nat} : ∀ n, (∀ i, i < n → g i ≤ 1) → qf_S g n ≤ n
  | 0, _ => Nat.le_refl 0
  | n + 1, e => by
    show qf_S g n + g n ≤ n + 1
    have h1 := qf_S_le n (fun i hi => e i (by omega))
    have h2 := e n (by omega)
    omega
theorem qf_S_ext {g : Nat → Nat} {a c : Nat} (h : a ≤ c) (e : ∀ i, a ≤ i → i < c → g i = 0) : qf_S g c = qf_S g a := by
  obtain ⟨k, rfl⟩ := Nat.le.dest h
  rw [qf_S_add, qf_S_zero k (fun i hi => e (a + i) (by omega) (by omega))]
  omega
theorem qf_S_mono {g : Nat → Nat} {a c : Nat} (h : a ≤ c) : qf_S g a ≤ qf_S g c := by
  obtain ⟨k, rfl⟩ := Nat.le.dest h
  rw [qf_S_add]
  omega
theorem qf_S_lem {g h : Nat → Nat} : ∀ n, (∀ i, i < n → g i ≤ h i) → qf_S g n ≤ qf_S h n
  | 0, _ => Nat.le_refl 0
  | n + 1, e => by
    show qf_S g n + g n ≤ qf_S h n + h n
    have h1 := qf_S_lem n (fun i hi => e i (by omega))
    have h2 := e n (by omega)
    omega
theorem qf_S_plus {g h : Nat → Nat} : ∀ n, qf_S (fun i => g i + h i) n = qf_S g n + qf_S h n
  | 0 => rfl
  | n + 1 => by
    show qf_S (fun i => g i + h i) n + (g n + h n) = qf_S g n + g n + (qf_S h n + h n)
    rw [qf_S_plus n]
    omega
theorem qf_S_pos {g : Nat → Nat} : ∀ n, 0 < qf_S g n → ∃ i, i < n ∧ 0 < g i
  | 0, h => absurd h (Nat.lt_irrefl 0)
  | n + 1, h => by
    have h' : 0 < qf_S g n + g n := h
    by_cases hg : 0 < g n
    · exact ⟨n, by omega, hg⟩
    · have h2 : 0 < qf_S g n := by clear h; omega
      obtain ⟨i, hi, hp⟩ := qf_S_pos n h2
      exact ⟨i, by omega, hp⟩
theorem qf_S_at {g : Nat → Nat} {i n : Nat} (h : i < n) : g i ≤ qf_S g n := by
  have h1 : qf_S g (i + 1) ≤ qf_S g n := qf_S_mono h
  have h2 : qf_S g (i + 1) = qf_S g i + g i := rfl
  omega
/-- one put in at i, what stood between i and e moved on by one -/
theorem qf_S_ins {g g' : Nat → Nat} {i e n : Nat} (hie : i ≤ e) (hen : e < n) (h1 : ∀ t, t < i → g' t = g t) (h2 : ∀ t, i < t → t ≤ e → g' t = g (t - 1)) (h3 : ∀ t, e < t → t < n → g' t = g t) (h0 : g e = 0) : qf_S g' n = qf_S g n + g' i := by
  have A : ∀ k, i + k ≤ e → qf_S g' (i + k + 1) = qf_S g (i + k) + g' i := by
    intro k
    induction k with
    | zero =>
      intro _
      show qf_S g' i + g' i = qf_S g i + g' i
      rw [qf_S_congr i h1]
    | succ k ih =>
      intro hk
      have e1 : qf_S g' (i + (k + 1) + 1) = qf_S g' (i + k + 1) + g' (i + k + 1) := rfl
      have e2 : qf_S g (i + (k + 1)) = qf_S g (i + k) + g (i + k) := rfl
      have e3 := h2 (i + k + 1) (by omega) (by omega)
      rw [show i + k + 1 - 1 = i + k by omega] at e3
      rw [e1, e2, ih (by omega), e3]
      omega
  have B := A (e - i) (by omega)
  rw [show i + (e - i) = e by omega] at B
  have e4 : qf_S g (e + 1) = qf_S g e + g e := rfl
  have C : qf_S g' (e + 1) = qf_S g (e + 1) + g' i := by rw [B, e4, h0, Nat.add_zero]
  obtain ⟨k, hk⟩ := Nat.le.dest (show e + 1 ≤ n by omega)
  rw [← hk, qf_S_add g' (e + 1) k, qf_S_add g (e + 1) k, C, qf_S_congr (h := fun j => g (e + 1 + j)) k (fun j hj => h3 (e + 1 + j) (by omega) (by omega))]
  omega
def qf_rot (m a : Nat) (g : Nat → Nat) (t : Nat) : Nat := if a + t < m then g (a + t) else g (a + t - m)
theorem qf_S_rot {m a : Nat} (ha : a ≤ m) (g : Nat → Nat) : qf_S (qf_rot m a g) m = qf_S g m := by
  have e1 : qf_S (qf_rot m a g) ((m - a) + a) = qf_S (qf_rot m a g) (m - a) + qf_S (fun i => qf_rot m a g (m - a + i)) a := qf_S_add _ _ _
  have e2 : qf_S g (a + (m - a)) = qf_S g a + qf_S (fun i => g (a + i)) (m - a) := qf_S_add _ _ _
  rw [show m - a + a = m by omega] at e1
  rw [show a + (m - a) = m by omega] at e2
  have e3 : qf_S (qf_rot m a g) (m - a) = qf_S (fun i => g (a + i)) (m - a) := by
    apply qf_S_congr
    intro i hi
    unfold qf_rot
    rw [if_pos (by omega)]
  have e4 : qf_S (fun i => qf_rot m a g (m - a + i)) a = qf_S g a := by
    apply qf_S_congr
    intro i hi
    show qf_rot m a g (m - a + i) = g i
    unfold qf_rot
    rw [if_neg (by omega), show a + (m - a + i) - m = i by omega]
  rw [e1, e2, e3, e4]
  omega
end
section
/-! places of the ring, from a root z -/
def qf_p (m z t : Nat) : Nat := (z + t) % m
theorem qf_md {x m : Nat} (h : x < 2 * m) : (x < m ∧ x % m = x) ∨ (m ≤ x ∧ x % m = x - m) := by
  by_cases hx : x < m
  · exact Or.inl ⟨hx, Nat.mod_eq_of_lt hx⟩
  · refine Or.inr ⟨by omega, ?_⟩
    rw [Nat.mod_eq_sub_mod (by omega), Nat.mod_eq_of_lt (by omega)]
theorem qf_p_lt {m z t : Nat} (h : 0 < m) : qf_p m z t < m := Nat.mod_lt _ h
theorem qf_p_af {m z t : Nat} : (qf_p m z t + 1) % m = qf_p m z (t + 1) := by
  unfold qf_p
  rw [Nat.mod_add_mod, Nat.add_assoc]
theorem qf_p_be {m z t : Nat} (h : 0 < m) : (qf_p m z (t + 1) + m - 1) % m = qf_p m z t := by
  rw [← qf_p_af]
  have hr : qf_p m z t < m := qf_p_lt h
  generalize qf_p m z t = r at hr
  rcases qf_md (x := r + 1) (m := m) (by omega) with ⟨h1, h2⟩ | ⟨h1, h2⟩
  · rw [h2]
    rcases qf_md (x := r + 1 + m - 1) (m := m) (by omega) with ⟨h3, h4⟩ | ⟨h3, h4⟩
    · omega
    · rw [h4]; omega
  · rw [h2]
    rcases qf_md (x := r + 1 - m + m - 1) (m := m) (by omega) with ⟨h3, h4⟩ | ⟨h3, h4⟩
    · rw [h4]; omega
    · rw [h4]; omega
theorem qf_p_inj {m z t u : Nat} (hz : z < m) (ht : t < m) (hu : u < m) (e : qf_p m z t = qf_p m z u) : t = u := by
  unfold qf_p at e
  rcases qf_md (x := z + t) (m := m) (by omega) with ⟨h1, h2⟩ | ⟨h1, h2⟩
  · rcases qf_md (x := z + u) (m := m) (by omega) with ⟨h3, h4⟩ | ⟨h3, h4⟩
    · rw [h2, h4] at e; omega
    · rw [h2, h4] at e; omega
  · rcases qf_md (x := z + u) (m := m) (by omega) with ⟨h3, h4⟩ | ⟨h3, h4⟩
    · rw [h2, h4] at e; omega
    · rw [h2, h4] at e; omega
theorem qf_p_surj {m z s : Nat} (hz : z < m) (hs : s < m) : ∃ t, t < m ∧ qf_p m z t = s := by
  by_cases h : z ≤ s
  · refine ⟨s - z, by omega, ?_⟩
    unfold qf_p
    rw [show z + (s - z) = s by omega, Nat.mod_eq_of_lt hs]
  · refine ⟨s + m - z, by omega, ?_⟩
    unfold qf_p
    rw [show z + (s + m - z) = s + m by omega, Nat.add_mod_right, Nat.mod_eq_of_lt hs]
theorem qf_p_0 {m z : Nat} (hz : z < m) : qf_p m z 0 = z := Nat.mod_eq_of_lt hz
theorem qf_p_w {m z t : Nat} : qf_p m z (t + m) = qf_p m z t := by
  unfold qf_p
  rw [← Nat.add_assoc, Nat.add_mod_right]
theorem qf_p_m {m z : Nat} : qf_p m z m = qf_p m z 0 := by
  have h : qf_p m z (0 + m) = qf_p m z 0 := qf_p_w
  rw [Nat.zero_add] at h
  exact h
theorem qf_p_rr {m z a t : Nat} : qf_p m (qf_p m z a) t = qf_p m z (a + t) := by
  unfold qf_p
  rw [Nat.mod_add_mod, Nat.add_assoc]
/-- the same place, t counted from the root at a, folded back -/
theorem qf_p_rot {m z a t : Nat} (h : m ≤ a + t) : qf_p m (qf_p m z a) t = qf_p m z (a + t - m) := by
  rw [qf_p_rr]
  have h2 : qf_p m z (a + t - m + m) = qf_p m z (a + t - m) := qf_p_w
  rw [show a + t - m + m = a + t by omega] at h2
  exact h2
end
section
/-! the picture of one filter, from a root z: d t = 0 where the place t is free, else its way from home and one; e t the fingerprint there -/
def qf_H (m : Nat) (d : Nat → Nat) : Prop := d 0 = 0 ∧ (∀ t, d (t + 1) ≤ d t + 1) ∧ (∀ t, m ≤ t → d t = 0)
theorem qf_H_le {m : Nat} {d : Nat → Nat} (h : qf_H m d) : ∀ t, d t ≤ t := by
  intro t
  induction t with
  | zero => rw [h.1]; exact Nat.le_refl 0
  | succ t ih =>
    have h1 := h.2.1 t
    omega
theorem qf_H_mo {m : Nat} {d : Nat → Nat} (h : qf_H m d) {a c : Nat} (hac : a ≤ c) : d c + a ≤ d a + c := by
  have A : ∀ k, d (a + k) + a ≤ d a + (a + k) := by
    intro k
    induction k with
    | zero => exact Nat.le_refl _
    | succ k ih =>
      have h1 := h.2.1 (a + k)
      show d (a + k + 1) + a ≤ d a + (a + k + 1)
      omega
  have B := A (c - a)
  rw [show a + (c - a) = c by omega] at B
  exact B
def qf_nm (m : Nat) (d : Nat → Nat) (t : Nat) : Prop := ∃ u, t ≤ u ∧ u < m ∧ d u + t = u + 1
def qf_co (d : Nat → Nat) (t : Nat) : Prop := 1 ≤ t ∧ 1 ≤ d (t - 1) ∧ d t = d (t - 1) + 1
theorem qf_nm_0 {m : Nat} {d : Nat → Nat} (h : qf_H m d) : ¬ qf_nm m d 0 := by
  rintro ⟨u, h1, h2, h3⟩
  have h4 := qf_H_le h u
  omega
theorem qf_nm_m {m : Nat} {d : Nat → Nat} : ¬ qf_nm m d m := by
  rintro ⟨u, h1, h2, h3⟩
  omega
theorem qf_co_0 {d : Nat → Nat} : ¬ qf_co d 0 := fun h => absurd h.1 (by omega)
theorem qf_co_z {d : Nat → Nat} {t : Nat} (h : d t = 0) : ¬ qf_co d t := by
  rintro ⟨_, _, h3⟩
  omega
/-- named: the slot itself isn't free -/
theorem qf_nm_oc {m : Nat} {d : Nat → Nat} (h : qf_H m d) {t : Nat} (hn : qf_nm m d t) : 1 ≤ d t := by
  obtain ⟨u, h1, h2, h3⟩ := hn
  have h4 := qf_H_mo h h1
  omega
def qf_A (f m K z : Nat) (d e : Nat → Nat) (a3 a4 a5 a6 : Nat → Int32) : Prop :=
  (∀ t, t < m → 1 ≤ d t → e t < 256 ∧ e t / K = qf_p m z (t + 1 - d t) ∧ a3 (64 * f + qf_p m z t) = nI (e t % K)) ∧
  (∀ t, t < m → qf_fl (a4 (64 * f + qf_p m z t)) (qf_nm m d t)) ∧
  (∀ t, t < m → qf_fl (a5 (64 * f + qf_p m z t)) (qf_co d t)) ∧
  (∀ t, t < m → qf_fl (a6 (64 * f + qf_p m z t)) (2 ≤ d t))
theorem qf_le_m {f m z : Nat} {a : Nat → Int32} {p : Nat → Prop} (h : ∀ t, t < m → qf_fl (a (64 * f + qf_p m z t)) (p t)) (hm : 0 < m) (h0 : ¬ p 0) (h1 : ¬ p m) : ∀ t, t ≤ m → qf_fl (a (64 * f + qf_p m z t)) (p t) := by
  intro t ht
  by_cases e : t < m
  · exact h t e
  · have e' : t = m := by omega
    subst e'
    rw [qf_p_m]
    exact qf_fl_iff (h 0 hm) ⟨fun z => absurd z h0, fun z => absurd z h1⟩
/-! another root -/
theorem qf_rot_T {m a t : Nat} (ha : a < m) (ht : t < m) : ∃ T, T < m ∧ (a + t = T ∨ a + t = T + m) ∧ (∀ g, qf_rot m a g t = g T) ∧ ∀ z, qf_p m (qf_p m z a) t = qf_p m z T := by
  by_cases h : a + t < m
  · refine ⟨a + t, h, Or.inl rfl, fun g => ?_, fun z => qf_p_rr⟩
    unfold qf_rot
    rw [if_pos h]
  · refine ⟨a + t - m, by omega, Or.inr (by omega), fun g => ?_, fun z => qf_p_rot (by omega)⟩
    unfold qf_rot
    rw [if_neg h]
def qf_dr (m a : Nat) (d : Nat → Nat) (t : Nat) : Nat := if t < m then qf_rot m a d t else 0
theorem qf_dr_lo {m a t : Nat} {d : Nat → Nat} (h : a + t < m) : qf_dr m a d t = d (a + t) := by
  unfold qf_dr qf_rot
  rw [if_pos (by omega), if_pos h]
theorem qf_dr_hi {m a t : Nat} {d : Nat → Nat} (ht : t < m) (h : m ≤ a + t) : qf_dr m a d t = d (a + t - m) := by
  unfold qf_dr qf_rot
  rw [if_pos ht, if_neg (by omega)]
theorem qf_dr_out {m a t : Nat} {d : Nat → Nat} (h : m ≤ t) : qf_dr m a d t = 0 := by
  unfold qf_dr
  rw [if_neg (by omega)]
theorem qf_H_rr {m a : Nat} {d : Nat → Nat} (h : qf_H m d) (ha : a < m) (h0 : d a = 0) : qf_H m (qf_dr m a d) := by
  refine ⟨?_, ?_, fun t ht => qf_dr_out ht⟩
  · rw [qf_dr_lo (by omega)]
    exact h0
  · intro t
    by_cases h1 : t + 1 < m
    · by_cases h2 : a + (t + 1) < m
      · rw [qf_dr_lo h2, qf_dr_lo (by omega)]
        exact h.2.1 (a + t)
      · by_cases h3 : a + t < m
        · rw [qf_dr_hi h1 (by omega), show a + (t + 1) - m = 0 by omega, h.1]
          omega
        · rw [qf_dr_hi h1 (by omega), qf_dr_hi (by omega) (by omega), show a + (t + 1) - m = a + t - m + 1 by omega]
          exact h.2.1 _
    · rw [qf_dr_out (by omega)]
      omega
theorem qf_nm_rr {m a t T : Nat} {d : Nat → Nat} (h : qf_H m d) (ha : a < m) (h0 : d a = 0) (ht : t < m) (hT : T < m) (hc : a + t = T ∨ a + t = T + m) : qf_nm m d T ↔ qf_nm m (qf_dr m a d) t := by
  constructor
  · rintro ⟨u, h1, h2, h3⟩
    rcases hc with hc | hc
    · refine ⟨u - a, by omega, by omega, ?_⟩
      rw [qf_dr_lo (by omega), show a + (u - a) = u by omega]
      omega
    · have hu : u < a := by
        by_cases hu : u < a
        · exact hu
        · have h4 := qf_H_mo h (show a ≤ u by omega)
          omega
      refine ⟨u + m - a, by omega, by omega, ?_⟩
      rw [qf_dr_hi (by omega) (by omega), show a + (u + m - a) - m = u by omega]
      omega
  · rintro ⟨u, h1, h2, h3⟩
    rcases hc with hc | hc
    · by_cases hu : a + u < m
      · rw [qf_dr_lo hu] at h3
        exact ⟨a + u, by omega, by omega, by omega⟩
      · rw [qf_dr_hi h2 (by omega)] at h3
        have h4 := qf_H_le h (a + u - m)
        omega
    · rw [qf_dr_hi h2 (by omega)] at h3
      exact ⟨a + u - m, by omega, by omega, by omega⟩
theorem qf_co_rr {m a t T : Nat} {d : Nat → Nat} (h : qf_H m d) (ha : a < m) (h0 : d a = 0) (ht : t < m) (hT : T < m) (hc : a + t = T ∨ a + t = T + m) : qf_co d T ↔ qf_co (qf_dr m a d) t := by
  by_cases h1 : t = 0
  · subst h1
    have hTa : T = a := by omega
    rw [hTa]
    exact ⟨fun z => absurd z (qf_co_z h0), fun z => absurd z qf_co_0⟩
  · rcases hc with hc | hc
    · unfold qf_co
      rw [qf_dr_lo (show a + t < m by omega), qf_dr_lo (show a + (t - 1) < m by omega), hc, show a + (t - 1) = T - 1 by omega]
      constructor
      · exact fun z => ⟨by omega, z.2⟩
      · exact fun z => ⟨by omega, z.2⟩
    · by_cases h2 : T = 0
      · have e1 : qf_dr m a d t = 0 := by
          rw [qf_dr_hi ht (by omega), show a + t - m = 0 by omega]
          exact h.1
        rw [h2]
        exact ⟨fun z => absurd z qf_co_0, fun z => absurd z (qf_co_z e1)⟩
      · unfold qf_co
        rw [qf_dr_hi ht (by omega), qf_dr_hi (show t - 1 < m by omega) (by omega), show a + t - m = T by omega, show a + (t - 1) - m = T - 1 by omega]
        constructor
        · exact fun z => ⟨by omega, z.2⟩
        · exact fun z => ⟨by omega, z.2⟩
theorem qf_A_rr {f m K z a : Nat} {d e : Nat → Nat} {a3 a4 a5 a6 : Nat → Int32} (hH : qf_H m d) (h : qf_A f m K z d e a3 a4 a5 a6) (ha : a < m) (h0 : d a = 0) : qf_A f m K (qf_p m z a) (qf_dr m a d) (qf_rot m a e) a3 a4 a5 a6 := by
  obtain ⟨A1, A2, A3, A4⟩ := h
  refine ⟨?_, ?_, ?_, ?_⟩
  · intro t ht
    obtain ⟨T, hT, hc, hg, hp⟩ := qf_rot_T ha ht
    have hd : qf_dr m a d t = d T := by
      unfold qf_dr
      rw [if_pos ht, hg]
    rw [hd, hg, hp]
    intro h1
    obtain ⟨B1, B2, B3⟩ := A1 T hT h1
    refine ⟨B1, ?_, B3⟩
    rw [B2]
    rcases hc with hc | hc
    · have h4 := qf_H_mo hH (show a ≤ T by omega)
      rw [qf_p_rr, show a + (t + 1 - d T) = T + 1 - d T by omega]
    · have h4 := qf_H_le hH T
      rw [qf_p_rot (by omega), show a + (t + 1 - d T) - m = T + 1 - d T by omega]
  · intro t ht
    obtain ⟨T, hT, hc, hg, hp⟩ := qf_rot_T ha ht
    rw [hp]
    exact qf_fl_iff (A2 T hT) (qf_nm_rr hH ha h0 ht hT hc)
  · intro t ht
    obtain ⟨T, hT, hc, hg, hp⟩ := qf_rot_T ha ht
    rw [hp]
    exact qf_fl_iff (A3 T hT) (qf_co_rr hH ha h0 ht hT hc)
  · intro t ht
    obtain ⟨T, hT, hc, hg, hp⟩ := qf_rot_T ha ht
    have hd : qf_dr m a d t = d T := by
      unfold qf_dr
      rw [if_pos ht, hg]
    rw [hp, hd]
    exact A4 T hT
/-! one filter of a state -/
def qf_L (f b z : Nat) (d e : Nat → Nat) (a1 a3 a4 a5 a6 : Nat → Int32) : Prop :=
  (f < 2 ∧ 3 ≤ b ∧ b < 7 ∧ a1 f = nI b ∧ z < 2 ^ b) ∧ qf_H (2 ^ b) d ∧ qf_A f (2 ^ b) (2 ^ (8 - b)) z d e a3 a4 a5 a6
def qf_oc (d : Nat → Nat) (t : Nat) : Nat := if 1 ≤ d t then 1 else 0
def qf_ct (d e : Nat → Nat) (p t : Nat) : Nat := if 1 ≤ d t ∧ e t = p then 1 else 0
theorem qf_oc_1 {d : Nat → Nat} {t : Nat} (h : 1 ≤ d t) : qf_oc d t = 1 := if_pos h
theorem qf_oc_0 {d : Nat → Nat} {t : Nat} (h : d t = 0) : qf_oc d t = 0 := if_neg (by omega)
theorem qf_ct_0 {d e : Nat → Nat} {p t : Nat} (h : ¬ (1 ≤ d t ∧ e t = p)) : qf_ct d e p t = 0 := if_neg h
theorem qf_ct_1 {d e : Nat → Nat} {p t : Nat} (h : 1 ≤ d t ∧ e t = p) : qf_ct d e p t = 1 := if_pos h
theorem qf_L_rr {f b z a : Nat} {d e : Nat → Nat} {a1 a3 a4 a5 a6 : Nat → Int32} (h : qf_L f b z d e a1 a3 a4 a5 a6) (ha : a < 2 ^ b) (h0 : d a = 0) :
    ∃ d' e', qf_L f b (qf_p (2 ^ b) z a) d' e' a1 a3 a4 a5 a6 ∧ (∀ t, a + t < 2 ^ b → d' t = d (a + t)) ∧ (∀ t, t < 2 ^ b → 2 ^ b ≤ a + t → d' t = d (a + t - 2 ^ b)) ∧
      qf_S (qf_oc d') (2 ^ b) = qf_S (qf_oc d) (2 ^ b) ∧ ∀ p, qf_S (qf_ct d' e' p) (2 ^ b) = qf_S (qf_ct d e p) (2 ^ b) := by
  obtain ⟨⟨h1, h2, h3, h4, h5⟩, hH, hA⟩ := h
  refine ⟨qf_dr (2 ^ b) a d, qf_rot (2 ^ b) a e, ⟨⟨h1, h2, h3, h4, qf_p_lt (by omega)⟩, qf_H_rr hH ha h0, qf_A_rr hH hA ha h0⟩, fun t ht => qf_dr_lo ht, fun t ht hu => qf_dr_hi ht hu, ?_, ?_⟩
  · rw [← qf_S_rot (show a ≤ 2 ^ b by omega) (qf_oc d)]
    apply qf_S_congr
    intro t ht
    obtain ⟨T, hT, hc, hg, hp⟩ := qf_rot_T ha ht
    rw [hg]
    unfold qf_oc qf_dr
    rw [if_pos ht, hg]
  · intro p
    rw [← qf_S_rot (show a ≤ 2 ^ b by omega) (qf_ct d e p)]
    apply qf_S_congr
    intro t ht
    obtain ⟨T, hT, hc, hg, hp⟩ := qf_rot_T ha ht
    rw [hg]
    unfold qf_ct qf_dr
    rw [if_pos ht, hg, hg]
/-- where there are two free places: a root and the free place at or behind slot s, apart -/
theorem qf_root {f b z s : Nat} {d e : Nat → Nat} {a1 a3 a4 a5 a6 : Nat → Int32} (h : qf_L f b z d e a1 a3 a4 a5 a6) (hs : s < 2 ^ b) (hn : qf_S (qf_oc d) (2 ^ b) + 1 < 2 ^ b) :
    ∃ z' d' e' q k, qf_L f b z' d' e' a1 a3 a4 a5 a6 ∧ qf_S (qf_oc d') (2 ^ b) = qf_S (qf_oc d) (2 ^ b) ∧ (∀ p, qf_S (qf_ct d' e' p) (2 ^ b) = qf_S (qf_ct d e p) (2 ^ b)) ∧
      qf_p (2 ^ b) z' q = s ∧ 1 ≤ q ∧ q ≤ k ∧ k < 2 ^ b ∧ d' k = 0 ∧ ∀ t, q ≤ t → t < k → 1 ≤ d' t := by
  have hz : z < 2 ^ b := h.1.2.2.2.2
  have h00 : d 0 = 0 := h.2.1.1
  obtain ⟨q0, hq0, hqs⟩ := qf_p_surj hz hs
  have hfree : ∃ a, 1 ≤ a ∧ a < 2 ^ b ∧ d a = 0 := by
    apply Classical.byContradiction
    intro hno
    have h1 : qf_S (qf_oc d) (1 + (2 ^ b - 1)) = qf_S (qf_oc d) 1 + qf_S (fun i => qf_oc d (1 + i)) (2 ^ b - 1) := qf_S_add _ _ _
    have h2 : qf_S (fun i => qf_oc d (1 + i)) (2 ^ b - 1) = 2 ^ b - 1 := by
      apply qf_S_one
      intro i hi
      apply qf_oc_1
      apply Classical.byContradiction
      intro hd
      exact hno ⟨1 + i, by omega, by omega, by omega⟩
    rw [show 1 + (2 ^ b - 1) = 2 ^ b by omega] at h1
    omega
  obtain ⟨a, ha1, ha2, ha3⟩ := hfree
  by_cases hq : q0 = 0
  · obtain ⟨d', e', hL, hlo, hhi, hS, hC⟩ := qf_L_rr h ha2 ha3
    refine ⟨_, d', e', 2 ^ b - a, 2 ^ b - a, hL, hS, hC, ?_, by omega, Nat.le_refl _, by omega, ?_, fun t h1 h2 => absurd h2 (by omega)⟩
    · rw [qf_p_rot (by omega), show a + (2 ^ b - a) - 2 ^ b = 0 by omega, ← hq]
      exact hqs
    · rw [hhi _ (by omega) (by omega), show a + (2 ^ b - a) - 2 ^ b = 0 by omega]
      exact h00
  · by_cases hk : ∃ k, q0 ≤ k ∧ k < 2 ^ b ∧ d k = 0
    · obtain ⟨k, hk1, hk2⟩ := pk_least _ hk
      refine ⟨z, d, e, q0, k, h, rfl, fun _ => rfl, hqs, by omega, hk1.1, hk1.2.1, hk1.2.2, fun t h1 h2 => ?_⟩
      apply Classical.byContradiction
      intro hd
      exact hk2 t h2 ⟨h1, by omega, by omega⟩
    · have haq : a < q0 := by
        apply Classical.byContradiction
        intro h1
        exact hk ⟨a, by omega, ha2, ha3⟩
      obtain ⟨d', e', hL, hlo, hhi, hS, hC⟩ := qf_L_rr h ha2 ha3
      refine ⟨_, d', e', q0 - a, 2 ^ b - a, hL, hS, hC, ?_, by omega, by omega, by omega, ?_, fun t h1 h2 => ?_⟩
      · rw [qf_p_rr, show a + (q0 - a) = q0 by omega]
        exact hqs
      · rw [hhi _ (by omega) (by omega), show a + (2 ^ b - a) - 2 ^ b = 0 by omega]
        exact h00
      · rw [hlo _ (by omega)]
        apply Classical.byContradiction
        intro hd
        exact hk ⟨a + t, by omega, by omega, by omega⟩
/-! the abstract filter: b slot bits, n fingerprints, C p times p -/
def qf_Q (f b n : Nat) (C : Nat → Nat) (a1 a2 a3 a4 a5 a6 : Nat → Int32) : Prop :=
  ∃ z d e, qf_L f b z d e a1 a3 a4 a5 a6 ∧ a2 f = nI n ∧ qf_S (qf_oc d) (2 ^ b) = n ∧ ∀ p, qf_S (qf_ct d e p) (2 ^ b) = C p
/-- what a call on filter f leaves as it is -/
def qf_F (f : Nat) (a1 a2 a3 a4 a5 a6 c1 c2 c3 c4 c5 c6 : Nat → Int32) : Prop :=
  (∀ g, g ≠ f → c1 g = a1 g) ∧ (∀ g, g ≠ f → c2 g = a2 g) ∧ (∀ i, i / 64 ≠ f → c3 i = a3 i) ∧ (∀ i, i / 64 ≠ f → c4 i = a4 i) ∧ (∀ i, i / 64 ≠ f → c5 i = a5 i) ∧ (∀ i, i / 64 ≠ f → c6 i = a6 i)
theorem qf_F_refl {f : Nat} {a1 a2 a3 a4 a5 a6 : Nat → Int32} : qf_F f a1 a2 a3 a4 a5 a6 a1 a2 a3 a4 a5 a6 := ⟨fun _ _ => rfl, fun _ _ => rfl, fun _ _ => rfl, fun _ _ => rfl, fun _ _ => rfl, fun _ _ => rfl⟩
theorem qf_F_tr {f : Nat} {a1 a2 a3 a4 a5 a6 c1 c2 c3 c4 c5 c6 e1 e2 e3 e4 e5 e6 : Nat → Int32} (h : qf_F f a1 a2 a3 a4 a5 a6 c1 c2 c3 c4 c5 c6) (k : qf_F f c1 c2 c3 c4 c5 c6 e1 e2 e3 e4 e5 e6) : qf_F f a1 a2 a3 a4 a5 a6 e1 e2 e3 e4 e5 e6 :=
  ⟨fun g hg => (k.1 g hg).trans (h.1 g hg), fun g hg => (k.2.1 g hg).trans (h.2.1 g hg), fun g hg => (k.2.2.1 g hg).trans (h.2.2.1 g hg), fun g hg => (k.2.2.2.1 g hg).trans (h.2.2.2.1 g hg), fun g hg => (k.2.2.2.2.1 g hg).trans (h.2.2.2.2.1 g hg), fun g hg => (k.2.2.2.2.2 g hg).trans (h.2.2.2.2.2 g hg)⟩
theorem qf_Q_fr {f g b n : Nat} {C : Nat → Nat} {a1 a2 a3 a4 a5 a6 c1 c2 c3 c4 c5 c6 : Nat → Int32} (hQ : qf_Q g b n C a1 a2 a3 a4 a5 a6) (hF : qf_F f a1 a2 a3 a4 a5 a6 c1 c2 c3 c4 c5 c6) (hg : g ≠ f) : qf_Q g b n C c1 c2 c3 c4 c5 c6 := by
  obtain ⟨z, d, e, ⟨⟨h1, h2, h3, h4, h5⟩, hH, A1, A2, A3, A4⟩, h6, h7, h8⟩ := hQ
  obtain ⟨F1, F2, F3, F4, F5, F6⟩ := hF
  have hm := qf_2b64 b h3
  have hix : ∀ t, (64 * g + qf_p (2 ^ b) z t) / 64 ≠ f := by
    intro t
    have h9 : qf_p (2 ^ b) z t < 2 ^ b := qf_p_lt (by omega)
    omega
  refine ⟨z, d, e, ⟨⟨h1, h2, h3, (F1 g hg).trans h4, h5⟩, hH, ?_, ?_, ?_, ?_⟩, (F2 g hg).trans h6, h7, h8⟩
  · intro t ht hd
    rw [F3 _ (hix t)]
    exact A1 t ht hd
  · intro t ht
    rw [F4 _ (hix t)]
    exact A2 t ht
  · intro t ht
    rw [F5 _ (hix t)]
    exact A3 t ht
  · intro t ht
    rw [F6 _ (hix t)]
    exact A4 t ht
theorem qf_Q_C {f b n : Nat} {C C' : Nat → Nat} {a1 a2 a3 a4 a5 a6 : Nat → Int32} (hQ : qf_Q f b n C a1 a2 a3 a4 a5 a6) (h : ∀ p, C p = C' p) : qf_Q f b n C' a1 a2 a3 a4 a5 a6 := by
  obtain ⟨z, d, e, h1, h2, h3, h4⟩ := hQ
  exact ⟨z, d, e, h1, h2, h3, fun p => (h4 p).trans (h p)⟩
theorem qf_oc_le {d : Nat → Nat} (t : Nat) : qf_oc d t ≤ 1 := by
  unfold qf_oc
  split <;> omega
theorem qf_L_n {f b z : Nat} {d e : Nat → Nat} {a1 a3 a4 a5 a6 : Nat → Int32} (h : qf_L f b z d e a1 a3 a4 a5 a6) : qf_S (qf_oc d) (2 ^ b) < 2 ^ b := by
  have hz : z < 2 ^ b := h.1.2.2.2.2
  have h1 : qf_S (qf_oc d) (1 + (2 ^ b - 1)) = qf_S (qf_oc d) 1 + qf_S (fun i => qf_oc d (1 + i)) (2 ^ b - 1) := qf_S_add _ _ _
  have h2 : qf_S (fun i => qf_oc d (1 + i)) (2 ^ b - 1) ≤ 2 ^ b - 1 := qf_S_le _ (fun i _ => qf_oc_le _)
  have h3 : qf_S (qf_oc d) 1 = 0 := by
    show 0 + qf_oc d 0 = 0
    rw [qf_oc_0 h.2.1.1]
  rw [show 1 + (2 ^ b - 1) = 2 ^ b by omega] at h1
  omega
theorem qf_Q_n {f b n : Nat} {C : Nat → Nat} {a1 a2 a3 a4 a5 a6 : Nat → Int32} (hQ : qf_Q f b n C a1 a2 a3 a4 a5 a6) : n < 2 ^ b := by
  obtain ⟨z, d, e, h1, h2, h3, h4⟩ := hQ
  rw [← h3]
  exact qf_L_n h1
end
section
/-! the small methods -/
section
variable {rc : Int32} {a1 a2 a3 a4 a5 a6 a7 : Nat → Int32} {f b z : Nat} {d e : Nat → Nat}
theorem qf_pl {t : Nat} (hb : b < 7) : qf_p (2 ^ b) z t < 64 := by
  have h1 := qf_2b64 b hb
  have h2 : qf_p (2 ^ b) z t < 2 ^ b := qf_p_lt (qf_2p b hb)
  omega
theorem qf_isFilter {post : Int32 → Prop} (hf : f < 2) (h : post 1) : wpX_isFilter post (rc, a1, a2, a3, a4, a5, a6, a7) (nI f) := by
  have h2 : f = 0 ∨ f = 1 := by omega
  rcases h2 with h2 | h2
  · subst h2
    exact br_t rfl h
  · subst h2
    exact br_f (by decide) (br_t rfl h)
theorem qf_slots {post : Int32 → Prop} (hf : f < 2) (hb : b < 7) (h1 : a1 f = nI b) (h : post (nI (2 ^ b))) : wpX_slots post (rc, a1, a2, a3, a4, a5, a6, a7) (nI f) := by
  refine And.intro (pk_in f 2 hf) ?_
  rw [nI_clamp (by omega), h1, qf_sl b (by omega)]
  exact h
theorem qf_after {post : Int32 → Prop} {s : Nat} (hf : f < 2) (hb : b < 7) (h1 : a1 f = nI b) (hs : s < 64) (h : post (nI ((s + 1) % 2 ^ b))) : wpX_after post (rc, a1, a2, a3, a4, a5, a6, a7) (nI f) (nI s) := by
  unfold wpX_after
  dsimp only
  refine qf_slots hf hb h1 ?_
  rw [qf_af b hb s hs]
  exact h
theorem qf_afterP {post : Int32 → Prop} {t : Nat} (hf : f < 2) (hb : b < 7) (h1 : a1 f = nI b) (h : post (nI (qf_p (2 ^ b) z (t + 1)))) : wpX_after post (rc, a1, a2, a3, a4, a5, a6, a7) (nI f) (nI (qf_p (2 ^ b) z t)) :=
  qf_after hf hb h1 (qf_pl hb) (by rw [qf_p_af]; exact h)
theorem qf_beforeP {post : Int32 → Prop} {t : Nat} (hf : f < 2) (hb : b < 7) (h1 : a1 f = nI b) (h : post (nI (qf_p (2 ^ b) z t))) : wpX_beforeSlot post (rc, a1, a2, a3, a4, a5, a6, a7) (nI f) (nI (qf_p (2 ^ b) z (t + 1))) := by
  unfold wpX_beforeSlot
  dsimp only
  refine qf_slots hf hb h1 ?_
  rw [qf_be b hb _ (qf_pl hb), qf_p_be (qf_2p b hb)]
  exact h
theorem qf_slotOf {post : Int32 → Prop} {p : Nat} (hf : f < 2) (hb : b < 7) (h1 : a1 f = nI b) (hp : p < 256) (h : post (nI (p / 2 ^ (8 - b)))) : wpX_slotOf post (rc, a1, a2, a3, a4, a5, a6, a7) (nI f) (nI p) := by
  refine And.intro (pk_in f 2 hf) ?_
  rw [nI_clamp (by omega), h1, qf_sh b hb p hp]
  exact h
theorem qf_lowerOf {post : Int32 → Prop} {p : Nat} (hf : f < 2) (hb : b < 7) (h1 : a1 f = nI b) (hp : p < 256) (h : post (nI (p % 2 ^ (8 - b)))) : wpX_lowerOf post (rc, a1, a2, a3, a4, a5, a6, a7) (nI f) (nI p) := by
  refine And.intro (pk_in f 2 hf) ?_
  rw [nI_clamp (by omega), h1, qf_lo b hb p hp]
  exact h
theorem qf_base {post : Int32 → Prop} (h : post (nI (64 * f))) : wpX_base post (rc, a1, a2, a3, a4, a5, a6, a7) (nI f) := by
  have e : (64 : Int32) * nI f = nI (64 * f) := pk_mul 64 f
  show post (64 * nI f)
  rw [e]
  exact h
/-- holds, over the three marks as they stand -/
theorem qf_holdsR {post : Int32 → Prop} {s : Nat} (hf : f < 2) (hs : s < 64) (h0 : a4 (64 * f + s) = 0 ∧ a5 (64 * f + s) = 0 ∧ a6 (64 * f + s) = 0 → post 0) (h1 : ¬ (a4 (64 * f + s) = 0 ∧ a5 (64 * f + s) = 0 ∧ a6 (64 * f + s) = 0) → post 1) : wpX_holds post (rc, a1, a2, a3, a4, a5, a6, a7) (nI f) (nI s) := by
  unfold wpX_holds
  dsimp only
  refine qf_base ?_
  refine nm_e ?_
  have hi := qf_in hf hs
  rw [qf_ix hf hs]
  refine And.intro hi (br_c (fun g4 => And.intro hi (br_c (fun g5 => And.intro hi (br_c (fun g6 => h0 ⟨g4, g5, g6⟩) (fun g6 => h1 (fun k => g6 k.2.2)))) (fun g5 => h1 (fun k => g5 k.2.1)))) (fun g4 => h1 (fun k => g4 k.1)))
theorem qf_isFreeR {post : Int32 → Prop} {s : Nat} (hf : f < 2) (hs : s < 64) (h0 : a4 (64 * f + s) = 0 ∧ a5 (64 * f + s) = 0 ∧ a6 (64 * f + s) = 0 → post 1) (h1 : ¬ (a4 (64 * f + s) = 0 ∧ a5 (64 * f + s) = 0 ∧ a6 (64 * f + s) = 0) → post 0) : wpX_isFree post (rc, a1, a2, a3, a4, a5, a6, a7) (nI f) (nI s) := by
  unfold wpX_isFree
  dsimp only
  exact qf_holdsR hf hs (fun h => br_t rfl (h0 h)) (fun h => br_f qf_10 (h1 h))
/-- the three marks of a place: all off where it is free -/
theorem qf_marks {m K t : Nat} (hm : 0 < m) (hH : qf_H m d) (hA : qf_A f m K z d e a3 a4 a5 a6) (ht : t ≤ m) : (a4 (64 * f + qf_p m z t) = 0 ∧ a5 (64 * f + qf_p m z t) = 0 ∧ a6 (64 * f + qf_p m z t) = 0) ↔ d t = 0 := by
  obtain ⟨A1, A2, A3, A4⟩ := hA
  have hdm : d m = 0 := hH.2.2 m (Nat.le_refl m)
  have m4 := qf_le_m A2 hm (qf_nm_0 hH) qf_nm_m t ht
  have m5 := qf_le_m A3 hm qf_co_0 (qf_co_z hdm) t ht
  have m6 := qf_le_m (p := fun t => 2 ≤ d t) A4 hm (by have := hH.1; omega) (by omega) t ht
  constructor
  · rintro ⟨h4, h5, h6⟩
    have n4 := (qf_fl_0 m4).mp h4
    have n6 : ¬ 2 ≤ d t := (qf_fl_0 m6).mp h6
    apply Classical.byContradiction
    intro hd
    have htm : t < m := by
      apply Classical.byContradiction
      intro hn
      exact hd (hH.2.2 t (by omega))
    exact n4 ⟨t, Nat.le_refl t, htm, by omega⟩
  · intro hd
    refine ⟨m4.2 ?_, m5.2 (qf_co_z hd), m6.2 (show ¬ 2 ≤ d t by omega)⟩
    intro hn
    have h1 := qf_nm_oc hH hn
    omega
theorem qf_isFree {post : Int32 → Prop} {t : Nat} (hL : qf_L f b z d e a1 a3 a4 a5 a6) (ht : t ≤ 2 ^ b) (h0 : d t = 0 → post 1) (h1 : 1 ≤ d t → post 0) : wpX_isFree post (rc, a1, a2, a3, a4, a5, a6, a7) (nI f) (nI (qf_p (2 ^ b) z t)) := by
  obtain ⟨⟨hf, hb1, hb, h4, hz⟩, hH, hA⟩ := hL
  have hk := qf_marks (by omega) hH hA ht
  exact qf_isFreeR hf (qf_pl hb) (fun h => h0 (hk.mp h)) (fun h => h1 (by
    apply Classical.byContradiction
    intro hn
    exact h (hk.mpr (by omega))))
end
end
section
/-! where a run begins -/
section
variable {rc : Int32} {a1 a2 a3 a4 a5 a6 a7 : Nat → Int32} {f b z : Nat} {d e : Nat → Nat}
theorem qf_rs85 {post : Int32 → Prop} {J : Int32 → Int32 → Prop} {x2 x5 : Int32} {nm : Nat → Prop} {q bt : Nat} (hf : f < 2) (hb : b < 7) (h1 : a1 f = nI b)
    (h4 : ∀ t, t < 2 ^ b → qf_fl (a4 (64 * f + qf_p (2 ^ b) z t)) (nm t)) (hq : q < 2 ^ b) (hnq : nm q) (hbt : bt < q)
    (H : ∀ c, bt < c → c ≤ q → nm c → (∀ v, bt < v → v < c → ¬ nm v) → J (nI (qf_p (2 ^ b) z c)) x5) :
    ∃ n, wX_runStart_85 post J (nI f) x2 (nI (64 * f)) x5 rc a1 a2 a3 a4 a5 a6 a7 n (nI (qf_p (2 ^ b) z (bt + 1))) := by
  refine loop_m (σ := Nat) (fun n c => wX_runStart_85 post J (nI f) x2 (nI (64 * f)) x5 rc a1 a2 a3 a4 a5 a6 a7 n (nI (qf_p (2 ^ b) z c))) (fun c => bt < c ∧ c ≤ q ∧ ∀ v, bt < v → v < c → ¬ nm v) (fun c => q - c) ?_ (bt + 1) ⟨by omega, by omega, fun v h1 h2 => absurd h2 (by omega)⟩
  intro n c hI hw
  obtain ⟨i1, i2, i3⟩ := hI
  refine And.intro (qf_in hf (qf_pl hb)) (qf_fl_br (qf_fx hf (qf_pl hb) (h4 c (by omega))) (fun hn => ?_) (fun hn => H c i1 i2 hn i3))
  have hcq : c ≠ q := by
    intro hc
    rw [hc] at hn
    exact hn hnq
  refine qf_afterP hf hb h1 (hw (c + 1) ⟨by omega, by omega, fun v v1 v2 => ?_⟩ (by omega))
  by_cases hv : v = c
  · rw [hv]; exact hn
  · exact i3 v v1 (by omega)
theorem qf_rs52 {post : Int32 → Prop} {J : Int32 → Int32 → Prop} {x2 x4 : Int32} {bt st : Nat} (hf : f < 2) (hb : b < 7) (h1 : a1 f = nI b) (hH : qf_H (2 ^ b) d)
    (h5 : ∀ t, t ≤ 2 ^ b → qf_fl (a5 (64 * f + qf_p (2 ^ b) z t)) (qf_co d t)) (hst : d st + bt = st + 1) (hbs : bt ≤ st) (hsm : st < 2 ^ b)
    (H : ∀ s, st < s → s ≤ 2 ^ b → (∀ u, st ≤ u → u < s → d u + bt = u + 1) → d s + bt ≤ s → wpX_after (fun r_8 => (∃ fu85 : Nat, wX_runStart_85 post J (nI f) x2 (nI (64 * f)) (nI (qf_p (2 ^ b) z s)) rc a1 a2 a3 a4 a5 a6 a7 fu85 r_8)) (rc, a1, a2, a3, a4, a5, a6, a7) (nI f) x4) :
    ∃ n, wX_runStart_52 post J (nI f) x2 (nI (64 * f)) x4 rc a1 a2 a3 a4 a5 a6 a7 n (nI (qf_p (2 ^ b) z (st + 1))) := by
  refine loop_m (σ := Nat) (fun n c => wX_runStart_52 post J (nI f) x2 (nI (64 * f)) x4 rc a1 a2 a3 a4 a5 a6 a7 n (nI (qf_p (2 ^ b) z c))) (fun s => st < s ∧ s ≤ 2 ^ b ∧ ∀ u, st ≤ u → u < s → d u + bt = u + 1) (fun s => 2 ^ b - s) ?_ (st + 1) ⟨by omega, by omega, fun u u1 u2 => ?_⟩
  · intro n s hI hw
    obtain ⟨i1, i2, i3⟩ := hI
    have hs1 := i3 (s - 1) (by omega) (by omega)
    have hs2 := hH.2.1 (s - 1)
    rw [show s - 1 + 1 = s by omega] at hs2
    refine And.intro (qf_in hf (qf_pl hb)) (qf_fl_br (qf_fx hf (qf_pl hb) (h5 s i2)) (fun hn => ?_) (fun hn => ?_))
    · refine H s i1 i2 i3 ?_
      apply Classical.byContradiction
      intro hc
      exact hn ⟨by omega, by omega, by omega⟩
    · obtain ⟨c1, c2, c3⟩ := hn
      have hsm2 : s ≠ 2 ^ b := by
        intro hc
        have := hH.2.2 s (by omega)
        omega
      refine qf_afterP hf hb h1 (hw (s + 1) ⟨by omega, by omega, fun u u1 u2 => ?_⟩ (by omega))
      by_cases hu : u = s
      · rw [hu]; omega
      · exact i3 u u1 (by omega)
  · rw [show u = st by omega]
    exact hst
/-- the run of q: the first place r at or behind q whose home isn't before q -/
theorem qf_runStart {post : Int32 → Prop} {nm : Nat → Prop} {q : Nat} (hf : f < 2) (hb : b < 7) (h1 : a1 f = nI b) (hz : z < 2 ^ b) (hH : qf_H (2 ^ b) d)
    (h4 : ∀ t, t < 2 ^ b → qf_fl (a4 (64 * f + qf_p (2 ^ b) z t)) (nm t)) (h5 : ∀ t, t < 2 ^ b → qf_fl (a5 (64 * f + qf_p (2 ^ b) z t)) (qf_co d t)) (h6 : ∀ t, t < 2 ^ b → qf_fl (a6 (64 * f + qf_p (2 ^ b) z t)) (2 ≤ d t))
    (hn1 : ∀ t, qf_nm (2 ^ b) d t → nm t) (hn2 : ∀ t, t < 2 ^ b → nm t → t ≠ q → qf_nm (2 ^ b) d t) (hnq : nm q) (hq : q < 2 ^ b) (hdq : 1 ≤ d q)
    (H : ∀ r, q ≤ r → r ≤ 2 ^ b → (∀ u, q ≤ u → u < r → u + 1 < q + d u) → q + d r ≤ r + 1 → post (nI (qf_p (2 ^ b) z r))) :
    wpX_runStart post (rc, a1, a2, a3, a4, a5, a6, a7) (nI f) (nI (qf_p (2 ^ b) z q)) := by
  unfold wpX_runStart
  dsimp only
  refine qf_base ?_
  have h5m := qf_le_m h5 (by omega) qf_co_0 (qf_co_z (hH.2.2 _ (Nat.le_refl _)))
  refine loop_m (σ := Nat) (fun n t => wX_runStart_9 post (nI f) (nI (qf_p (2 ^ b) z q)) (nI (64 * f)) rc a1 a2 a3 a4 a5 a6 a7 n (nI (qf_p (2 ^ b) z t))) (fun t => t ≤ q ∧ ∀ u, t ≤ u → u ≤ q → 1 ≤ d u) (fun t => t) ?_ q ⟨Nat.le_refl q, fun u u1 u2 => by rw [show u = q by omega]; exact hdq⟩
  intro n t hI hw
  obtain ⟨i1, i2⟩ := hI
  have hdt := i2 t (Nat.le_refl t) i1
  refine And.intro (qf_in hf (qf_pl hb)) (qf_fl_br (qf_fx hf (qf_pl hb) (h6 t (by omega))) (fun hn => ?_) (fun hn => ?_))
  · refine loop_m (σ := Nat × Nat) (fun n s => wX_runStart_37 post (nI f) (nI (qf_p (2 ^ b) z q)) (nI (64 * f)) rc a1 a2 a3 a4 a5 a6 a7 n (nI (qf_p (2 ^ b) z s.1)) (nI (qf_p (2 ^ b) z s.2))) (fun s => t ≤ s.1 ∧ s.1 ≤ q ∧ s.1 ≤ s.2 ∧ s.2 ≤ 2 ^ b ∧ (∀ u, s.1 ≤ u → u < s.2 → u + 1 < s.1 + d u) ∧ s.1 + d s.2 ≤ s.2 + 1 ∧ nm s.1 ∧ (s.1 ≠ q → qf_nm (2 ^ b) d s.1)) (fun s => q - s.1) ?_ (t, t) ?_
    · clear hw n
      rintro n ⟨bt, st⟩ hI hw
      dsimp only at hI
      obtain ⟨j1, j2, j3, j4, j5, j6, j7, j8⟩ := hI
      show wX_runStart_37 post (nI f) (nI (qf_p (2 ^ b) z q)) (nI (64 * f)) rc a1 a2 a3 a4 a5 a6 a7 (n + 1) (nI (qf_p (2 ^ b) z bt)) (nI (qf_p (2 ^ b) z st))
      have hl1 : qf_p (2 ^ b) z bt < 64 := qf_pl hb
      have hl2 : qf_p (2 ^ b) z q < 64 := qf_pl hb
      refine pk_eq (qf_p (2 ^ b) z bt) (qf_p (2 ^ b) z q) (fun he => ?_) (fun he => ?_)
      · have hbq : bt = q := qf_p_inj hz (by omega) hq he
        subst hbq
        exact H st j3 j4 j5 j6
      · have hbq : bt ≠ q := fun h => he (by rw [h])
        obtain ⟨u, u1, u2, u3⟩ := j8 hbq
        have hus : st ≤ u := by
          apply Classical.byContradiction
          intro hc
          have := j5 u u1 (by omega)
          omega
        have hms := qf_H_mo hH hus
        have hst : d st + bt = st + 1 := by omega
        refine qf_afterP hf hb h1 (qf_rs52 (bt := bt) (st := st) hf hb h1 hH h5m hst j3 (by omega) (fun s s1 s2 s3 s4 => ?_))
        refine qf_afterP hf hb h1 (qf_rs85 hf hb h1 h4 hq hnq (by omega) (fun c c1 c2 c3 c4 => ?_))
        have hmon : ∀ w, bt < w → w < c → ¬ qf_nm (2 ^ b) d w := fun w w1 w2 hw => c4 w w1 w2 (hn1 w hw)
        have hs1 : 1 ≤ d s → c ≤ s + 1 - d s := by
          intro hd
          apply Classical.byContradiction
          intro hc
          have hsl : s < 2 ^ b := by
            apply Classical.byContradiction
            intro hc2
            have := hH.2.2 s (by omega)
            omega
          have hle := qf_H_le hH s
          exact hmon (s + 1 - d s) (by omega) (by omega) ⟨s, by omega, hsl, by omega⟩
        have hcs : c ≤ s := by
          apply Classical.byContradiction
          intro hc
          have hd : 1 ≤ d s := i2 s (by omega) (by omega)
          have := hs1 hd
          omega
        refine hw (c, s) ⟨by omega, c2, hcs, s2, fun v v1 v2 => ?_, ?_, c3, fun hcq => hn2 c (by omega) c3 hcq⟩ (by show q - c < q - bt; omega)
        · dsimp only at v1 v2 ⊢
          by_cases hv : st ≤ v
          · have := s3 v hv v2
            omega
          · have := j5 v (by omega) (by omega)
            omega
        · dsimp only
          by_cases hd : 1 ≤ d s
          · have := hs1 hd
            have hle := qf_H_le hH s
            omega
          · omega
    · have hd1 : d t = 1 := by omega
      dsimp only
      have hnt : qf_nm (2 ^ b) d t := ⟨t, Nat.le_refl t, by omega, by omega⟩
      exact ⟨Nat.le_refl t, i1, Nat.le_refl t, by omega, fun u u1 u2 => absurd u2 (by omega), by omega, hn1 t hnt, fun _ => hnt⟩
  · have ht0 : t ≠ 0 := by
      intro hc
      rw [hc, hH.1] at hn
      omega
    obtain ⟨t', rfl⟩ : ∃ t', t = t' + 1 := ⟨t - 1, by omega⟩
    have hs := hH.2.1 t'
    refine qf_beforeP hf hb h1 (hw t' ⟨by omega, fun u u1 u2 => ?_⟩ (by omega))
    by_cases hu : u = t'
    · rw [hu]; omega
    · exact i2 u (by omega) u2
end
end
section
/-! how often a fingerprint is there -/
section
variable {rc : Int32} {a1 a2 a3 a4 a5 a6 a7 : Nat → Int32} {f b z : Nat} {d e : Nat → Nat}
/-- a place that holds p has the slot of p as its home -/
theorem qf_home {q p t : Nat} (hL : qf_L f b z d e a1 a3 a4 a5 a6) (ht : t < 2 ^ b) (hd : 1 ≤ d t) (hq : q < 2 ^ b) (hpq : qf_p (2 ^ b) z q = p / 2 ^ (8 - b)) (he : e t / 2 ^ (8 - b) = p / 2 ^ (8 - b)) : d t + q = t + 1 := by
  obtain ⟨⟨hf, hb1, hb, h4, hz⟩, hH, A1, A2, A3, A4⟩ := hL
  obtain ⟨e1, e2, e3⟩ := A1 t ht hd
  have hle := qf_H_le hH t
  have := qf_p_inj hz (show t + 1 - d t < 2 ^ b by omega) hq (by rw [← e2, he, hpq])
  omega
theorem qf_timesOf {post : Int32 → Prop} {p : Nat} (hL : qf_L f b z d e a1 a3 a4 a5 a6) (hp : p < 256) (H : post (nI (qf_S (qf_ct d e p) (2 ^ b)))) : wpX_timesOf post (rc, a1, a2, a3, a4, a5, a6, a7) (nI f) (nI p) := by
  have hL' := hL
  obtain ⟨⟨hf, hb1, hb, h1, hz⟩, hH, A1, A2, A3, A4⟩ := hL
  obtain ⟨hm1, hm2, hmK⟩ := qf_2b b hb hb1
  obtain ⟨hK1, hK2⟩ := qf_2K b hb hb1
  have hsl : p / 2 ^ (8 - b) < 2 ^ b := Nat.div_lt_of_lt_mul (by rw [Nat.mul_comm]; omega)
  obtain ⟨q, hq, hpq⟩ := qf_p_surj hz hsl
  have hpl : p % 2 ^ (8 - b) < 2 ^ (8 - b) := Nat.mod_lt _ hK2
  unfold wpX_timesOf
  dsimp only
  refine qf_slotOf hf hb h1 hp (qf_lowerOf hf hb h1 hp (qf_base ?_))
  rw [← hpq]
  refine And.intro (qf_in hf (qf_pl hb)) (qf_fl_br (qf_fx hf (qf_pl hb) (A2 q hq)) (fun hn => ?_) (fun hn => ?_))
  · have h0 : qf_S (qf_ct d e p) (2 ^ b) = 0 := by
      apply qf_S_zero
      intro t ht
      apply qf_ct_0
      rintro ⟨g1, g2⟩
      have := qf_home hL' ht g1 hq hpq (by rw [g2])
      exact hn ⟨t, by omega, ht, this⟩
    rw [h0] at H
    exact H
  · have hdq := qf_nm_oc hH hn
    have h5m := qf_le_m A3 (by omega) qf_co_0 (qf_co_z (hH.2.2 _ (Nat.le_refl _)))
    refine qf_runStart hf hb h1 hz hH A2 A3 A4 (fun _ h => h) (fun _ _ h _ => h) hn hq hdq (fun r r1 r2 r3 r4 => ?_)
    obtain ⟨u, u1, u2, u3⟩ := hn
    have hur : r ≤ u := by
      apply Classical.byContradiction
      intro hc
      have := r3 u u1 (by omega)
      omega
    have hmr := qf_H_mo hH hur
    have hr : d r + q = r + 1 := by omega
    have hS0 : qf_S (qf_ct d e p) r = 0 := by
      apply qf_S_zero
      intro t ht
      apply qf_ct_0
      rintro ⟨g1, g2⟩
      have h8 := qf_home hL' (by omega) g1 hq hpq (by rw [g2])
      by_cases htq : q ≤ t
      · have := r3 t htq ht
        omega
      · omega
    refine Exists.elim (loop_m (σ := Nat × Int32) (fun n s => wX_timesOf_46 post (nI f) (nI (p % 2 ^ (8 - b))) rc a1 a2 a3 a4 a5 a6 a7 n (nI (qf_p (2 ^ b) z s.1)) (nI (qf_S (qf_ct d e p) s.1)) s.2) (fun s => r ≤ s.1 ∧ s.1 ≤ 2 ^ b ∧ d s.1 + q ≤ s.1 + 1 ∧ qf_fl s.2 (d s.1 + q = s.1 + 1)) (fun s => 2 ^ b - s.1) ?_ (r, 1) ?_) (fun n hn => ?_)
    · rintro n ⟨s, x7⟩ hI hw
      dsimp only at hI
      obtain ⟨i1, i2, i3, i4⟩ := hI
      show wX_timesOf_46 post (nI f) (nI (p % 2 ^ (8 - b))) rc a1 a2 a3 a4 a5 a6 a7 (n + 1) (nI (qf_p (2 ^ b) z s)) (nI (qf_S (qf_ct d e p) s)) x7
      refine qf_fl_br i4 (fun hn => ?_) (fun hn => ?_)
      · have hS1 : qf_S (qf_ct d e p) (2 ^ b) = qf_S (qf_ct d e p) s := by
          apply qf_S_ext i2
          intro t t1 t2
          apply qf_ct_0
          rintro ⟨g1, g2⟩
          have h8 := qf_home hL' t2 g1 hq hpq (by rw [g2])
          have h9 := qf_H_mo hH t1
          omega
        rw [hS1] at H
        exact H
      · have hds : 1 ≤ d s := by omega
        have hsm : s < 2 ^ b := by
          apply Classical.byContradiction
          intro hc
          have := hH.2.2 s (by omega)
          omega
        obtain ⟨e1, e2, e3⟩ := A1 s hsm hds
        have hes : e s / 2 ^ (8 - b) = p / 2 ^ (8 - b) := by
          rw [e2, ← hpq, show s + 1 - d s = q by omega]
        have hel : e s % 2 ^ (8 - b) < 2 ^ (8 - b) := Nat.mod_lt _ hK2
        have hstep := hH.2.1 s
        have hflag : qf_fl (a5 (64 * f + qf_p (2 ^ b) z (s + 1))) (d (s + 1) + q = s + 1 + 1) := by
          refine qf_fl_iff (h5m (s + 1) (by omega)) ⟨fun h => ?_, fun h => ?_⟩
          · have h8 := h.2.2
            rw [show s + 1 - 1 = s by omega] at h8
            omega
          · refine ⟨by omega, ?_, ?_⟩
            · rw [show s + 1 - 1 = s by omega]
              exact hds
            · rw [show s + 1 - 1 = s by omega]
              omega
        have key : ∀ y : Nat, y = qf_S (qf_ct d e p) (s + 1) → wX_timesOf_72 post (wX_timesOf_46 post (nI f) (nI (p % 2 ^ (8 - b))) rc a1 a2 a3 a4 a5 a6 a7 n) (nI f) (nI (p % 2 ^ (8 - b))) (nI (qf_p (2 ^ b) z s)) (nI y) rc a1 a2 a3 a4 a5 a6 a7 := by
          intro y hy
          rw [hy]
          unfold wX_timesOf_72
          refine qf_afterP hf hb h1 (qf_base ?_)
          refine And.intro (qf_in hf (qf_pl hb)) (nm_r (by rw [qf_ix hf (qf_pl hb)]) ?_)
          exact hw (s + 1, a5 (64 * f + qf_p (2 ^ b) z (s + 1))) ⟨by dsimp only; omega, by dsimp only; omega, by dsimp only; omega, hflag⟩ (by dsimp only; omega)
        have hS2 : qf_S (qf_ct d e p) (s + 1) = qf_S (qf_ct d e p) s + qf_ct d e p s := rfl
        refine qf_base ?_
        refine And.intro (qf_in hf (qf_pl hb)) ?_
        rw [qf_ix hf (qf_pl hb), e3]
        refine pk_eq (e s % 2 ^ (8 - b)) (p % 2 ^ (8 - b)) (fun he => ?_) (fun he => ?_)
        · have hep : e s = p := by
            rw [← Nat.div_add_mod (e s) (2 ^ (8 - b)), ← Nat.div_add_mod p (2 ^ (8 - b)), hes, he]
          refine nm_r (nI_1 _) (key _ ?_)
          rw [hS2, qf_ct_1 ⟨hds, hep⟩]
        · refine key _ ?_
          rw [hS2, qf_ct_0 (fun h => he (by rw [h.2]))]
          rfl
    · dsimp only
      exact ⟨Nat.le_refl r, r2, by omega, qf_fl_t hr⟩
    · dsimp only at hn
      rw [hS0] at hn
      exact ⟨n, hn⟩
end
end
section
/-! pushing along to the next free place -/
def qf_T (i : Nat) (x : Int32) (g : Nat → Int32) (u : Nat) : Int32 := if u = i then x else g (u - 1)
theorem qf_T_i {i : Nat} {x : Int32} {g : Nat → Int32} : qf_T i x g i = x := if_pos rfl
theorem qf_T_n {i u : Nat} {x : Int32} {g : Nat → Int32} (h : u ≠ i) : qf_T i x g u = g (u - 1) := if_neg h
section
variable {rc : Int32} {a1 a2 a3 a4 a5 a6 a7 : Nat → Int32} {f b z : Nat} {d e : Nat → Nat}
theorem qf_push {post : St1 → Prop} {i k : Nat} {x8 x9 x10 : Int32} (hf : f < 2) (hb : b < 7) (h1 : a1 f = nI b) (hz : z < 2 ^ b) (hik : i ≤ k) (hk : k < 2 ^ b)
    (ho : ∀ t, i ≤ t → t < k → ¬ (a4 (64 * f + qf_p (2 ^ b) z t) = 0 ∧ a5 (64 * f + qf_p (2 ^ b) z t) = 0 ∧ a6 (64 * f + qf_p (2 ^ b) z t) = 0))
    (hfr : a4 (64 * f + qf_p (2 ^ b) z k) = 0 ∧ a5 (64 * f + qf_p (2 ^ b) z k) = 0 ∧ a6 (64 * f + qf_p (2 ^ b) z k) = 0)
    (h3 : ∀ t, i ≤ t → t < k → (a3 (64 * f + qf_p (2 ^ b) z t)).toInt8.toInt32 = a3 (64 * f + qf_p (2 ^ b) z t))
    (h5 : ∀ t, i ≤ t → t < k → a5 (64 * f + qf_p (2 ^ b) z t) = 0 ∨ a5 (64 * f + qf_p (2 ^ b) z t) = 1)
    (hx8 : x8.toInt8.toInt32 = x8) (hx9 : x9 = 0 ∨ x9 = 1) (hx10 : x10 = 0 ∨ x10 = 1)
    (H : ∀ c3 c5 c6 : Nat → Int32,
      (∀ u, i ≤ u → u ≤ k → c3 (64 * f + qf_p (2 ^ b) z u) = qf_T i x8 (fun t => a3 (64 * f + qf_p (2 ^ b) z t)) u ∧ c5 (64 * f + qf_p (2 ^ b) z u) = qf_T i x9 (fun t => a5 (64 * f + qf_p (2 ^ b) z t)) u ∧ c6 (64 * f + qf_p (2 ^ b) z u) = qf_T i x10 (fun _ => 1) u) →
      (∀ u, u < 2 ^ b → u < i ∨ k < u → c3 (64 * f + qf_p (2 ^ b) z u) = a3 (64 * f + qf_p (2 ^ b) z u) ∧ c5 (64 * f + qf_p (2 ^ b) z u) = a5 (64 * f + qf_p (2 ^ b) z u) ∧ c6 (64 * f + qf_p (2 ^ b) z u) = a6 (64 * f + qf_p (2 ^ b) z u)) →
      (∀ j, j / 64 ≠ f → c3 j = a3 j ∧ c5 j = a5 j ∧ c6 j = a6 j) → post (rc, a1, a2, c3, a4, c5, c6, a7)) :
    wpX_push post (rc, a1, a2, a3, a4, a5, a6, a7) (nI f) (nI (qf_p (2 ^ b) z i)) x8 x9 x10 := by
  unfold wpX_push
  dsimp only
  refine qf_base ?_
  have hX : ∀ t, (64 * f + qf_p (2 ^ b) z t) / 64 = f := by
    intro t
    have := qf_pl (z := z) (t := t) hb
    omega
  have hXi : ∀ t u, t < 2 ^ b → u < 2 ^ b → t ≠ u → 64 * f + qf_p (2 ^ b) z t ≠ 64 * f + qf_p (2 ^ b) z u := by
    intro t u ht hu hn he
    exact hn (qf_p_inj hz ht hu (by omega))
  refine Exists.elim (loop_m (σ := Nat × (Nat → Int32) × (Nat → Int32) × (Nat → Int32)) (fun n s => wX_push_24 post (nI f) (nI (64 * f)) rc n (nI (qf_p (2 ^ b) z s.1)) (qf_T i x8 (fun t => a3 (64 * f + qf_p (2 ^ b) z t)) s.1) (qf_T i x9 (fun t => a5 (64 * f + qf_p (2 ^ b) z t)) s.1) (qf_T i x10 (fun _ => 1) s.1) (if s.1 ≤ k then 1 else 0) a1 a2 s.2.1 a4 s.2.2.1 s.2.2.2 a7)
    (fun s => i ≤ s.1 ∧ s.1 ≤ k + 1 ∧
      (∀ u, i ≤ u → u < s.1 → s.2.1 (64 * f + qf_p (2 ^ b) z u) = qf_T i x8 (fun t => a3 (64 * f + qf_p (2 ^ b) z t)) u ∧ s.2.2.1 (64 * f + qf_p (2 ^ b) z u) = qf_T i x9 (fun t => a5 (64 * f + qf_p (2 ^ b) z t)) u ∧ s.2.2.2 (64 * f + qf_p (2 ^ b) z u) = qf_T i x10 (fun _ => 1) u) ∧
      (∀ u, u < 2 ^ b → u < i ∨ s.1 ≤ u → s.2.1 (64 * f + qf_p (2 ^ b) z u) = a3 (64 * f + qf_p (2 ^ b) z u) ∧ s.2.2.1 (64 * f + qf_p (2 ^ b) z u) = a5 (64 * f + qf_p (2 ^ b) z u) ∧ s.2.2.2 (64 * f + qf_p (2 ^ b) z u) = a6 (64 * f + qf_p (2 ^ b) z u)) ∧
      (∀ j, j / 64 ≠ f → s.2.1 j = a3 j ∧ s.2.2.1 j = a5 j ∧ s.2.2.2 j = a6 j)) (fun s => k + 1 - s.1) ?_ (i, a3, a5, a6) ?_) (fun n hn => ?_)
  · rintro n ⟨t, c3, c5, c6⟩ hI hw
    dsimp only at hI
    obtain ⟨i1, i2, i3, i4, i5⟩ := hI
    show wX_push_24 post (nI f) (nI (64 * f)) rc (n + 1) (nI (qf_p (2 ^ b) z t)) (qf_T i x8 (fun t => a3 (64 * f + qf_p (2 ^ b) z t)) t) (qf_T i x9 (fun t => a5 (64 * f + qf_p (2 ^ b) z t)) t) (qf_T i x10 (fun _ => 1) t) (if t ≤ k then 1 else 0) a1 a2 c3 a4 c5 c6 a7
    by_cases htk : t ≤ k
    · refine br_f (by rw [if_pos htk]; exact qf_10) ?_
      obtain ⟨o3, o5, o6⟩ := i4 t (by omega) (Or.inr (Nat.le_refl t))
      have hT8 : (qf_T i x8 (fun t => a3 (64 * f + qf_p (2 ^ b) z t)) t).toInt8.toInt32 = qf_T i x8 (fun t => a3 (64 * f + qf_p (2 ^ b) z t)) t := by
        by_cases hti : t = i
        · rw [hti, qf_T_i]
          exact hx8
        · rw [qf_T_n hti]
          exact h3 (t - 1) (by omega) (by omega)
      have hT9 : vp_nar .boolean (qf_T i x9 (fun t => a5 (64 * f + qf_p (2 ^ b) z t)) t) = qf_T i x9 (fun t => a5 (64 * f + qf_p (2 ^ b) z t)) t := by
        apply qf_nar01
        by_cases hti : t = i
        · rw [hti, qf_T_i]
          exact hx9
        · rw [qf_T_n hti]
          exact h5 (t - 1) (by omega) (by omega)
      have hT10 : vp_nar .boolean (qf_T i x10 (fun _ => 1) t) = qf_T i x10 (fun _ => 1) t := by
        apply qf_nar01
        by_cases hti : t = i
        · rw [hti, qf_T_i]
          exact hx10
        · rw [qf_T_n hti]
          exact Or.inr rfl
      have e3 : c3 (64 * f + qf_p (2 ^ b) z t) = qf_T i x8 (fun t => a3 (64 * f + qf_p (2 ^ b) z t)) (t + 1) := by
        rw [qf_T_n (by omega), o3, show t + 1 - 1 = t by omega]
      have e5 : c5 (64 * f + qf_p (2 ^ b) z t) = qf_T i x9 (fun t => a5 (64 * f + qf_p (2 ^ b) z t)) (t + 1) := by
        rw [qf_T_n (by omega), o5, show t + 1 - 1 = t by omega]
      have e6 : qf_T i x10 (fun _ => 1) (t + 1) = 1 := qf_T_n (by omega)
      have nxt := hw (t + 1, upd c3 (64 * f + qf_p (2 ^ b) z t) (qf_T i x8 (fun t => a3 (64 * f + qf_p (2 ^ b) z t)) t), upd c5 (64 * f + qf_p (2 ^ b) z t) (qf_T i x9 (fun t => a5 (64 * f + qf_p (2 ^ b) z t)) t), upd c6 (64 * f + qf_p (2 ^ b) z t) (qf_T i x10 (fun _ => 1) t))
        (by
          dsimp only
          refine ⟨by omega, by omega, fun u u1 u2 => ?_, fun u u1 u2 => ?_, fun j hj => ?_⟩
          · by_cases hu : u = t
            · rw [hu, pk_us, pk_us, pk_us]
              exact ⟨rfl, rfl, rfl⟩
            · have hne := hXi u t (by omega) (by omega) hu
              rw [pk_un hne, pk_un hne, pk_un hne]
              exact i3 u u1 (by omega)
          · have hne := hXi u t (by omega) (by omega) (by omega)
            rw [pk_un hne, pk_un hne, pk_un hne]
            exact i4 u u1 (by omega)
          · have hne : j ≠ 64 * f + qf_p (2 ^ b) z t := by
              intro hc
              rw [hc] at hj
              exact hj (hX t)
            rw [pk_un hne, pk_un hne, pk_un hne]
            exact i5 j hj)
        (by dsimp only; omega)
      dsimp only at nxt
      rw [e6] at nxt
      have hi := qf_in hf (qf_pl (z := z) (t := t) hb)
      have key : ∀ r : Int32, r = (if t + 1 ≤ k then 1 else 0) → (vp_in (nI (64 * f) + nI (qf_p (2 ^ b) z t)) 128 ∧ (∀ x12_5 : Int32, x12_5 = c3 (nI (64 * f) + nI (qf_p (2 ^ b) z t)).toNatClampNeg → (vp_in (nI (64 * f) + nI (qf_p (2 ^ b) z t)) 128 ∧ (∀ x13_7 : Int32, x13_7 = c5 (nI (64 * f) + nI (qf_p (2 ^ b) z t)).toNatClampNeg → (vp_in (nI (64 * f) + nI (qf_p (2 ^ b) z t)) 128 ∧ ∀ a3_9 : Nat → Int32, a3_9 = upd c3 (nI (64 * f) + nI (qf_p (2 ^ b) z t)).toNatClampNeg (qf_T i x8 (fun t => a3 (64 * f + qf_p (2 ^ b) z t)) t).toInt8.toInt32 → (vp_in (nI (64 * f) + nI (qf_p (2 ^ b) z t)) 128 ∧ ∀ a5_11 : Nat → Int32, a5_11 = upd c5 (nI (64 * f) + nI (qf_p (2 ^ b) z t)).toNatClampNeg (vp_nar .boolean (qf_T i x9 (fun t => a5 (64 * f + qf_p (2 ^ b) z t)) t)) → (vp_in (nI (64 * f) + nI (qf_p (2 ^ b) z t)) 128 ∧ ∀ a6_13 : Nat → Int32, a6_13 = upd c6 (nI (64 * f) + nI (qf_p (2 ^ b) z t)).toNatClampNeg (vp_nar .boolean (qf_T i x10 (fun _ => 1) t)) → (wpX_after (fun r_14 => (wX_push_24 post (nI f) (nI (64 * f)) rc n r_14 x12_5 x13_7 1 r a1 a2 a3_9 a4 a5_11 a6_13 a7)) (rc, a1, a2, a3_9, a4, a5_11, a6_13, a7) (nI f) (nI (qf_p (2 ^ b) z t)))))))))) := by
        intro r hr
        rw [qf_ix hf (qf_pl hb), hT8, hT9, hT10, e3, e5, hr]
        refine And.intro hi (nm_e (And.intro hi (nm_e (And.intro hi (nm_e (And.intro hi (nm_e (And.intro hi (nm_e (qf_afterP hf hb h1 nxt))))))))))
      refine qf_holdsR hf (qf_pl hb) (fun h => key 0 ?_) (fun h => key 1 ?_)
      · rw [o5, o6] at h
        rw [if_neg (fun hc => ho t i1 (by omega) h)]
      · rw [o5, o6] at h
        have htk2 : t ≠ k := by
          intro hc
          rw [hc] at h
          exact h hfr
        rw [if_pos (by omega)]
    · refine br_t (if_neg htk) (H c3 c5 c6 (fun u u1 u2 => i3 u u1 (by omega)) (fun u u1 u2 => i4 u u1 (by omega)) i5)
  · dsimp only
    exact ⟨Nat.le_refl i, by omega, fun u u1 u2 => absurd u2 (by omega), fun u u1 u2 => ⟨rfl, rfl, rfl⟩, fun j hj => ⟨rfl, rfl, rfl⟩⟩
  · dsimp only at hn
    rw [qf_T_i, qf_T_i, qf_T_i, if_pos hik] at hn
    exact ⟨n, hn⟩
end
end
section
/-! the picture after one more fingerprint -/
def qf_dI (i k v : Nat) (d : Nat → Nat) (t : Nat) : Nat := if t < i then d t else if t = i then v else if t ≤ k then d (t - 1) + 1 else d t
def qf_eI (i k v : Nat) (e : Nat → Nat) (t : Nat) : Nat := if t < i then e t else if t = i then v else if t ≤ k then e (t - 1) else e t
section
variable {i k v t : Nat} {d e : Nat → Nat}
theorem qf_dI_lo (h : t < i) : qf_dI i k v d t = d t := if_pos h
theorem qf_dI_at : qf_dI i k v d i = v := by
  unfold qf_dI
  rw [if_neg (by omega), if_pos rfl]
theorem qf_dI_mid (h : i < t) (h2 : t ≤ k) : qf_dI i k v d t = d (t - 1) + 1 := by
  unfold qf_dI
  rw [if_neg (by omega), if_neg (by omega), if_pos h2]
theorem qf_dI_hi (h : i < t) (h2 : k < t) : qf_dI i k v d t = d t := by
  unfold qf_dI
  rw [if_neg (by omega), if_neg (by omega), if_neg (by omega)]
theorem qf_eI_lo (h : t < i) : qf_eI i k v e t = e t := if_pos h
theorem qf_eI_at : qf_eI i k v e i = v := by
  unfold qf_eI
  rw [if_neg (by omega), if_pos rfl]
theorem qf_eI_mid (h : i < t) (h2 : t ≤ k) : qf_eI i k v e t = e (t - 1) := by
  unfold qf_eI
  rw [if_neg (by omega), if_neg (by omega), if_pos h2]
theorem qf_eI_hi (h : i < t) (h2 : k < t) : qf_eI i k v e t = e t := by
  unfold qf_eI
  rw [if_neg (by omega), if_neg (by omega), if_neg (by omega)]
end
section
variable {m q i k : Nat} {d : Nat → Nat}
theorem qf_HI (hH : qf_H m d) (hq1 : 1 ≤ q) (hqi : q ≤ i) (hik : i ≤ k) (hk : k < m) (hdk : d k = 0) (hi1 : i ≤ q ∨ i ≤ q + d (i - 1)) (hi2 : q + d i ≤ i + 1) : qf_H m (qf_dI i k (i + 1 - q) d) := by
  refine ⟨?_, fun t => ?_, fun t ht => ?_⟩
  · rw [qf_dI_lo (by omega)]
    exact hH.1
  · have hs := hH.2.1 t
    by_cases c1 : t + 1 < i
    · rw [qf_dI_lo c1, qf_dI_lo (by omega)]
      exact hs
    · by_cases c2 : t + 1 = i
      · have e1 : qf_dI i k (i + 1 - q) d (t + 1) = i + 1 - q := by rw [c2]; exact qf_dI_at
        rw [e1, qf_dI_lo (by omega)]
        rw [show i - 1 = t by omega] at hi1
        omega
      · by_cases c3 : t + 1 ≤ k
        · rw [qf_dI_mid (by omega) c3, show t + 1 - 1 = t by omega]
          by_cases c4 : t = i
          · rw [c4, qf_dI_at]
            omega
          · rw [qf_dI_mid (by omega) (by omega)]
            have hs2 := hH.2.1 (t - 1)
            rw [show t - 1 + 1 = t by omega] at hs2
            omega
        · rw [qf_dI_hi (by omega) (by omega)]
          by_cases c5 : t = k
          · rw [c5] at hs ⊢
            omega
          · rw [qf_dI_hi (by omega) (by omega)]
            exact hs
  · rw [qf_dI_hi (by omega) (by omega)]
    exact hH.2.2 t ht
theorem qf_nmI (hH : qf_H m d) (hqi : q ≤ i) (hik : i ≤ k) (hk : k < m) (hdk : d k = 0) (hoc : ∀ t, q ≤ t → t < k → 1 ≤ d t) {t : Nat} : (qf_nm m d t ∨ t = q) ↔ qf_nm m (qf_dI i k (i + 1 - q) d) t := by
  constructor
  · rintro (⟨u, u1, u2, u3⟩ | ht)
    · by_cases c1 : u < i
      · exact ⟨u, u1, u2, by rw [qf_dI_lo c1]; exact u3⟩
      · by_cases c2 : u < k
        · refine ⟨u + 1, by omega, by omega, ?_⟩
          rw [qf_dI_mid (by omega) (by omega), show u + 1 - 1 = u by omega]
          omega
        · by_cases c3 : u = k
          · rw [c3] at u3 u1
            omega
          · exact ⟨u, u1, u2, by rw [qf_dI_hi (by omega) (by omega)]; exact u3⟩
    · refine ⟨i, by omega, by omega, ?_⟩
      rw [qf_dI_at]
      omega
  · rintro ⟨u, u1, u2, u3⟩
    by_cases c1 : u < i
    · rw [qf_dI_lo c1] at u3
      exact Or.inl ⟨u, u1, u2, u3⟩
    · by_cases c2 : u = i
      · rw [c2, qf_dI_at] at u3
        exact Or.inr (by omega)
      · by_cases c3 : u ≤ k
        · rw [qf_dI_mid (by omega) c3] at u3
          have := hoc (u - 1) (by omega) (by omega)
          exact Or.inl ⟨u - 1, by omega, by omega, by omega⟩
        · rw [qf_dI_hi (by omega) (by omega)] at u3
          exact Or.inl ⟨u, u1, u2, u3⟩
end
section
variable {a1 a3 a4 a5 a6 c3 c4 c5 c6 : Nat → Int32} {f b z p q i k : Nat} {d e : Nat → Nat}
theorem qf_ins_L (hL : qf_L f b z d e a1 a3 a4 a5 a6) (hp : p < 256) (hpq : qf_p (2 ^ b) z q = p / 2 ^ (8 - b)) (hq1 : 1 ≤ q) (hqi : q ≤ i) (hik : i ≤ k) (hk : k < 2 ^ b) (hdk : d k = 0)
    (hoc : ∀ t, q ≤ t → t < k → 1 ≤ d t) (hi1 : i ≤ q ∨ i ≤ q + d (i - 1)) (hi2 : q + d i ≤ i + 1)
    (h3 : ∀ u, i ≤ u → u ≤ k → c3 (64 * f + qf_p (2 ^ b) z u) = qf_T i (nI (p % 2 ^ (8 - b))) (fun t => a3 (64 * f + qf_p (2 ^ b) z t)) u)
    (h3o : ∀ u, u < 2 ^ b → u < i ∨ k < u → c3 (64 * f + qf_p (2 ^ b) z u) = a3 (64 * f + qf_p (2 ^ b) z u))
    (h4 : ∀ u, u < 2 ^ b → qf_fl (c4 (64 * f + qf_p (2 ^ b) z u)) (qf_nm (2 ^ b) d u ∨ u = q))
    (h5i : qf_fl (c5 (64 * f + qf_p (2 ^ b) z i)) (1 ≤ d (i - 1) ∧ i = q + d (i - 1)))
    (h5n : i < k → qf_fl (c5 (64 * f + qf_p (2 ^ b) z (i + 1))) (d i + q = i + 1))
    (h5m : ∀ u, i + 1 < u → u ≤ k → c5 (64 * f + qf_p (2 ^ b) z u) = a5 (64 * f + qf_p (2 ^ b) z (u - 1)))
    (h5o : ∀ u, u < 2 ^ b → u < i ∨ k < u → c5 (64 * f + qf_p (2 ^ b) z u) = a5 (64 * f + qf_p (2 ^ b) z u))
    (h6i : qf_fl (c6 (64 * f + qf_p (2 ^ b) z i)) (i ≠ q))
    (h6m : ∀ u, i < u → u ≤ k → c6 (64 * f + qf_p (2 ^ b) z u) = 1)
    (h6o : ∀ u, u < 2 ^ b → u < i ∨ k < u → c6 (64 * f + qf_p (2 ^ b) z u) = a6 (64 * f + qf_p (2 ^ b) z u)) :
    ∃ d' e', qf_L f b z d' e' a1 c3 c4 c5 c6 ∧ qf_S (qf_oc d') (2 ^ b) = qf_S (qf_oc d) (2 ^ b) + 1 ∧ ∀ x, qf_S (qf_ct d' e' x) (2 ^ b) = qf_S (qf_ct d e x) (2 ^ b) + if x = p then 1 else 0 := by
  obtain ⟨hbase, hH, A1, A2, A3, A4⟩ := hL
  have hH' := qf_HI hH hq1 hqi hik hk hdk hi1 hi2
  refine ⟨qf_dI i k (i + 1 - q) d, qf_eI i k p e, ⟨hbase, hH', ?_, ?_, ?_, ?_⟩, ?_, ?_⟩
  · intro t ht hd
    by_cases c1 : t < i
    · rw [qf_dI_lo c1] at hd ⊢
      rw [qf_eI_lo c1, h3o t ht (Or.inl c1)]
      exact A1 t ht hd
    · by_cases c2 : t = i
      · subst c2
        rw [qf_dI_at, qf_eI_at, h3 t (Nat.le_refl t) hik, qf_T_i, show t + 1 - (t + 1 - q) = q by omega]
        exact ⟨hp, hpq.symm, rfl⟩
      · by_cases c3 : t ≤ k
        · have hd1 := hoc (t - 1) (by omega) (by omega)
          obtain ⟨e1, e2, e3⟩ := A1 (t - 1) (by omega) hd1
          rw [qf_dI_mid (by omega) c3, qf_eI_mid (by omega) c3, h3 t (by omega) c3, qf_T_n (by omega)]
          refine ⟨e1, ?_, e3⟩
          rw [e2, show t - 1 + 1 - d (t - 1) = t + 1 - (d (t - 1) + 1) by omega]
        · rw [qf_dI_hi (by omega) (by omega)] at hd ⊢
          rw [qf_eI_hi (by omega) (by omega), h3o t ht (Or.inr (by omega))]
          exact A1 t ht hd
  · intro t ht
    exact qf_fl_iff (h4 t ht) (qf_nmI hH hqi hik hk hdk hoc)
  · intro t ht
    by_cases c1 : t < i
    · rw [h5o t ht (Or.inl c1)]
      refine qf_fl_iff (A3 t ht) ?_
      unfold qf_co
      rw [qf_dI_lo c1, qf_dI_lo (by omega)]
    · by_cases c2 : t = i
      · subst c2
        refine qf_fl_iff h5i ?_
        unfold qf_co
        rw [qf_dI_at, qf_dI_lo (by omega)]
        constructor
        · exact fun h => ⟨by omega, h.1, by omega⟩
        · exact fun h => ⟨h.2.1, by omega⟩
      · by_cases c3 : t ≤ k
        · by_cases c4 : t = i + 1
          · subst c4
            refine qf_fl_iff (h5n (by omega)) ?_
            unfold qf_co
            rw [qf_dI_mid (by omega) c3, show i + 1 - 1 = i by omega, qf_dI_at]
            constructor
            · exact fun h => ⟨by omega, by omega, by omega⟩
            · exact fun h => by omega
          · rw [h5m t (by omega) c3]
            refine qf_fl_iff (A3 (t - 1) (by omega)) ?_
            unfold qf_co
            rw [qf_dI_mid (by omega) c3, qf_dI_mid (by omega) (by omega)]
            have := hoc (t - 1 - 1) (by omega) (by omega)
            constructor
            · exact fun h => ⟨by omega, by omega, by omega⟩
            · exact fun h => ⟨by omega, by omega, by omega⟩
        · rw [h5o t ht (Or.inr (by omega))]
          refine qf_fl_iff (A3 t ht) ?_
          by_cases c5 : t = k + 1
          · subst c5
            have hs := hH.2.1 k
            have e1 : 1 ≤ qf_dI i k (i + 1 - q) d k := by
              by_cases c6 : k = i
              · subst c6
                rw [qf_dI_at]
                omega
              · rw [qf_dI_mid (by omega) (Nat.le_refl k)]
                omega
            unfold qf_co
            rw [show k + 1 - 1 = k by omega, qf_dI_hi (show i < k + 1 by omega) (by omega)]
            constructor
            · intro h
              omega
            · intro h
              omega
          · unfold qf_co
            rw [qf_dI_hi (by omega) (by omega), qf_dI_hi (by omega) (by omega)]
  · intro t ht
    by_cases c1 : t < i
    · rw [h6o t ht (Or.inl c1), qf_dI_lo c1]
      exact A4 t ht
    · by_cases c2 : t = i
      · subst c2
        rw [qf_dI_at]
        exact qf_fl_iff h6i ⟨fun h => by omega, fun h => by omega⟩
      · by_cases c3 : t ≤ k
        · rw [h6m t (by omega) c3, qf_dI_mid (by omega) c3]
          have := hoc (t - 1) (by omega) (by omega)
          exact qf_fl_t (by omega)
        · rw [h6o t ht (Or.inr (by omega)), qf_dI_hi (by omega) (by omega)]
          exact A4 t ht
  · have h := qf_S_ins (g := qf_oc d) (g' := qf_oc (qf_dI i k (i + 1 - q) d)) hik hk
      (fun t ht => by unfold qf_oc; rw [qf_dI_lo ht])
      (fun t t1 t2 => by
        have := hoc (t - 1) (by omega) (by omega)
        rw [qf_oc_1 this]
        apply qf_oc_1
        rw [qf_dI_mid t1 t2]
        omega)
      (fun t t1 t2 => by unfold qf_oc; rw [qf_dI_hi (by omega) t1])
      (qf_oc_0 hdk)
    rw [h]
    congr 1
    apply qf_oc_1
    rw [qf_dI_at]
    omega
  · intro x
    have h := qf_S_ins (g := qf_ct d e x) (g' := qf_ct (qf_dI i k (i + 1 - q) d) (qf_eI i k p e) x) hik hk
      (fun t ht => by unfold qf_ct; rw [qf_dI_lo ht, qf_eI_lo ht])
      (fun t t1 t2 => by
        have := hoc (t - 1) (by omega) (by omega)
        unfold qf_ct
        rw [qf_dI_mid t1 t2, qf_eI_mid t1 t2]
        by_cases hx : e (t - 1) = x
        · rw [if_pos ⟨by omega, hx⟩, if_pos ⟨by omega, hx⟩]
        · rw [if_neg (fun h => hx h.2), if_neg (fun h => hx h.2)])
      (fun t t1 t2 => by unfold qf_ct; rw [qf_dI_hi (by omega) t1, qf_eI_hi (by omega) t1])
      (qf_ct_0 (fun h => by omega))
    rw [h]
    congr 1
    unfold qf_ct
    rw [qf_dI_at, qf_eI_at]
    by_cases hx : x = p
    · rw [if_pos ⟨by omega, hx.symm⟩, if_pos hx]
    · rw [if_neg (fun h => hx h.2.symm), if_neg hx]
end
end
section
/-! insert -/
section
variable {rc : Int32} {a1 a2 a3 a4 a5 a6 a7 : Nat → Int32} {f b z : Nat} {d e : Nat → Nat}
/-- the last leg: the push, with the place and the marks known -/
theorem qf_ins203 {post : St1 → Prop} {p q i k : Nat} {c2 b4 b5 : Nat → Int32} {x9 x10 : Int32} (hL : qf_L f b z d e a1 a3 a4 a5 a6) (hp : p < 256) (hpq : qf_p (2 ^ b) z q = p / 2 ^ (8 - b)) (hq1 : 1 ≤ q) (hqi : q ≤ i) (hik : i ≤ k) (hk : k < 2 ^ b) (hdk : d k = 0) (hqk : q < k)
    (hoc : ∀ t, q ≤ t → t < k → 1 ≤ d t) (hi1 : i ≤ q ∨ i ≤ q + d (i - 1)) (hi2 : q + d i ≤ i + 1)
    (hb4 : ∀ u, u < 2 ^ b → qf_fl (b4 (64 * f + qf_p (2 ^ b) z u)) (qf_nm (2 ^ b) d u ∨ u = q)) (hb4o : ∀ j, j / 64 ≠ f → b4 j = a4 j)
    (hb5 : qf_fl (b5 (64 * f + qf_p (2 ^ b) z i)) (d i + q = i + 1)) (hb5o : ∀ j, j ≠ 64 * f + qf_p (2 ^ b) z i → b5 j = a5 j)
    (hx9 : qf_fl x9 (1 ≤ d (i - 1) ∧ i = q + d (i - 1))) (hx10 : qf_fl x10 (i ≠ q))
    (H : ∀ (d' e' : Nat → Nat) (c3 c5 c6 : Nat → Int32), qf_L f b z d' e' a1 c3 b4 c5 c6 → qf_S (qf_oc d') (2 ^ b) = qf_S (qf_oc d) (2 ^ b) + 1 → (∀ x, qf_S (qf_ct d' e' x) (2 ^ b) = qf_S (qf_ct d e x) (2 ^ b) + if x = p then 1 else 0) →
      qf_F f a1 c2 a3 a4 a5 a6 a1 c2 c3 b4 c5 c6 → post (rc, a1, c2, c3, b4, c5, c6, a7)) :
    wX_insert_203 post x10 x9 (nI (p % 2 ^ (8 - b))) (nI (qf_p (2 ^ b) z i)) (nI f) rc a1 c2 a3 b4 b5 a6 a7 := by
  have hL' := hL
  obtain ⟨⟨hf, hb1, hb, h1, hz⟩, hH, A1, A2, A3, A4⟩ := hL
  obtain ⟨hK1, hK2⟩ := qf_2K b hb hb1
  have hpl : p % 2 ^ (8 - b) < 2 ^ (8 - b) := Nat.mod_lt _ hK2
  have hXi : ∀ t u, t < 2 ^ b → u < 2 ^ b → t ≠ u → 64 * f + qf_p (2 ^ b) z t ≠ 64 * f + qf_p (2 ^ b) z u := by
    intro t u ht hu hn he
    exact hn (qf_p_inj hz ht hu (by omega))
  have hX : ∀ t, (64 * f + qf_p (2 ^ b) z t) / 64 = f := by
    intro t
    have := qf_pl (z := z) (t := t) hb
    omega
  unfold wX_insert_203
  refine qf_push hf hb h1 hz hik hk ?_ ?_ ?_ ?_ (qf_i8 _ (by omega)) (qf_fl_01 hx9) (qf_fl_01 hx10) ?_
  · intro t t1 t2
    have hdt := hoc t (by omega) t2
    rintro ⟨g4, g5, g6⟩
    have n4 := (qf_fl_0 (hb4 t (by omega))).mp g4
    have n6 := (qf_fl_0 (A4 t (by omega))).mp g6
    exact n4 (Or.inl ⟨t, Nat.le_refl t, by omega, by omega⟩)
  · refine ⟨(hb4 k hk).2 ?_, ?_, (A4 k hk).2 (by omega)⟩
    · rintro (hn | hn)
      · have := qf_nm_oc hH hn
        omega
      · omega
    · by_cases hki : k = i
      · rw [hki]
        rw [hki] at hdk hqk
        exact hb5.2 (by omega)
      · rw [hb5o _ (hXi k i hk (by omega) hki)]
        exact (A3 k hk).2 (qf_co_z hdk)
  · intro t t1 t2
    obtain ⟨e1, e2, e3⟩ := A1 t (by omega) (hoc t (by omega) t2)
    have hel : e t % 2 ^ (8 - b) < 2 ^ (8 - b) := Nat.mod_lt _ hK2
    rw [e3]
    exact qf_i8 _ (by omega)
  · intro t t1 t2
    by_cases hti : t = i
    · rw [hti]
      exact qf_fl_01 hb5
    · rw [hb5o _ (hXi t i (by omega) (by omega) hti)]
      exact qf_fl_01 (A3 t (by omega))
  · intro c3 c5 c6 g1 g2 g3
    obtain ⟨d', e', k1, k2, k3⟩ := qf_ins_L (c3 := c3) (c4 := b4) (c5 := c5) (c6 := c6) hL' hp hpq hq1 hqi hik hk hdk hoc hi1 hi2
      (fun u u1 u2 => (g1 u u1 u2).1) (fun u u1 u2 => (g2 u u1 u2).1) hb4
      (by rw [(g1 i (Nat.le_refl i) hik).2.1, qf_T_i]; exact hx9)
      (fun hlt => by rw [(g1 (i + 1) (by omega) (by omega)).2.1, qf_T_n (by omega)]; exact hb5)
      (fun u u1 u2 => by
        rw [(g1 u (by omega) u2).2.1, qf_T_n (by omega)]
        exact hb5o _ (hXi (u - 1) i (by omega) (by omega) (by omega)))
      (fun u u1 u2 => by
        rw [(g2 u u1 u2).2.1]
        exact hb5o _ (hXi u i (by omega) (by omega) (by omega)))
      (by rw [(g1 i (Nat.le_refl i) hik).2.2, qf_T_i]; exact hx10)
      (fun u u1 u2 => by rw [(g1 u (by omega) u2).2.2, qf_T_n (by omega)])
      (fun u u1 u2 => (g2 u u1 u2).2.2)
    refine H d' e' c3 c5 c6 k1 k2 k3 ⟨fun _ _ => rfl, fun _ _ => rfl, fun j hj => (g3 j hj).1, hb4o, fun j hj => ?_, fun j hj => (g3 j hj).2.2⟩
    rw [(g3 j hj).2.1]
    refine hb5o j (fun hc => ?_)
    rw [hc] at hj
    exact hj (hX i)
theorem qf_insert {post : St1 → Prop} {n p : Nat} {C : Nat → Nat} (hQ : qf_Q f b n C a1 a2 a3 a4 a5 a6) (hn : n + 1 < 2 ^ b) (hp : p < 256)
    (H : ∀ c2 c3 c4 c5 c6 : Nat → Int32, qf_Q f b (n + 1) (fun x => C x + if x = p then 1 else 0) a1 c2 c3 c4 c5 c6 → qf_F f a1 a2 a3 a4 a5 a6 a1 c2 c3 c4 c5 c6 → post (rc, a1, c2, c3, c4, c5, c6, a7)) :
    wpX_insert post (rc, a1, a2, a3, a4, a5, a6, a7) (nI f) (nI p) := by
  obtain ⟨z0, d0, e0, hL0, h2, hS0, hC0⟩ := hQ
  obtain ⟨hm1, hm2, hmK⟩ := qf_2b b hL0.1.2.2.1 hL0.1.2.1
  have hsl : p / 2 ^ (8 - b) < 2 ^ b := Nat.div_lt_of_lt_mul (by rw [Nat.mul_comm]; omega)
  obtain ⟨z, d, e, q, k, hL, hS, hC, hpq, hq1, hqk, hk, hdk, hoc⟩ := qf_root hL0 hsl (by omega)
  have hL' := hL
  obtain ⟨⟨hf, hb1, hb, h1, hz⟩, hH, A1, A2, A3, A4⟩ := hL
  obtain ⟨hK1, hK2⟩ := qf_2K b hb hb1
  have hpl : p % 2 ^ (8 - b) < 2 ^ (8 - b) := Nat.mod_lt _ hK2
  have hq : q < 2 ^ b := by omega
  have hXi : ∀ t u, t < 2 ^ b → u < 2 ^ b → t ≠ u → 64 * f + qf_p (2 ^ b) z t ≠ 64 * f + qf_p (2 ^ b) z u := by
    intro t u ht hu hn he
    exact hn (qf_p_inj hz ht hu (by omega))
  have hX : ∀ t, (64 * f + qf_p (2 ^ b) z t) / 64 = f := by
    intro t
    have := qf_pl (z := z) (t := t) hb
    omega
  have hb4 : ∀ u, u < 2 ^ b → qf_fl (upd a4 (64 * f + qf_p (2 ^ b) z q) 1 (64 * f + qf_p (2 ^ b) z u)) (qf_nm (2 ^ b) d u ∨ u = q) := by
    intro u hu
    by_cases huq : u = q
    · rw [huq, pk_us]
      exact qf_fl_t (Or.inr rfl)
    · rw [pk_un (hXi u q hu hq huq)]
      exact qf_fl_iff (A2 u hu) ⟨Or.inl, fun h => h.resolve_right huq⟩
  have hb4o : ∀ j, j / 64 ≠ f → upd a4 (64 * f + qf_p (2 ^ b) z q) 1 j = a4 j := by
    intro j hj
    refine pk_un (fun hc => ?_)
    rw [hc] at hj
    exact hj (hX q)
  have e2 : (a2 f + 1).toInt8.toInt32 = nI (n + 1) := by rw [h2, nI_1, qf_i8 _ (by omega)]
  have fin : ∀ (d' e' : Nat → Nat) (c3 c4 c5 c6 : Nat → Int32), qf_L f b z d' e' a1 c3 c4 c5 c6 → qf_S (qf_oc d') (2 ^ b) = qf_S (qf_oc d) (2 ^ b) + 1 → (∀ x, qf_S (qf_ct d' e' x) (2 ^ b) = qf_S (qf_ct d e x) (2 ^ b) + if x = p then 1 else 0) →
      qf_F f a1 (upd a2 f (nI (n + 1))) a3 a4 a5 a6 a1 (upd a2 f (nI (n + 1))) c3 c4 c5 c6 → post (rc, a1, upd a2 f (nI (n + 1)), c3, c4, c5, c6, a7) := by
    intro d' e' c3 c4 c5 c6 k1 k2 k3 k4
    refine H _ _ _ _ _ ⟨z, d', e', k1, pk_us, by rw [k2, hS, hS0], fun x => by rw [k3, hC, hC0]⟩ ⟨fun _ _ => rfl, fun g hg => pk_un hg, k4.2.2⟩
  unfold wpX_insert
  dsimp only
  refine qf_base (qf_slotOf hf hb h1 hp (qf_lowerOf hf hb h1 hp ?_))
  rw [← hpq]
  refine And.intro (pk_in f 2 hf) (And.intro (pk_in f 2 hf) (nm_r (e' := upd a2 f (nI (n + 1))) (by rw [nI_clamp (by omega), e2]) ?_))
  have hi := qf_in hf (qf_pl (z := z) (t := q) hb)
  refine qf_isFree hL' (by omega) (fun hd => ?_) (fun hd => ?_)
  · refine br_f qf_10 ?_
    have hkq : k = q := by
      apply Classical.byContradiction
      intro hc
      have := hoc q (Nat.le_refl q) (by omega)
      omega
    rw [qf_ix hf (qf_pl hb), qf_i8 _ (by omega)]
    refine And.intro hi (nm_e (And.intro hi (nm_e ?_)))
    obtain ⟨d', e', k1, k2, k3⟩ := qf_ins_L (i := q) (k := q) (c3 := upd a3 (64 * f + qf_p (2 ^ b) z q) (nI (p % 2 ^ (8 - b)))) (c4 := upd a4 (64 * f + qf_p (2 ^ b) z q) 1) (c5 := a5) (c6 := a6) hL' hp hpq hq1 (Nat.le_refl q) (Nat.le_refl q) hq hd
      (fun t t1 t2 => absurd t2 (by omega)) (Or.inl (Nat.le_refl q)) (by omega)
      (fun u u1 u2 => by rw [show u = q by omega, pk_us, qf_T_i])
      (fun u u1 u2 => pk_un (hXi u q u1 hq (by omega))) hb4
      (qf_fl_iff (A3 q hq) ⟨fun h => absurd h (qf_co_z hd), fun h => absurd h (by omega)⟩)
      (fun h => absurd h (by omega)) (fun u u1 u2 => absurd u2 (by omega)) (fun _ _ _ => rfl)
      (qf_fl_iff (A4 q hq) ⟨fun h => absurd h (by omega), fun h => absurd rfl h⟩)
      (fun u u1 u2 => absurd u2 (by omega)) (fun _ _ _ => rfl)
    refine fin d' e' _ _ _ _ k1 k2 k3 ⟨fun _ _ => rfl, fun _ _ => rfl, fun j hj => ?_, hb4o, fun _ _ => rfl, fun _ _ => rfl⟩
    refine pk_un (fun hc => ?_)
    rw [hc] at hj
    exact hj (hX q)
  · refine br_t rfl ?_
    have hqk2 : q < k := by
      apply Classical.byContradiction
      intro hc
      rw [show q = k by omega] at hd
      omega
    rw [qf_ix hf (qf_pl hb)]
    refine And.intro hi (nm_e (And.intro hi (nm_e ?_)))
    refine qf_runStart (d := d) (nm := fun t => qf_nm (2 ^ b) d t ∨ t = q) hf hb h1 hz hH hb4 A3 A4 (fun t h => Or.inl h) (fun t _ h hne => h.resolve_right hne) (Or.inr rfl) hq hd (fun r r1 r2 r3 r4 => ?_)
    have hrk : r ≤ k := by
      apply Classical.byContradiction
      intro hc
      have := r3 k hqk (by omega)
      omega
    have hrun : qf_nm (2 ^ b) d q → d r + q = r + 1 := by
      rintro ⟨u, u1, u2, u3⟩
      have hur : r ≤ u := by
        apply Classical.byContradiction
        intro hc
        have := r3 u u1 (by omega)
        omega
      have hmr := qf_H_mo hH hur
      omega
    have hPr : qf_p (2 ^ b) z r < 64 := qf_pl hb
    have hPq : qf_p (2 ^ b) z q < 64 := qf_pl hb
    have end146 : ∀ s, r ≤ s → s ≤ k → (∀ u, r ≤ u → u < s → d u + q = u + 1) → q + d s ≤ s + 1 → (r < s → qf_nm (2 ^ b) d q) →
        wX_insert_146 post (nI f) (nI (64 * f)) (nI (qf_p (2 ^ b) z q)) (nI (p % 2 ^ (8 - b))) (a4 (64 * f + qf_p (2 ^ b) z q)) (nI (qf_p (2 ^ b) z r)) (nI (qf_p (2 ^ b) z s)) rc a1 (upd a2 f (nI (n + 1))) a3 (upd a4 (64 * f + qf_p (2 ^ b) z q) 1) a5 a6 a7 := by
      intro s s1 s2 s3 s4 s5
      have hPs : qf_p (2 ^ b) z s < 64 := qf_pl hb
      have hi1 : s ≤ q ∨ s ≤ q + d (s - 1) := by
        by_cases hc : s = r
        · by_cases hc2 : r = q
          · exact Or.inl (by omega)
          · have := r3 (r - 1) (by omega) (by omega)
            rw [hc]
            exact Or.inr (by omega)
        · have := s3 (s - 1) (by omega) (by omega)
          exact Or.inr (by omega)
      have end191 : ∀ (b5 : Nat → Int32) (x9 : Int32), qf_fl (b5 (64 * f + qf_p (2 ^ b) z s)) (d s + q = s + 1) → (∀ j, j ≠ 64 * f + qf_p (2 ^ b) z s → b5 j = a5 j) → qf_fl x9 (1 ≤ d (s - 1) ∧ s = q + d (s - 1)) →
          wX_insert_191 post (nI (qf_p (2 ^ b) z q)) (nI (qf_p (2 ^ b) z s)) x9 (nI (p % 2 ^ (8 - b))) (nI (qf_p (2 ^ b) z s)) (nI f) rc a1 (upd a2 f (nI (n + 1))) a3 (upd a4 (64 * f + qf_p (2 ^ b) z q) 1) b5 a6 a7 := by
        intro b5 x9 g1 g2 g3
        refine pk_eq (qf_p (2 ^ b) z s) (qf_p (2 ^ b) z q) (fun he => ?_) (fun he => ?_)
        · have hsq : s = q := qf_p_inj hz (by omega) hq he
          exact qf_ins203 hL' hp hpq hq1 (by omega) s2 hk hdk hqk2 hoc hi1 s4 hb4 hb4o g1 g2 g3 (qf_fl_f (fun h => h hsq)) (fun d' e' c3 c5 c6 k1 k2 k3 k4 => fin d' e' c3 _ c5 c6 k1 k2 k3 k4)
        · have hsq : s ≠ q := fun h => he (by rw [h])
          exact qf_ins203 hL' hp hpq hq1 (by omega) s2 hk hdk hqk2 hoc hi1 s4 hb4 hb4o g1 g2 g3 (qf_fl_t hsq) (fun d' e' c3 c5 c6 k1 k2 k3 k4 => fin d' e' c3 _ c5 c6 k1 k2 k3 k4)
      refine qf_fl_br (A2 q hq) (fun hnq => ?_) (fun hnq => ?_)
      · have hsr : s = r := by
          apply Classical.byContradiction
          intro hc
          exact hnq (s5 (by omega))
        refine qf_fl_br (A2 q hq) (fun _ => ?_) (fun h => absurd h hnq)
        unfold wX_insert_190
        have hrq : q < r := by
          apply Classical.byContradiction
          intro hc
          rw [hsr, show r = q by omega] at s4
          exact hnq ⟨q, Nat.le_refl q, hq, by omega⟩
        refine end191 a5 0 (qf_fl_iff (A3 s (by omega)) ⟨fun h => ?_, fun h => ?_⟩) (fun _ _ => rfl) (qf_fl_f (fun h => ?_))
        · have h8 := h.2.2
          have := r3 (s - 1) (by omega) (by omega)
          omega
        · exact absurd ⟨s, by omega, by omega, h⟩ hnq
        · exact hnq ⟨s - 1, by omega, by omega, by omega⟩
      · refine pk_eq (qf_p (2 ^ b) z s) (qf_p (2 ^ b) z r) (fun he => ?_) (fun he => ?_)
        · have hsr : s = r := qf_p_inj hz (by omega) (by omega) he
          refine And.intro (qf_in hf hPr) ?_
          rw [qf_ix hf hPr]
          refine nm_e ?_
          refine qf_fl_br (A2 q hq) (fun h => absurd hnq h) (fun _ => ?_)
          refine pk_eq (qf_p (2 ^ b) z s) (qf_p (2 ^ b) z r) (fun _ => ?_) (fun hne => absurd he hne)
          unfold wX_insert_190
          refine end191 _ 0 ?_ (fun j hj => ?_) (qf_fl_f (fun h => ?_))
          · rw [hsr, pk_us]
            exact qf_fl_t (hrun hnq)
          · rw [hsr] at hj
            exact pk_un hj
          · have := r3 (s - 1) (by omega) (by omega)
            omega
        · have hsr : s ≠ r := fun h => he (by rw [h])
          refine qf_fl_br (A2 q hq) (fun h => absurd hnq h) (fun _ => ?_)
          refine pk_eq (qf_p (2 ^ b) z s) (qf_p (2 ^ b) z r) (fun h => absurd h he) (fun _ => ?_)
          have h7 := s3 (s - 1) (by omega) (by omega)
          refine end191 a5 1 (qf_fl_iff (A3 s (by omega)) ⟨fun h => ?_, fun h => ?_⟩) (fun _ _ => rfl) (qf_fl_t ⟨by omega, by omega⟩)
          · have h8 := h.2.2
            omega
          · exact ⟨by omega, by omega, by omega⟩
    refine loop_m (σ := Nat × Int32) (fun n' s => wX_insert_104 post (nI f) (nI (64 * f)) (nI (qf_p (2 ^ b) z q)) (nI (p % 2 ^ (8 - b))) (a4 (64 * f + qf_p (2 ^ b) z q)) (nI (qf_p (2 ^ b) z r)) rc a1 (upd a2 f (nI (n + 1))) a3 (upd a4 (64 * f + qf_p (2 ^ b) z q) 1) a5 a6 a7 n' (nI (qf_p (2 ^ b) z s.1)) s.2)
      (fun s => r ≤ s.1 ∧ s.1 ≤ k ∧ (∀ u, r ≤ u → u < s.1 → d u + q = u + 1) ∧ q + d s.1 ≤ s.1 + 1 ∧ (r < s.1 → qf_nm (2 ^ b) d q) ∧ qf_fl s.2 (qf_nm (2 ^ b) d q ∧ d s.1 + q = s.1 + 1)) (fun s => k - s.1) ?_ (r, a4 (64 * f + qf_p (2 ^ b) z q)) ?_
    · rintro n' ⟨s, x9⟩ hI hw
      dsimp only at hI
      obtain ⟨i1, i2, i3, i4, i5, i6⟩ := hI
      show wX_insert_104 post (nI f) (nI (64 * f)) (nI (qf_p (2 ^ b) z q)) (nI (p % 2 ^ (8 - b))) (a4 (64 * f + qf_p (2 ^ b) z q)) (nI (qf_p (2 ^ b) z r)) rc a1 (upd a2 f (nI (n + 1))) a3 (upd a4 (64 * f + qf_p (2 ^ b) z q) 1) a5 a6 a7 (n' + 1) (nI (qf_p (2 ^ b) z s)) x9
      refine qf_fl_br i6 (fun hno => end146 s i1 i2 i3 i4 i5) (fun hyes => ?_)
      refine And.intro (qf_in hf (qf_pl hb)) (br_c (fun _ => end146 s i1 i2 i3 i4 i5) (fun _ => ?_))
      obtain ⟨y1, y2⟩ := hyes
      have hsk : s < k := by
        apply Classical.byContradiction
        intro hc
        rw [show s = k by omega] at y2
        omega
      have hstep := hH.2.1 s
      refine qf_afterP hf hb h1 (And.intro (qf_in hf (qf_pl hb)) (nm_r (by rw [qf_ix hf (qf_pl hb)]) ?_))
      refine hw (s + 1, a5 (64 * f + qf_p (2 ^ b) z (s + 1))) ?_ (by dsimp only; omega)
      dsimp only
      refine ⟨by omega, by omega, fun u u1 u2 => ?_, by omega, fun _ => y1, qf_fl_iff (A3 (s + 1) (by omega)) ⟨fun h => ?_, fun h => ?_⟩⟩
      · by_cases hu : u = s
        · rw [hu]; exact y2
        · exact i3 u u1 (by omega)
      · have h8 := h.2.2
        rw [show s + 1 - 1 = s by omega] at h8
        exact ⟨y1, by omega⟩
      · have h8 := h.2
        refine ⟨by omega, ?_, ?_⟩
        · rw [show s + 1 - 1 = s by omega]
          omega
        · rw [show s + 1 - 1 = s by omega]
          omega
    · dsimp only
      exact ⟨Nat.le_refl r, hrk, fun u u1 u2 => absurd u2 (by omega), r4, fun h => absurd h (by omega), qf_fl_iff (A2 q hq) ⟨fun h => ⟨h, hrun h⟩, fun h => h.1⟩⟩
end
end
section
/-! reading a stretch, reading all -/
section
variable {rc : Int32} {a1 a2 a3 a4 a5 a6 a7 : Nat → Int32} {f b z : Nat} {d e : Nat → Nat}
theorem qf_readStretch {post : Int32 → St1 → Prop} {t0 c : Nat} (hL : qf_L f b z d e a1 a3 a4 a5 a6) (ht0 : 1 ≤ t0) (ht1 : t0 ≤ 2 ^ b) (hfr : d (t0 - 1) = 0) (hc : c ≤ t0)
    (H : ∀ (k : Nat) (g7 : Nat → Int32), t0 ≤ k → k ≤ 2 ^ b → d k = 0 → (∀ t, t0 ≤ t → t < k → 1 ≤ d t) → (∀ j, j < c → g7 j = a7 j) → (∀ t, t0 ≤ t → t < k → g7 (c + (t - t0)) = nI (e t)) →
      post (nI (qf_p (2 ^ b) z k)) (nI (c + (k - t0)), a1, a2, a3, a4, a5, a6, g7)) :
    wpX_readStretch post (rc, a1, a2, a3, a4, a5, a6, a7) (nI f) (nI (qf_p (2 ^ b) z t0)) (nI c) := by
  have hL' := hL
  obtain ⟨⟨hf, hb1, hb, h1, hz⟩, hH, A1, A2, A3, A4⟩ := hL
  obtain ⟨hm1, hm2, hmK⟩ := qf_2b b hb hb1
  unfold wpX_readStretch
  dsimp only
  refine qf_base ?_
  refine Exists.elim (loop_m (σ := Nat × Nat × (Nat → Int32)) (fun n s => wX_readStretch_18 post (nI f) (nI (64 * f)) n (nI (qf_p (2 ^ b) z s.1)) (nI (qf_p (2 ^ b) z s.2.1)) (nI (c + (s.1 - t0))) a1 a2 a3 a4 a5 a6 s.2.2)
    (fun s => t0 ≤ s.1 ∧ s.1 ≤ 2 ^ b ∧ (∀ u, t0 ≤ u → u < s.1 → 1 ≤ d u) ∧ (t0 < s.1 → s.2.1 + d (s.1 - 1) = s.1) ∧ (∀ j, j < c → s.2.2 j = a7 j) ∧ (∀ u, t0 ≤ u → u < s.1 → s.2.2 (c + (u - t0)) = nI (e u))) (fun s => 2 ^ b - s.1) ?_ (t0, t0, a7) ?_) (fun n hn => ?_)
  · rintro n ⟨t, w, g7⟩ hI hw
    dsimp only at hI
    obtain ⟨i1, i2, i3, i4, i5, i6⟩ := hI
    show wX_readStretch_18 post (nI f) (nI (64 * f)) (n + 1) (nI (qf_p (2 ^ b) z t)) (nI (qf_p (2 ^ b) z w)) (nI (c + (t - t0))) a1 a2 a3 a4 a5 a6 g7
    rw [wX_readStretch_18]
    refine qf_isFree hL' i2 ?_ ?_
    · exact fun hd => br_f qf_10 (H t g7 i1 i2 hd i3 i5 i6)
    intro hd
    refine br_t rfl ?_
    have htm : t < 2 ^ b := by
      apply Classical.byContradiction
      intro hcc
      have := hH.2.2 t (by omega)
      omega
    obtain ⟨e1, e2, e3⟩ := A1 t htm hd
    have hle := qf_H_le hH t
    have hi := qf_in hf (qf_pl (z := z) (t := t) hb)
    have key95 : ∀ h, h + d t = t + 1 → wX_readStretch_95 post (wX_readStretch_18 post (nI f) (nI (64 * f)) n) (nI f) (nI (64 * f)) (nI (qf_p (2 ^ b) z t)) (nI (qf_p (2 ^ b) z h)) (nI (c + (t - t0))) a1 a2 a3 a4 a5 a6 g7 := by
      intro h hh
      have nxt := hw (t + 1, h, upd g7 (c + (t - t0)) (nI (e t)))
        (by
          dsimp only
          refine ⟨by omega, by omega, fun u u1 u2 => ?_, fun _ => ?_, fun j hj => ?_, fun u u1 u2 => ?_⟩
          · by_cases hu : u = t
            · rw [hu]; exact hd
            · exact i3 u u1 (by omega)
          · rw [show t + 1 - 1 = t by omega]
            exact hh
          · rw [pk_un (by omega)]
            exact i5 j hj
          · by_cases hu : u = t
            · rw [hu, pk_us]
            · rw [pk_un (by omega)]
              exact i6 u u1 (by omega)) (by dsimp only; omega)
      dsimp only at nxt
      rw [show c + (t + 1 - t0) = c + (t - t0) + 1 by omega] at nxt
      unfold wX_readStretch_95
      refine And.intro (pk_in f 2 hf) (And.intro hi (And.intro (pk_in (c + (t - t0)) 64 (by omega)) (nm_r (e' := upd g7 (c + (t - t0)) (nI (e t))) ?_ (nm_r (nI_1 _) (qf_afterP hf hb h1 nxt)))))
      rw [nI_clamp (n := c + (t - t0)) (by omega), nI_clamp (n := f) (by omega), h1, qf_ix hf (qf_pl hb), e3, show h = t + 1 - d t by omega, ← e2, qf_fp b hb (e t) e1]
    refine And.intro hi (qf_fl_br (qf_fx hf (qf_pl hb) (A4 t htm)) (fun hnp => key95 t (by omega)) (fun hp => ?_))
    have htt : t0 < t := by
      apply Classical.byContradiction
      intro hcc
      have htt0 : t = t0 := by omega
      have hs := hH.2.1 (t0 - 1)
      rw [show t0 - 1 + 1 = t0 by omega, hfr] at hs
      rw [htt0] at hp
      omega
    have hwt := i4 htt
    have hd1 := i3 (t - 1) (by omega) (by omega)
    have hs := hH.2.1 (t - 1)
    rw [show t - 1 + 1 = t by omega] at hs
    refine And.intro hi (qf_fl_br (qf_fx hf (qf_pl hb) (A3 t htm)) (fun hnc => ?_) (fun hco => key95 w (by have := hco.2.2; omega)))
    have hdd : d t ≤ d (t - 1) := by
      apply Classical.byContradiction
      intro hcc
      exact hnc ⟨by omega, hd1, by omega⟩
    refine qf_afterP hf hb h1 ?_
    refine loop_m (σ := Nat) (fun n' v => wX_readStretch_70 post (wX_readStretch_18 post (nI f) (nI (64 * f)) n) (nI f) (nI (64 * f)) (nI (qf_p (2 ^ b) z t)) (nI (c + (t - t0))) a1 a2 a3 a4 a5 a6 g7 n' (nI (qf_p (2 ^ b) z v))) (fun v => w < v ∧ v + d t ≤ t + 1) (fun v => t + 1 - v) ?_ (w + 1) ⟨by omega, by omega⟩
    intro n' v hI' hw'
    obtain ⟨v1, v2⟩ := hI'
    refine And.intro (qf_in hf (qf_pl hb)) (qf_fl_br (qf_fx hf (qf_pl hb) (A2 v (by omega))) (fun hn => ?_) (fun hn => key95 v ?_))
    · have hne : v + d t ≠ t + 1 := fun hcc => hn ⟨t, by omega, htm, by omega⟩
      exact qf_afterP hf hb h1 (hw' (v + 1) ⟨by omega, by omega⟩ (by omega))
    · obtain ⟨u, u1, u2, u3⟩ := hn
      by_cases hut : u < t
      · have := qf_H_mo hH (show u ≤ t - 1 by omega)
        omega
      · have := qf_H_mo hH (show t ≤ u by omega)
        omega
  · dsimp only
    exact ⟨Nat.le_refl _, ht1, fun u u1 u2 => absurd u2 (by omega), fun h => absurd h (by omega), fun _ _ => rfl, fun u u1 u2 => absurd u2 (by omega)⟩
  · dsimp only at hn
    rw [Nat.sub_self, Nat.add_zero] at hn
    exact ⟨n, hn⟩
def qf_app (c : Nat) (r e : Nat → Nat) (t j : Nat) : Nat := if j < c then r j else e (t + (j - c))
theorem qf_app_lo {c t j : Nat} {r e : Nat → Nat} (h : j < c) : qf_app c r e t j = r j := if_pos h
theorem qf_app_hi {c t j : Nat} {r e : Nat → Nat} (h : ¬ j < c) : qf_app c r e t j = e (t + (j - c)) := if_neg h
def qf_N (r : Nat → Nat) (p j : Nat) : Nat := if r j = p then 1 else 0
theorem qf_ra29 {post : St1 → Prop} (hL : qf_L f b z d e a1 a3 a4 a5 a6)
    (H : ∀ (r : Nat → Nat) (g7 : Nat → Int32), (∀ j, j < qf_S (qf_oc d) (2 ^ b) → r j < 256 ∧ g7 j = nI (r j)) → (∀ p, qf_S (qf_N r p) (qf_S (qf_oc d) (2 ^ b)) = qf_S (qf_ct d e p) (2 ^ b)) → post (nI (qf_S (qf_oc d) (2 ^ b)), a1, a2, a3, a4, a5, a6, g7)) :
    ∃ n, wX_readAll_29 post (nI f) (nI z) n (nI (qf_p (2 ^ b) z 1)) 0 a1 a2 a3 a4 a5 a6 a7 := by
  have hL' := hL
  obtain ⟨⟨hf, hb1, hb, h1, hz⟩, hH, A1, A2, A3, A4⟩ := hL
  obtain ⟨hm1, hm2, hmK⟩ := qf_2b b hb hb1
  have hS1 : qf_S (qf_oc d) 1 = 0 := by
    show 0 + qf_oc d 0 = 0
    rw [qf_oc_0 hH.1]
  refine Exists.elim (loop_m (σ := Nat × (Nat → Nat) × (Nat → Int32)) (fun n s => wX_readAll_29 post (nI f) (nI z) n (nI (qf_p (2 ^ b) z s.1)) (nI (qf_S (qf_oc d) s.1)) a1 a2 a3 a4 a5 a6 s.2.2)
    (fun s => 1 ≤ s.1 ∧ s.1 ≤ 2 ^ b ∧ (d s.1 = 0 ∨ d (s.1 - 1) = 0) ∧ (∀ j, j < qf_S (qf_oc d) s.1 → s.2.1 j < 256 ∧ s.2.2 j = nI (s.2.1 j)) ∧ ∀ p, qf_S (qf_N s.2.1 p) (qf_S (qf_oc d) s.1) = qf_S (qf_ct d e p) s.1) (fun s => 2 ^ b - s.1) ?_ (1, fun _ => 0, a7) ?_) (fun n hn => ?_)
  · rintro n ⟨t, r, g7⟩ hI hw
    dsimp only at hI
    obtain ⟨i1, i2, i3, i4, i5⟩ := hI
    show wX_readAll_29 post (nI f) (nI z) (n + 1) (nI (qf_p (2 ^ b) z t)) (nI (qf_S (qf_oc d) t)) a1 a2 a3 a4 a5 a6 g7
    have hPt : qf_p (2 ^ b) z t < 64 := qf_pl hb
    refine pk_eq (qf_p (2 ^ b) z t) z (fun he => ?_) (fun he => ?_)
    · have htm : t = 2 ^ b := by
        apply Classical.byContradiction
        intro hc
        have := qf_p_inj hz (show t < 2 ^ b by omega) (show 0 < 2 ^ b by omega) (by rw [he, qf_p_0 hz])
        omega
      subst htm
      exact H r g7 i4 i5
    · have htm : t < 2 ^ b := by
        apply Classical.byContradiction
        intro hc
        refine he ?_
        rw [show t = 2 ^ b by omega, qf_p_m, qf_p_0 hz]
      refine qf_isFree hL' i2 (fun hd => br_f qf_10 ?_) (fun hd => br_t rfl ?_)
      · have e1 : qf_S (qf_oc d) (t + 1) = qf_S (qf_oc d) t := by
          show qf_S (qf_oc d) t + qf_oc d t = _
          rw [qf_oc_0 hd, Nat.add_zero]
        have e2 : ∀ p, qf_S (qf_ct d e p) (t + 1) = qf_S (qf_ct d e p) t := by
          intro p
          show qf_S (qf_ct d e p) t + qf_ct d e p t = _
          rw [qf_ct_0 (fun h => by omega), Nat.add_zero]
        have nxt := hw (t + 1, r, g7) (by
          dsimp only
          refine ⟨by omega, by omega, Or.inr (by rw [show t + 1 - 1 = t by omega]; exact hd), ?_, ?_⟩
          · rw [e1]; exact i4
          · intro p
            rw [e1, e2]
            exact i5 p) (by dsimp only; omega)
        dsimp only at nxt
        rw [e1] at nxt
        exact qf_afterP hf hb h1 nxt
      · have hd0 : d (t - 1) = 0 := by omega
        have hcl : qf_S (qf_oc d) t ≤ t := qf_S_le t (fun i _ => qf_oc_le i)
        refine qf_readStretch hL' i1 i2 hd0 hcl (fun k g k1 k2 k3 k4 k5 k6 => ?_)
        have htk : t < k := by
          apply Classical.byContradiction
          intro hc
          rw [show k = t by omega] at k3
          omega
        have e1 : qf_S (qf_oc d) k = qf_S (qf_oc d) t + (k - t) := by
          have h8 := qf_S_add (qf_oc d) t (k - t)
          rw [show t + (k - t) = k by omega] at h8
          rw [h8, qf_S_one (g := fun i => qf_oc d (t + i)) (k - t) (fun i hi => qf_oc_1 (k4 (t + i) (by omega) (by omega)))]
        have nxt := hw (k, qf_app (qf_S (qf_oc d) t) r e t, g) (by
          dsimp only
          refine ⟨by omega, k2, Or.inl k3, ?_, ?_⟩
          · intro j hj
            rw [e1] at hj
            by_cases hjc : j < qf_S (qf_oc d) t
            · rw [qf_app_lo hjc, k5 j hjc]
              exact i4 j hjc
            · rw [qf_app_hi hjc]
              have h8 := k6 (t + (j - qf_S (qf_oc d) t)) (by omega) (by omega)
              rw [show qf_S (qf_oc d) t + (t + (j - qf_S (qf_oc d) t) - t) = j by omega] at h8
              exact ⟨(A1 _ (by omega) (k4 _ (by omega) (by omega))).1, h8⟩
          · intro p
            rw [e1, qf_S_add]
            have h8 := qf_S_add (qf_ct d e p) t (k - t)
            rw [show t + (k - t) = k by omega] at h8
            rw [h8, ← i5 p]
            congr 1
            · apply qf_S_congr
              intro j hj
              unfold qf_N
              rw [qf_app_lo hj]
            · apply qf_S_congr
              intro j hj
              unfold qf_N qf_ct
              rw [qf_app_hi (show ¬ (qf_S (qf_oc d) t + j < qf_S (qf_oc d) t) by omega), show qf_S (qf_oc d) t + j - qf_S (qf_oc d) t = j by omega]
              by_cases hx : e (t + j) = p
              · rw [if_pos hx, if_pos ⟨k4 _ (by omega) (by omega), hx⟩]
              · rw [if_neg hx, if_neg (fun h => hx h.2)]) (by dsimp only; omega)
        dsimp only at nxt
        rw [e1] at nxt
        exact nxt
  · dsimp only
    refine ⟨Nat.le_refl 1, by omega, Or.inr hH.1, ?_, ?_⟩
    · rw [hS1]
      exact fun j hj => absurd hj (by omega)
    · intro p
      rw [hS1]
      show 0 = 0 + qf_ct d e p 0
      rw [qf_ct_0 (fun h => by have := hH.1; omega)]
  · dsimp only at hn
    rw [hS1] at hn
    exact ⟨n, hn⟩
theorem qf_readAll {post : St1 → Prop} {n : Nat} {C : Nat → Nat} (hQ : qf_Q f b n C a1 a2 a3 a4 a5 a6)
    (H : ∀ (r : Nat → Nat) (g7 : Nat → Int32), (∀ j, j < n → r j < 256 ∧ g7 j = nI (r j)) → (∀ p, qf_S (qf_N r p) n = C p) → post (nI n, a1, a2, a3, a4, a5, a6, g7)) :
    wpX_readAll post (rc, a1, a2, a3, a4, a5, a6, a7) (nI f) := by
  obtain ⟨z, d, e, hL, h2, hS, hC⟩ := hQ
  have hL' := hL
  obtain ⟨⟨hf, hb1, hb, h1, hz⟩, hH, A1, A2, A3, A4⟩ := hL
  obtain ⟨hm1, hm2, hmK⟩ := qf_2b b hb hb1
  unfold wpX_readAll
  dsimp only
  refine loop_m (σ := Nat) (fun n s => wX_readAll_7 post (nI f) 0 a1 a2 a3 a4 a5 a6 a7 n (nI s)) (fun s => s ≤ z) (fun s => z - s) ?_ 0 (Nat.zero_le z)
  intro n' s hI hw
  obtain ⟨t, ht, rfl⟩ := qf_p_surj hz (show s < 2 ^ b by omega)
  show wX_readAll_7 post (nI f) 0 a1 a2 a3 a4 a5 a6 a7 (n' + 1) (nI (qf_p (2 ^ b) z t))
  rw [wX_readAll_7]
  refine qf_isFree hL' (show t ≤ 2 ^ b by omega) ?_ ?_
  · intro hd
    refine br_f qf_10 ?_
    obtain ⟨d', e', hL2, _, _, hS2, hC2⟩ := qf_L_rr hL' ht hd
    refine qf_after hf hb h1 (qf_pl hb) (qf_ra29 hL2 ?_)
    intro r g7 g1 g2
    rw [hS2, hS] at g1 g2 ⊢
    exact H r g7 g1 (fun p => by rw [g2, hC2, hC])
  · intro hd
    have hne : qf_p (2 ^ b) z t ≠ z := by
      intro hc
      have := qf_p_inj hz ht (show 0 < 2 ^ b by omega) (by rw [hc, qf_p_0 hz])
      rw [this, hH.1] at hd
      omega
    exact br_t rfl (nm_r (nI_1 _) (hw (qf_p (2 ^ b) z t + 1) (by omega) (by omega)))
end
end
section
/-! emptying, resizing, pouring -/
section
variable {rc : Int32} {a1 a2 a3 a4 a5 a6 a7 : Nat → Int32} {f b z : Nat} {d e : Nat → Nat}
theorem qf_free {post : St1 → Prop} {s : Nat} (hf : f < 2) (hs : s < 64) (h : post (rc, a1, a2, a3, upd a4 (64 * f + s) 0, upd a5 (64 * f + s) 0, upd a6 (64 * f + s) 0, a7)) : wpX_free post (rc, a1, a2, a3, a4, a5, a6, a7) (nI f) (nI s) := by
  unfold wpX_free
  dsimp only
  refine qf_base (nm_e ?_)
  have hi := qf_in hf hs
  rw [qf_ix hf hs]
  exact And.intro hi (nm_e (And.intro hi (nm_e (And.intro hi (nm_e h)))))
theorem qf_empty {post : St1 → Prop} (hf : f < 2)
    (H : ∀ c4 c5 c6 : Nat → Int32, (∀ s, s < 64 → c4 (64 * f + s) = 0 ∧ c5 (64 * f + s) = 0 ∧ c6 (64 * f + s) = 0) → (∀ j, j / 64 ≠ f → c4 j = a4 j ∧ c5 j = a5 j ∧ c6 j = a6 j) → post (rc, a1, upd a2 f 0, a3, c4, c5, c6, a7)) :
    wpX_empty post (rc, a1, a2, a3, a4, a5, a6, a7) (nI f) := by
  unfold wpX_empty
  dsimp only
  refine And.intro (pk_in f 2 hf) (nm_r (e' := upd a2 f 0) (by rw [nI_clamp (by omega)]) ?_)
  refine pk_loop (σ := (Nat → Int32) × (Nat → Int32) × (Nat → Int32)) (fun n i s => wX_empty_9 post (nI f) n (nI i) rc a1 (upd a2 f 0) a3 s.1 s.2.1 s.2.2 a7)
    (fun i s => (∀ j, j < i → s.1 (64 * f + j) = 0 ∧ s.2.1 (64 * f + j) = 0 ∧ s.2.2 (64 * f + j) = 0) ∧ (∀ j, j / 64 ≠ f → s.1 j = a4 j ∧ s.2.1 j = a5 j ∧ s.2.2 j = a6 j)) 64 0 (a4, a5, a6) (by omega) ⟨fun j hj => absurd hj (by omega), fun j hj => ⟨rfl, rfl, rfl⟩⟩ ?_ ?_
  · rintro n ⟨c4, c5, c6⟩ hI
    dsimp only at hI
    exact pk_le 64 64 (fun _ => H c4 c5 c6 hI.1 hI.2) (fun h => absurd h (by omega))
  · rintro n i ⟨c4, c5, c6⟩ hi hI hw
    dsimp only at hI
    refine pk_le 64 i (fun h => absurd h (by omega)) (fun _ => qf_free hf hi ?_)
    refine nm_r (nI_1 i) (hw (upd c4 (64 * f + i) 0, upd c5 (64 * f + i) 0, upd c6 (64 * f + i) 0) ?_)
    dsimp only
    refine ⟨fun j hj => ?_, fun j hj => ?_⟩
    · by_cases hji : j = i
      · rw [hji, pk_us, pk_us, pk_us]
        exact ⟨rfl, rfl, rfl⟩
      · have hne : 64 * f + j ≠ 64 * f + i := by omega
        rw [pk_un hne, pk_un hne, pk_un hne]
        exact hI.1 j (by omega)
    · have hne : j ≠ 64 * f + i := by omega
      rw [pk_un hne, pk_un hne, pk_un hne]
      exact hI.2 j hj
theorem qf_Q_0 (hf : f < 2) (hb1 : 3 ≤ b) (hb : b < 7) (h1 : a1 f = nI b) (h2 : a2 f = 0) (h : ∀ s, s < 64 → a4 (64 * f + s) = 0 ∧ a5 (64 * f + s) = 0 ∧ a6 (64 * f + s) = 0) : qf_Q f b 0 (fun _ => 0) a1 a2 a3 a4 a5 a6 := by
  refine ⟨0, fun _ => 0, fun _ => 0, ⟨⟨hf, hb1, hb, h1, qf_2p b hb⟩, ⟨rfl, fun _ => Nat.zero_le _, fun _ _ => rfl⟩, ?_, ?_, ?_, ?_⟩, h2, ?_, ?_⟩
  · intro t ht hd
    have hd' : 1 ≤ 0 := hd
    exact absurd hd' (by omega)
  · intro t ht
    rw [(h _ (qf_pl hb)).1]
    refine qf_fl_f ?_
    rintro ⟨u, u1, u2, u3⟩
    have u3' : 0 + t = u + 1 := u3
    omega
  · intro t ht
    rw [(h _ (qf_pl hb)).2.1]
    exact qf_fl_f (qf_co_z rfl)
  · intro t ht
    rw [(h _ (qf_pl hb)).2.2]
    exact qf_fl_f (show ¬ 2 ≤ 0 by omega)
  · exact qf_S_zero _ (fun i _ => qf_oc_0 rfl)
  · intro p
    exact qf_S_zero _ (fun i _ => qf_ct_0 (fun h => absurd h.1 (by omega)))
theorem qf_Nadd {r : Nat → Nat} {i x c : Nat} : c + qf_S (qf_N r x) i + (if x = r i then 1 else 0) = c + qf_S (qf_N r x) (i + 1) := by
  show _ = c + (qf_S (qf_N r x) i + qf_N r x i)
  unfold qf_N
  by_cases h : x = r i
  · rw [if_pos h, if_pos h.symm]
    omega
  · rw [if_neg h, if_neg (fun k => h k.symm)]
    omega
theorem qf_rs20 {post : St1 → Prop} {N n0 : Nat} {C0 r : Nat → Nat} (hQ : qf_Q f b n0 C0 a1 a2 a3 a4 a5 a6) (hN : n0 + N < 2 ^ b) (hr : ∀ j, j < N → r j < 256 ∧ a7 j = nI (r j))
    (H : ∀ c2 c3 c4 c5 c6 : Nat → Int32, qf_Q f b (n0 + N) (fun p => C0 p + qf_S (qf_N r p) N) a1 c2 c3 c4 c5 c6 → qf_F f a1 a2 a3 a4 a5 a6 a1 c2 c3 c4 c5 c6 → post (nI N, a1, c2, c3, c4, c5, c6, a7)) :
    ∃ n, wX_resize_20 post (nI f) n 0 (nI N) a1 a2 a3 a4 a5 a6 a7 := by
  have hm : 2 ^ b ≤ 64 := by
    obtain ⟨z, d, e, hL, _⟩ := hQ
    exact qf_2b64 b hL.1.2.2.1
  refine pk_loop (σ := (Nat → Int32) × (Nat → Int32) × (Nat → Int32) × (Nat → Int32) × (Nat → Int32)) (fun n i s => wX_resize_20 post (nI f) n (nI i) (nI N) a1 s.1 s.2.1 s.2.2.1 s.2.2.2.1 s.2.2.2.2 a7)
    (fun i s => qf_Q f b (n0 + i) (fun p => C0 p + qf_S (qf_N r p) i) a1 s.1 s.2.1 s.2.2.1 s.2.2.2.1 s.2.2.2.2 ∧ qf_F f a1 a2 a3 a4 a5 a6 a1 s.1 s.2.1 s.2.2.1 s.2.2.2.1 s.2.2.2.2) N 0 (a2, a3, a4, a5, a6) (Nat.zero_le N) ⟨hQ, qf_F_refl⟩ ?_ ?_
  · rintro n ⟨c2, c3, c4, c5, c6⟩ hI
    dsimp only at hI
    exact pk_le N N (fun _ => H c2 c3 c4 c5 c6 hI.1 hI.2) (fun h => absurd h (by omega))
  · rintro n i ⟨c2, c3, c4, c5, c6⟩ hi hI hw
    dsimp only at hI
    have e7 : a7 (nI i).toNatClampNeg = nI (r i) := by rw [nI_clamp (by omega), (hr i hi).2]
    refine pk_le N i (fun h => absurd h (by omega)) (fun _ => And.intro (pk_in i 64 (by omega)) ?_)
    dsimp only
    rw [e7]
    refine qf_insert hI.1 (by omega) (hr i hi).1 (fun g2 g3 g4 g5 g6 q F => ?_)
    exact nm_r (nI_1 i) (hw (g2, g3, g4, g5, g6) ⟨qf_Q_C q (fun p => qf_Nadd), qf_F_tr hI.2 F⟩)
theorem qf_po81 {post : Int32 → St1 → Prop} {N n0 : Nat} {C0 r : Nat → Nat} (hf : f < 2) (hQ : qf_Q f b n0 C0 a1 a2 a3 a4 a5 a6) (hN : n0 + N < 2 ^ b) (hr : ∀ j, j < N → r j < 256 ∧ a7 j = nI (r j))
    (H : ∀ c2 c3 c4 c5 c6 : Nat → Int32, qf_Q f b (n0 + N) (fun p => C0 p + qf_S (qf_N r p) N) a1 c2 c3 c4 c5 c6 → qf_F f a1 a2 a3 a4 a5 a6 a1 c2 c3 c4 c5 c6 → post (nI (n0 + N)) (nI N, a1, c2, c3, c4, c5, c6, a7)) :
    ∃ n, wX_pour_81 post (nI f) n 0 (nI N) a1 a2 a3 a4 a5 a6 a7 := by
  have hm : 2 ^ b ≤ 64 := by
    obtain ⟨z, d, e, hL, _⟩ := hQ
    exact qf_2b64 b hL.1.2.2.1
  refine pk_loop (σ := (Nat → Int32) × (Nat → Int32) × (Nat → Int32) × (Nat → Int32) × (Nat → Int32)) (fun n i s => wX_pour_81 post (nI f) n (nI i) (nI N) a1 s.1 s.2.1 s.2.2.1 s.2.2.2.1 s.2.2.2.2 a7)
    (fun i s => qf_Q f b (n0 + i) (fun p => C0 p + qf_S (qf_N r p) i) a1 s.1 s.2.1 s.2.2.1 s.2.2.2.1 s.2.2.2.2 ∧ qf_F f a1 a2 a3 a4 a5 a6 a1 s.1 s.2.1 s.2.2.1 s.2.2.2.1 s.2.2.2.2) N 0 (a2, a3, a4, a5, a6) (Nat.zero_le N) ⟨hQ, qf_F_refl⟩ ?_ ?_
  · rintro n ⟨c2, c3, c4, c5, c6⟩ hI
    dsimp only at hI
    have e2 : c2 (nI f).toNatClampNeg = nI (n0 + N) := by
      obtain ⟨z, d, e, hL, h2, _⟩ := hI.1
      rw [nI_clamp (by omega), h2]
    refine pk_le N N (fun _ => And.intro (pk_in f 2 hf) ?_) (fun h => absurd h (by omega))
    dsimp only
    rw [e2]
    exact H c2 c3 c4 c5 c6 hI.1 hI.2
  · rintro n i ⟨c2, c3, c4, c5, c6⟩ hi hI hw
    dsimp only at hI
    have e7 : a7 (nI i).toNatClampNeg = nI (r i) := by rw [nI_clamp (by omega), (hr i hi).2]
    refine pk_le N i (fun h => absurd h (by omega)) (fun _ => And.intro (pk_in i 64 (by omega)) ?_)
    dsimp only
    rw [e7]
    refine qf_insert hI.1 (by omega) (hr i hi).1 (fun g2 g3 g4 g5 g6 q F => ?_)
    exact nm_r (nI_1 i) (hw (g2, g3, g4, g5, g6) ⟨qf_Q_C q (fun p => qf_Nadd), qf_F_tr hI.2 F⟩)
theorem qf_resize {post : St1 → Prop} {n b' : Nat} {C : Nat → Nat} (hQ : qf_Q f b n C a1 a2 a3 a4 a5 a6) (hb1 : 3 ≤ b') (hb : b' < 7) (hn : n < 2 ^ b')
    (H : ∀ (rc' : Int32) (c1 c2 c3 c4 c5 c6 c7 : Nat → Int32), qf_Q f b' n C c1 c2 c3 c4 c5 c6 → qf_F f a1 a2 a3 a4 a5 a6 c1 c2 c3 c4 c5 c6 → post (rc', c1, c2, c3, c4, c5, c6, c7)) :
    wpX_resize post (rc, a1, a2, a3, a4, a5, a6, a7) (nI f) (nI b') := by
  have hf : f < 2 := by
    obtain ⟨z, d, e, hL, _⟩ := hQ
    exact hL.1.1
  unfold wpX_resize
  dsimp only
  refine qf_readAll hQ (fun r g7 g1 g2 => ?_)
  dsimp only
  refine qf_empty hf (fun c4 c5 c6 k1 k2 => ?_)
  dsimp only
  refine And.intro (pk_in f 2 hf) (nm_r (e' := upd a1 f (nI b')) (by rw [nI_clamp (by omega), qf_i8 _ (by omega)]) ?_)
  refine qf_rs20 (n0 := 0) (C0 := fun _ => 0) (qf_Q_0 hf hb1 hb pk_us pk_us k1) (by omega) g1 (fun e2 e3 e4 e5 e6 q F => ?_)
  rw [Nat.zero_add] at q
  refine H _ _ _ _ _ _ _ _ (qf_Q_C q (fun p => by rw [Nat.zero_add]; exact g2 p)) (qf_F_tr ⟨fun g hg => pk_un hg, fun g hg => pk_un hg, fun _ _ => rfl, fun j hj => (k2 j hj).1, fun j hj => (k2 j hj).2.1, fun j hj => (k2 j hj).2.2⟩ F)
/-- the other filter's content, read and put in -/
theorem qf_po71 {post : Int32 → St1 → Prop} {g b2 n n2 : Nat} {C C2 : Nat → Nat} (hg : g = 1 - f) (hQ : qf_Q f b n C a1 a2 a3 a4 a5 a6) (hQ2 : qf_Q g b2 n2 C2 a1 a2 a3 a4 a5 a6) (hn : n + n2 < 2 ^ b)
    (H : ∀ (rc' : Int32) (c2 c3 c4 c5 c6 c7 : Nat → Int32), qf_Q f b (n + n2) (fun p => C p + C2 p) a1 c2 c3 c4 c5 c6 → qf_F f a1 a2 a3 a4 a5 a6 a1 c2 c3 c4 c5 c6 → post (nI (n + n2)) (rc', a1, c2, c3, c4, c5, c6, c7)) :
    wX_pour_71 post (nI f) rc a1 a2 a3 a4 a5 a6 a7 := by
  have hf : f < 2 := by
    obtain ⟨z, d, e, hL, _⟩ := hQ
    exact hL.1.1
  have e1 : (1 : Int32) - nI f = nI g := by
    rw [hg]
    exact pk_sub (a := 1) (b := f) (by omega)
  unfold wX_pour_71
  rw [e1]
  refine qf_readAll hQ2 (fun r g7 g1 g2 => ?_)
  dsimp only
  refine qf_po81 hf hQ hn g1 (fun e2 e3 e4 e5 e6 q F => H _ _ _ _ _ _ _ (qf_Q_C q (fun p => ?_)) F)
  rw [g2]
theorem qf_pour {post : Int32 → St1 → Prop} {g b2 n n2 : Nat} {C C2 : Nat → Nat} (hg : g = 1 - f) (hQ : qf_Q f b n C a1 a2 a3 a4 a5 a6) (hQ2 : qf_Q g b2 n2 C2 a1 a2 a3 a4 a5 a6)
    (H1 : n + n2 ≤ 63 → ∀ (b' : Nat) (rc' : Int32) (c1 c2 c3 c4 c5 c6 c7 : Nat → Int32), b ≤ b' → b' < 7 → n + n2 < 2 ^ b' → (∀ x, b ≤ x → x < b' → 2 ^ x ≤ n + n2) → qf_Q f b' (n + n2) (fun p => C p + C2 p) c1 c2 c3 c4 c5 c6 → qf_F f a1 a2 a3 a4 a5 a6 c1 c2 c3 c4 c5 c6 → post (nI (n + n2)) (rc', c1, c2, c3, c4, c5, c6, c7))
    (H2 : 63 < n + n2 → post (-2) (rc, a1, a2, a3, a4, a5, a6, a7)) :
    wpX_pour post (rc, a1, a2, a3, a4, a5, a6, a7) (nI f) := by
  have hQ' := hQ
  have hQ2' := hQ2
  obtain ⟨z, d, e, hL, h2, hS, hC⟩ := hQ
  obtain ⟨z2, d2, e2, hL2, h22, hS2, hC2⟩ := hQ2
  have hn := qf_Q_n hQ'
  have hn2 := qf_Q_n hQ2'
  obtain ⟨⟨hf, hb1, hb, h1, hz⟩, hH, hA⟩ := hL
  have hb2 := qf_2b64 b2 hL2.1.2.2.1
  have hbm := qf_2b64 b hb
  have es : a2 0 + a2 1 = nI (n + n2) := by
    by_cases h0 : f = 0
    · have hg1 : g = 1 := by omega
      rw [h0] at h2
      rw [hg1] at h22
      rw [h2, h22, nI_add]
    · have hf1 : f = 1 := by omega
      have hg1 : g = 0 := by omega
      rw [hf1] at h2
      rw [hg1] at h22
      rw [h2, h22, nI_add, Nat.add_comm]
  unfold wpX_pour
  dsimp only
  refine qf_isFilter hf (br_f qf_10 (nm_r es ?_))
  refine pk_le (n + n2) 63 (fun hle => And.intro (pk_in f 2 hf) (nm_r (by rw [nI_clamp (by omega), h1]) ?_)) (fun hgt => H2 hgt)
  refine loop_m (σ := Nat) (fun k x => wX_pour_40 post (nI f) (nI (n + n2)) rc a1 a2 a3 a4 a5 a6 a7 k (nI x)) (fun x => b ≤ x ∧ x < 7 ∧ ∀ y, b ≤ y → y < x → 2 ^ y ≤ n + n2) (fun x => 7 - x) ?_ b ⟨Nat.le_refl b, hb, fun y y1 y2 => absurd y2 (by omega)⟩
  intro k x hI hw
  obtain ⟨i1, i2, i3⟩ := hI
  have hx64 := qf_2b64 x i2
  have hx0 := qf_2p x i2
  have e3 : ((1 : Int32) <<< (nI x &&& 31)) - 1 = nI (2 ^ x - 1) := by
    rw [qf_sl x (by omega)]
    exact pk_sub (a := 2 ^ x) (b := 1) hx0
  refine pk_le (n + n2) (2 ^ x - 1) (fun hx => And.intro (pk_in f 2 hf) ?_) (fun hx => nm_r (nI_1 x) (hw (x + 1) ⟨by omega, ?_, fun y y1 y2 => ?_⟩ (by omega))) rfl e3
  · rw [nI_clamp (by omega), h1]
    refine pk_le x b (fun hxb => ?_) (fun hxb => ?_)
    · have hxe : x = b := by omega
      subst hxe
      exact qf_po71 hg hQ' hQ2' (by omega) (fun rc' c2 c3 c4 c5 c6 c7 q F => H1 hle x rc' _ _ _ _ _ _ _ (Nat.le_refl x) i2 (by omega) i3 q F)
    · refine qf_resize hQ' (by omega) i2 (by omega) (fun rc' c1 c2 c3 c4 c5 c6 c7 q F => ?_)
      dsimp only
      exact qf_po71 hg q (qf_Q_fr hQ2' F (by omega)) (by omega) (fun rc'' e2 e3 e4 e5 e6 e7 q2 F2 => H1 hle x rc'' _ _ _ _ _ _ _ i1 i2 (by omega) i3 q2 (qf_F_tr F F2))
  · apply Classical.byContradiction
    intro hc
    rw [show x = 6 by omega] at hx
    omega
  · by_cases hyx : y = x
    · rw [hyx]
      omega
    · exact i3 y y1 (by omega)
end
end
section
/-! taking one out -/
theorem qf_S_cut {g g' : Nat → Nat} {a c n : Nat} (hac : a ≤ c) (hcn : c ≤ n) (h1 : ∀ t, t < a → g' t = g t) (h0 : ∀ t, a ≤ t → t < c → g' t = 0) (h2 : ∀ t, c ≤ t → t < n → g' t = g t) : qf_S g n = qf_S g' n + qf_S (fun j => g (a + j)) (c - a) := by
  have e1 := qf_S_add g c (n - c)
  have e2 := qf_S_add g' c (n - c)
  rw [show c + (n - c) = n by omega] at e1 e2
  have e3 := qf_S_add g a (c - a)
  rw [show a + (c - a) = c by omega] at e3
  have e4 : qf_S g' c = qf_S g' a := qf_S_ext hac h0
  have e5 : qf_S g' a = qf_S g a := qf_S_congr a h1
  have e6 : qf_S (fun i => g' (c + i)) (n - c) = qf_S (fun i => g (c + i)) (n - c) := qf_S_congr (n - c) (fun i hi => h2 (c + i) (by omega) (by omega))
  omega
def qf_cd (t1 k : Nat) (d : Nat → Nat) (t : Nat) : Nat := if t1 < t ∧ t < k then 0 else d t
theorem qf_cd_in {t1 k t : Nat} {d : Nat → Nat} (h : t1 < t) (h2 : t < k) : qf_cd t1 k d t = 0 := if_pos ⟨h, h2⟩
theorem qf_cd_out {t1 k t : Nat} {d : Nat → Nat} (h : t ≤ t1 ∨ k ≤ t) : qf_cd t1 k d t = d t := if_neg (by omega)
section
variable {rc : Int32} {a1 a2 a3 a4 a5 a6 a7 : Nat → Int32} {f b z : Nat} {d e : Nat → Nat}
theorem qf_cl_L {t1 k : Nat} {c4 c5 c6 : Nat → Int32} (hL : qf_L f b z d e a1 a3 a4 a5 a6) (h1 : t1 < k) (hk : k ≤ 2 ^ b) (hd1 : d t1 = 0) (hdk : d k = 0)
    (hz : ∀ t, t1 < t → t < k → c4 (64 * f + qf_p (2 ^ b) z t) = 0 ∧ c5 (64 * f + qf_p (2 ^ b) z t) = 0 ∧ c6 (64 * f + qf_p (2 ^ b) z t) = 0)
    (ho : ∀ t, t < 2 ^ b → t ≤ t1 ∨ k ≤ t → c4 (64 * f + qf_p (2 ^ b) z t) = a4 (64 * f + qf_p (2 ^ b) z t) ∧ c5 (64 * f + qf_p (2 ^ b) z t) = a5 (64 * f + qf_p (2 ^ b) z t) ∧ c6 (64 * f + qf_p (2 ^ b) z t) = a6 (64 * f + qf_p (2 ^ b) z t)) :
    qf_L f b z (qf_cd t1 k d) e a1 a3 c4 c5 c6 := by
  obtain ⟨hbase, hH, A1, A2, A3, A4⟩ := hL
  refine ⟨hbase, ⟨?_, ?_, ?_⟩, ?_, ?_, ?_, ?_⟩
  · rw [qf_cd_out (by omega)]
    exact hH.1
  · intro t
    have hs := hH.2.1 t
    by_cases c1 : t1 < t + 1 ∧ t + 1 < k
    · rw [qf_cd_in c1.1 c1.2]
      omega
    · rw [qf_cd_out (show t + 1 ≤ t1 ∨ k ≤ t + 1 by omega)]
      by_cases c2 : t1 < t ∧ t < k
      · rw [show t + 1 = k by omega, hdk]
        omega
      · rw [qf_cd_out (show t ≤ t1 ∨ k ≤ t by omega)]
        exact hs
  · intro t ht
    rw [qf_cd_out (by omega)]
    exact hH.2.2 t ht
  · intro t ht hd
    by_cases c2 : t1 < t ∧ t < k
    · rw [qf_cd_in c2.1 c2.2] at hd
      exact absurd hd (by omega)
    · rw [qf_cd_out (show t ≤ t1 ∨ k ≤ t by omega)] at hd ⊢
      exact A1 t ht hd
  · intro t ht
    by_cases c2 : t1 < t ∧ t < k
    · rw [(hz t c2.1 c2.2).1]
      refine qf_fl_f ?_
      rintro ⟨u, u1, u2, u3⟩
      by_cases c3 : u < k
      · rw [qf_cd_in (by omega) c3] at u3
        omega
      · rw [qf_cd_out (by omega)] at u3
        have := qf_H_mo hH (show k ≤ u by omega)
        omega
    · have c2' : t ≤ t1 ∨ k ≤ t := by omega
      rw [(ho t ht c2').1]
      refine qf_fl_iff (A2 t ht) ⟨?_, ?_⟩
      · rintro ⟨u, u1, u2, u3⟩
        refine ⟨u, u1, u2, ?_⟩
        rw [qf_cd_out]
        · exact u3
        · apply Classical.byContradiction
          intro hc
          have := qf_H_mo hH (show t1 ≤ u by omega)
          omega
      · rintro ⟨u, u1, u2, u3⟩
        by_cases c3 : t1 < u ∧ u < k
        · rw [qf_cd_in c3.1 c3.2] at u3
          omega
        · rw [qf_cd_out (show u ≤ t1 ∨ k ≤ u by omega)] at u3
          exact ⟨u, u1, u2, u3⟩
  · intro t ht
    by_cases c2 : t1 < t ∧ t < k
    · rw [(hz t c2.1 c2.2).2.1]
      exact qf_fl_f (qf_co_z (qf_cd_in c2.1 c2.2))
    · have c2' : t ≤ t1 ∨ k ≤ t := by omega
      rw [(ho t ht c2').2.1]
      refine qf_fl_iff (A3 t ht) ?_
      by_cases c3 : t = k
      · subst c3
        exact ⟨fun h => absurd h (qf_co_z hdk), fun h => absurd h (qf_co_z (by rw [qf_cd_out c2']; exact hdk))⟩
      · unfold qf_co
        rw [qf_cd_out c2', qf_cd_out (show t - 1 ≤ t1 ∨ k ≤ t - 1 by omega)]
  · intro t ht
    by_cases c2 : t1 < t ∧ t < k
    · rw [(hz t c2.1 c2.2).2.2, qf_cd_in c2.1 c2.2]
      exact qf_fl_f (by omega)
    · have c2' : t ≤ t1 ∨ k ≤ t := by omega
      rw [(ho t ht c2').2.2, qf_cd_out c2']
      exact A4 t ht
theorem qf_to101 {post : St1 → Prop} {N n0 p : Nat} {C0 r : Nat → Nat} (hQ : qf_Q f b n0 C0 a1 a2 a3 a4 a5 a6) (hN : n0 + N < 2 ^ b) (hr : ∀ j, j < N → r j < 256 ∧ a7 j = nI (r j)) (hp : p < 256) (hpos : 0 < qf_S (qf_N r p) N)
    (H : ∀ c2 c3 c4 c5 c6 : Nat → Int32, qf_Q f b (n0 + N - 1) (fun x => C0 x + qf_S (qf_N r x) N - if x = p then 1 else 0) a1 c2 c3 c4 c5 c6 → qf_F f a1 a2 a3 a4 a5 a6 a1 c2 c3 c4 c5 c6 → post (nI N, a1, c2, c3, c4, c5, c6, a7)) :
    ∃ n, wX_takeOut_101 post (nI f) (nI p) n 0 0 (nI N) a1 a2 a3 a4 a5 a6 a7 := by
  have hm : 2 ^ b ≤ 64 := by
    obtain ⟨z, d, e, hL, _⟩ := hQ
    exact qf_2b64 b hL.1.2.2.1
  refine pk_loop (σ := Nat × (Nat → Int32) × (Nat → Int32) × (Nat → Int32) × (Nat → Int32) × (Nat → Int32)) (fun n i s => wX_takeOut_101 post (nI f) (nI p) n (nI s.1) (nI i) (nI N) a1 s.2.1 s.2.2.1 s.2.2.2.1 s.2.2.2.2.1 s.2.2.2.2.2 a7)
    (fun i s => s.1 ≤ 1 ∧ (s.1 = 0 → qf_S (qf_N r p) i = 0) ∧ (s.1 = 1 → 0 < qf_S (qf_N r p) i) ∧ qf_Q f b (n0 + i - s.1) (fun x => C0 x + qf_S (qf_N r x) i - if x = p then s.1 else 0) a1 s.2.1 s.2.2.1 s.2.2.2.1 s.2.2.2.2.1 s.2.2.2.2.2 ∧ qf_F f a1 a2 a3 a4 a5 a6 a1 s.2.1 s.2.2.1 s.2.2.2.1 s.2.2.2.2.1 s.2.2.2.2.2) N 0 (0, a2, a3, a4, a5, a6) (Nat.zero_le N) ?_ ?_ ?_
  · dsimp only
    refine ⟨by omega, fun _ => rfl, fun h => absurd h (by omega), qf_Q_C hQ (fun x => ?_), qf_F_refl⟩
    show C0 x = C0 x + 0 - _
    split <;> omega
  · rintro n ⟨g, c2, c3, c4, c5, c6⟩ hI
    dsimp only at hI
    obtain ⟨i1, i2, i3, i4, i5⟩ := hI
    have hg : g = 1 := by
      apply Classical.byContradiction
      intro hc
      have := i2 (by omega)
      omega
    subst hg
    exact pk_le N N (fun _ => H c2 c3 c4 c5 c6 i4 i5) (fun h => absurd h (by omega))
  · rintro n i ⟨g, c2, c3, c4, c5, c6⟩ hi hI hw
    dsimp only at hI
    obtain ⟨i1, i2, i3, i4, i5⟩ := hI
    have e7 : a7 (nI i).toNatClampNeg = nI (r i) := by rw [nI_clamp (by omega), (hr i hi).2]
    have hri := (hr i hi).1
    have hS1 : ∀ x, qf_S (qf_N r x) (i + 1) = qf_S (qf_N r x) i + qf_N r x i := fun x => rfl
    have hi1 : g = 1 → 1 ≤ i := by
      intro hg
      apply Classical.byContradiction
      intro hc
      have h8 := i3 hg
      rw [show i = 0 by omega] at h8
      exact absurd h8 (Nat.lt_irrefl 0)
    have key : (g = 0 → r i ≠ p) → wX_takeOut_132 post (wX_takeOut_101 post (nI f) (nI p) n) (nI f) (nI p) (nI g) (nI i) (nI N) a1 c2 c3 c4 c5 c6 a7 := by
      intro hgr
      unfold wX_takeOut_132
      rw [e7]
      refine And.intro (pk_in i 64 (by omega)) (qf_insert i4 (by omega) hri (fun g2 g3 g4 g5 g6 q F => ?_))
      refine nm_r (nI_1 i) (hw (g, g2, g3, g4, g5, g6) ?_)
      dsimp only
      refine ⟨i1, fun hg => ?_, fun hg => ?_, ?_, qf_F_tr i5 F⟩
      · rw [hS1, i2 hg]
        show 0 + qf_N r p i = 0
        unfold qf_N
        rw [if_neg (hgr hg)]
      · have := i3 hg
        rw [hS1]
        omega
      · have hn : n0 + i - g + 1 = n0 + (i + 1) - g := by
          have : g = 0 ∨ g = 1 := by omega
          rcases this with hg | hg
          · omega
          · have := hi1 hg
            omega
        rw [← hn]
        refine qf_Q_C q (fun x => ?_)
        rw [hS1, show qf_N r x i = if r i = x then 1 else 0 from rfl]
        by_cases hxp : x = p
        · rw [if_pos hxp]
          have hge : g ≤ qf_S (qf_N r x) i := by
            have : g = 0 ∨ g = 1 := by omega
            rcases this with hg | hg
            · omega
            · have := i3 hg
              rw [hxp]
              omega
          by_cases hxr : x = r i
          · rw [if_pos hxr, if_pos hxr.symm]
            omega
          · rw [if_neg hxr, if_neg (fun h => hxr h.symm)]
            omega
        · rw [if_neg hxp]
          by_cases hxr : x = r i
          · rw [if_pos hxr, if_pos hxr.symm]
            omega
          · rw [if_neg hxr, if_neg (fun h => hxr h.symm)]
            omega
    refine pk_le N i (fun h => absurd h (by omega)) (fun _ => ?_)
    refine pk_eq g 0 (fun hg => And.intro (pk_in i 64 (by omega)) ?_) (fun hg => key (fun h => absurd h hg))
    rw [e7]
    refine pk_eq (r i) p (fun hrp => ?_) (fun hrp => key (fun _ => hrp))
    refine nm_r (nI_1 i) (hw (1, c2, c3, c4, c5, c6) ?_)
    dsimp only
    refine ⟨by omega, fun h => absurd h (by omega), fun _ => ?_, ?_, i5⟩
    · rw [hS1]
      unfold qf_N
      rw [if_pos hrp]
      omega
    · subst hg
      rw [show n0 + (i + 1) - 1 = n0 + i - 0 by omega]
      refine qf_Q_C i4 (fun x => ?_)
      rw [hS1]
      unfold qf_N
      by_cases hxp : x = p
      · rw [if_pos hxp, if_pos hxp, if_pos (hrp.trans hxp.symm)]
        omega
      · rw [if_neg hxp, if_neg hxp, if_neg (fun h => hxp (h.symm.trans hrp))]
        omega
theorem qf_takeOut {post : St1 → Prop} {n p : Nat} {C : Nat → Nat} (hQ : qf_Q f b n C a1 a2 a3 a4 a5 a6) (hp : p < 256) (hCp : 0 < C p)
    (H : ∀ (rc' : Int32) (c2 c3 c4 c5 c6 c7 : Nat → Int32), qf_Q f b (n - 1) (fun x => C x - if x = p then 1 else 0) a1 c2 c3 c4 c5 c6 → qf_F f a1 a2 a3 a4 a5 a6 a1 c2 c3 c4 c5 c6 → post (rc', a1, c2, c3, c4, c5, c6, c7)) :
    wpX_takeOut post (rc, a1, a2, a3, a4, a5, a6, a7) (nI f) (nI p) := by
  have hn := qf_Q_n hQ
  obtain ⟨z, d, e, hL, h2, hS, hC⟩ := hQ
  have hL' := hL
  obtain ⟨⟨hf, hb1, hb, h1, hz⟩, hH, A1, A2, A3, A4⟩ := hL
  obtain ⟨hm1, hm2, hmK⟩ := qf_2b b hb hb1
  have hsl : p / 2 ^ (8 - b) < 2 ^ b := Nat.div_lt_of_lt_mul (by rw [Nat.mul_comm]; omega)
  obtain ⟨q, hq, hpq⟩ := qf_p_surj hz hsl
  have hdq : 1 ≤ d q := by
    have h8 : 0 < qf_S (qf_ct d e p) (2 ^ b) := by rw [hC]; exact hCp
    obtain ⟨t, ht, hct⟩ := qf_S_pos _ h8
    have h9 : 1 ≤ d t ∧ e t = p := by
      apply Classical.byContradiction
      intro hc
      rw [qf_ct_0 hc] at hct
      omega
    have h10 := qf_home hL' ht h9.1 hq hpq (by rw [h9.2])
    exact qf_nm_oc hH ⟨t, by omega, ht, h10⟩
  have hXi : ∀ t u, t < 2 ^ b → u < 2 ^ b → t ≠ u → 64 * f + qf_p (2 ^ b) z t ≠ 64 * f + qf_p (2 ^ b) z u := by
    intro t u ht hu hn he
    exact hn (qf_p_inj hz ht hu (by omega))
  have hX : ∀ t, (64 * f + qf_p (2 ^ b) z t) / 64 = f := by
    intro t
    have := qf_pl (z := z) (t := t) hb
    omega
  unfold wpX_takeOut
  dsimp only
  refine qf_slotOf hf hb h1 hp ?_
  rw [← hpq]
  refine loop_m (σ := Nat) (fun n t => wX_takeOut_10 post (nI f) (nI p) rc a1 a2 a3 a4 a5 a6 a7 n (nI (qf_p (2 ^ b) z t))) (fun t => t ≤ q ∧ ∀ u, t < u → u ≤ q → 1 ≤ d u) (fun t => t) ?_ q ⟨Nat.le_refl q, fun u u1 u2 => absurd u2 (by omega)⟩
  intro n' t1 hI hw
  obtain ⟨i1, i2⟩ := hI
  show wX_takeOut_10 post (nI f) (nI p) rc a1 a2 a3 a4 a5 a6 a7 (n' + 1) (nI (qf_p (2 ^ b) z t1))
  rw [wX_takeOut_10]
  refine qf_isFree hL' (show t1 ≤ 2 ^ b by omega) ?_ ?_
  · intro hd1
    refine br_f qf_10 (qf_afterP hf hb h1 ?_)
    have ht1q : t1 < q := by
      apply Classical.byContradiction
      intro hc
      rw [show t1 = q by omega] at hd1
      omega
    refine qf_readStretch (t0 := t1 + 1) (c := 0) hL' (by omega) (by omega) (by rw [show t1 + 1 - 1 = t1 by omega]; exact hd1) (by omega) (fun k g7 k1 k2 k3 k4 k5 k6 => ?_)
    dsimp only
    have hqk : q < k := by
      apply Classical.byContradiction
      intro hc
      have := i2 k (by omega) (by omega)
      omega
    have hN : 0 + (k - (t1 + 1)) = k - (t1 + 1) := by omega
    rw [hN]
    refine loop_m (σ := Nat × (Nat → Int32) × (Nat → Int32) × (Nat → Int32)) (fun n s => wX_takeOut_55 post (nI f) (nI p) (nI (qf_p (2 ^ b) z k)) n (nI (qf_p (2 ^ b) z s.1)) (nI (k - (t1 + 1))) a1 a2 a3 s.2.1 s.2.2.1 s.2.2.2 g7)
      (fun s => t1 + 1 ≤ s.1 ∧ s.1 ≤ k ∧ (∀ u, t1 < u → u < s.1 → s.2.1 (64 * f + qf_p (2 ^ b) z u) = 0 ∧ s.2.2.1 (64 * f + qf_p (2 ^ b) z u) = 0 ∧ s.2.2.2 (64 * f + qf_p (2 ^ b) z u) = 0) ∧
        (∀ u, u < 2 ^ b → u ≤ t1 ∨ s.1 ≤ u → s.2.1 (64 * f + qf_p (2 ^ b) z u) = a4 (64 * f + qf_p (2 ^ b) z u) ∧ s.2.2.1 (64 * f + qf_p (2 ^ b) z u) = a5 (64 * f + qf_p (2 ^ b) z u) ∧ s.2.2.2 (64 * f + qf_p (2 ^ b) z u) = a6 (64 * f + qf_p (2 ^ b) z u)) ∧
        (∀ j, j / 64 ≠ f → s.2.1 j = a4 j ∧ s.2.2.1 j = a5 j ∧ s.2.2.2 j = a6 j)) (fun s => k - s.1) ?_ (t1 + 1, a4, a5, a6) ?_
    · clear hw n'
      rintro n' ⟨t, c4, c5, c6⟩ hI hw
      dsimp only at hI
      obtain ⟨j1, j2, j3, j4, j5⟩ := hI
      show wX_takeOut_55 post (nI f) (nI p) (nI (qf_p (2 ^ b) z k)) (n' + 1) (nI (qf_p (2 ^ b) z t)) (nI (k - (t1 + 1))) a1 a2 a3 c4 c5 c6 g7
      have hPt : qf_p (2 ^ b) z t < 64 := qf_pl hb
      have hPk : qf_p (2 ^ b) z k < 64 := qf_pl hb
      refine pk_eq (qf_p (2 ^ b) z t) (qf_p (2 ^ b) z k) (fun he => ?_) (fun he => ?_)
      · have htk : t = k := by
          apply Classical.byContradiction
          intro hc
          by_cases hkm : k < 2 ^ b
          · exact hc (qf_p_inj hz (by omega) hkm he)
          · rw [show k = 2 ^ b by omega, qf_p_m] at he
            have := qf_p_inj hz (by omega) (by omega) he
            omega
        subst htk
        have hL2 := qf_cl_L hL' (show t1 < t by omega) k2 hd1 k3 j3 j4
        have hcut := qf_S_cut (g := qf_oc d) (g' := qf_oc (qf_cd t1 t d)) (a := t1 + 1) (c := t) (n := 2 ^ b) j1 k2
          (fun u hu => by unfold qf_oc; rw [qf_cd_out (by omega)]) (fun u u1 u2 => qf_oc_0 (qf_cd_in (by omega) u2)) (fun u u1 u2 => by unfold qf_oc; rw [qf_cd_out (by omega)])
        rw [hS, qf_S_one (g := fun j => qf_oc d (t1 + 1 + j)) (t - (t1 + 1)) (fun j hj => qf_oc_1 (k4 (t1 + 1 + j) (by omega) (by omega)))] at hcut
        have hcutC : ∀ x, C x = qf_S (qf_ct (qf_cd t1 t d) e x) (2 ^ b) + qf_S (qf_N (fun j => e (t1 + 1 + j)) x) (t - (t1 + 1)) := by
          intro x
          rw [← hC x]
          have h8 := qf_S_cut (g := qf_ct d e x) (g' := qf_ct (qf_cd t1 t d) e x) (a := t1 + 1) (c := t) (n := 2 ^ b) j1 k2
            (fun u hu => by unfold qf_ct; rw [qf_cd_out (by omega)]) (fun u u1 u2 => qf_ct_0 (fun h => by rw [qf_cd_in (by omega) u2] at h; omega)) (fun u u1 u2 => by unfold qf_ct; rw [qf_cd_out (by omega)])
          rw [h8]
          congr 1
          apply qf_S_congr
          intro j hj
          have hdj := k4 (t1 + 1 + j) (by omega) (by omega)
          unfold qf_ct qf_N
          by_cases hx : e (t1 + 1 + j) = x
          · rw [if_pos ⟨hdj, hx⟩, if_pos hx]
          · rw [if_neg (fun h => hx h.2), if_neg hx]
        have hC0p : qf_S (qf_ct (qf_cd t1 t d) e p) (2 ^ b) = 0 := by
          apply qf_S_zero
          intro u hu
          apply qf_ct_0
          rintro ⟨g1, g2⟩
          by_cases c3 : t1 < u ∧ u < t
          · rw [qf_cd_in c3.1 c3.2] at g1
            omega
          · rw [qf_cd_out (show u ≤ t1 ∨ t ≤ u by omega)] at g1
            have h10 := qf_home hL' hu g1 hq hpq (by rw [g2])
            by_cases c4 : t ≤ u
            · have := qf_H_mo hH c4
              omega
            · omega
        have hQ0 : qf_Q f b (qf_S (qf_oc (qf_cd t1 t d)) (2 ^ b)) (fun x => qf_S (qf_ct (qf_cd t1 t d) e x) (2 ^ b)) a1 (upd a2 f (nI (qf_S (qf_oc (qf_cd t1 t d)) (2 ^ b)))) a3 c4 c5 c6 := ⟨z, qf_cd t1 t d, e, hL2, pk_us, rfl, fun _ => rfl⟩
        have hbl := qf_2b64 b hb
        refine And.intro (pk_in f 2 hf) (And.intro (pk_in f 2 hf) (nm_r (e' := upd a2 f (nI (qf_S (qf_oc (qf_cd t1 t d)) (2 ^ b)))) ?_ ?_))
        · rw [nI_clamp (by omega), h2, pk_sub (by omega), show n - (t - (t1 + 1)) = qf_S (qf_oc (qf_cd t1 t d)) (2 ^ b) by omega, qf_i8 _ (by omega)]
        · refine qf_to101 (r := fun j => e (t1 + 1 + j)) hQ0 (by omega) (fun j hj => ?_) hp ?_ (fun e2 e3 e4 e5 e6 q2 F2 => ?_)
          · have h8 := k6 (t1 + 1 + j) (by omega) (by omega)
            rw [show 0 + (t1 + 1 + j - (t1 + 1)) = j by omega] at h8
            exact ⟨(A1 (t1 + 1 + j) (by omega) (k4 _ (by omega) (by omega))).1, h8⟩
          · have := hcutC p
            omega
          · refine H _ _ _ _ _ _ _ ?_ (qf_F_tr ⟨fun _ _ => rfl, fun g hg => pk_un hg, fun _ _ => rfl, fun j hj => (j5 j hj).1, fun j hj => (j5 j hj).2.1, fun j hj => (j5 j hj).2.2⟩ F2)
            rw [show n - 1 = qf_S (qf_oc (qf_cd t1 t d)) (2 ^ b) + (t - (t1 + 1)) - 1 by omega]
            exact qf_Q_C q2 (fun x => by rw [hcutC x])
      · have htk : t < k := by
          apply Classical.byContradiction
          intro hc
          exact he (by rw [show t = k by omega])
        refine qf_free hf hPt (qf_afterP hf hb h1 (hw (t + 1, upd c4 (64 * f + qf_p (2 ^ b) z t) 0, upd c5 (64 * f + qf_p (2 ^ b) z t) 0, upd c6 (64 * f + qf_p (2 ^ b) z t) 0) ?_ (by dsimp only; omega)))
        dsimp only
        refine ⟨by omega, by omega, fun u u1 u2 => ?_, fun u u1 u2 => ?_, fun j hj => ?_⟩
        · by_cases hu : u = t
          · rw [hu, pk_us, pk_us, pk_us]
            exact ⟨rfl, rfl, rfl⟩
          · have hne := hXi u t (by omega) (by omega) hu
            rw [pk_un hne, pk_un hne, pk_un hne]
            exact j3 u u1 (by omega)
        · have hne := hXi u t (by omega) (by omega) (by omega)
          rw [pk_un hne, pk_un hne, pk_un hne]
          exact j4 u u1 (by omega)
        · have hne : j ≠ 64 * f + qf_p (2 ^ b) z t := by
            intro hc
            rw [hc] at hj
            exact hj (hX t)
          rw [pk_un hne, pk_un hne, pk_un hne]
          exact j5 j hj
    · dsimp only
      exact ⟨Nat.le_refl _, by omega, fun u u1 u2 => absurd u2 (by omega), fun u u1 u2 => ⟨rfl, rfl, rfl⟩, fun j hj => ⟨rfl, rfl, rfl⟩⟩
  · intro hd
    refine br_t rfl ?_
    have ht0 : t1 ≠ 0 := by
      intro hc
      rw [hc, hH.1] at hd
      omega
    obtain ⟨t', rfl⟩ : ∃ t', t1 = t' + 1 := ⟨t1 - 1, by omega⟩
    refine qf_beforeP hf hb h1 (hw t' ⟨by omega, fun u u1 u2 => ?_⟩ (by omega))
    by_cases hu : u = t' + 1
    · rw [hu]; exact hd
    · exact i2 u (by omega) u2
end
end
section
/-! the calls, but for print -/
section
variable {rc : Int32} {a1 a2 a3 a4 a5 a6 a7 : Nat → Int32} {f b n : Nat} {C : Nat → Nat}
theorem qf_Qb (hQ : qf_Q f b n C a1 a2 a3 a4 a5 a6) : f < 2 ∧ 3 ≤ b ∧ b < 7 ∧ a1 f = nI b ∧ a2 f = nI n := by
  obtain ⟨z, d, e, hL, h2, hS, hC⟩ := hQ
  exact ⟨hL.1.1, hL.1.2.1, hL.1.2.2.1, hL.1.2.2.2.1, h2⟩
theorem qf_timesQ {post : Int32 → Prop} {p : Nat} (hQ : qf_Q f b n C a1 a2 a3 a4 a5 a6) (hp : p < 256) (H : post (nI (C p))) : wpX_timesOf post (rc, a1, a2, a3, a4, a5, a6, a7) (nI f) (nI p) := by
  obtain ⟨z, d, e, hL, h2, hS, hC⟩ := hQ
  exact qf_timesOf hL hp (by rw [hC]; exact H)
theorem qf_times {post : Int32 → Prop} {p : Nat} (hQ : qf_Q f b n C a1 a2 a3 a4 a5 a6) (hp : p < 256) (H : post (nI (C p))) : wpX_times post (rc, a1, a2, a3, a4, a5, a6, a7) (nI f) (nI p) := by
  obtain ⟨hf, hb1, hb, h1, h2⟩ := qf_Qb hQ
  unfold wpX_times
  dsimp only
  refine qf_isFilter hf (br_f qf_10 (br_f (nI_pos (by omega)) ?_))
  exact pk_le p 255 (fun _ => qf_timesQ hQ hp H) (fun h => absurd h (by omega))
theorem qf_count {post : Int32 → Prop} (hQ : qf_Q f b n C a1 a2 a3 a4 a5 a6) (H : post (nI n)) : wpX_count post (rc, a1, a2, a3, a4, a5, a6, a7) (nI f) := by
  obtain ⟨hf, hb1, hb, h1, h2⟩ := qf_Qb hQ
  unfold wpX_count
  dsimp only
  refine qf_isFilter hf (br_f qf_10 (And.intro (pk_in f 2 hf) ?_))
  rw [nI_clamp (by omega), h2]
  exact H
theorem qf_size {post : Int32 → Prop} (hQ : qf_Q f b n C a1 a2 a3 a4 a5 a6) (H : post (nI (2 ^ b))) : wpX_size post (rc, a1, a2, a3, a4, a5, a6, a7) (nI f) := by
  obtain ⟨hf, hb1, hb, h1, h2⟩ := qf_Qb hQ
  unfold wpX_size
  dsimp only
  exact qf_isFilter hf (br_f qf_10 (qf_slots hf hb h1 H))
theorem qf_add {post : Int32 → St1 → Prop} {x : Int32} (hQ : qf_Q f b n C a1 a2 a3 a4 a5 a6) (H0 : n + 1 = 2 ^ b → post (-2) (rc, a1, a2, a3, a4, a5, a6, a7))
    (H1 : n + 1 < 2 ^ b → ∀ c2 c3 c4 c5 c6 : Nat → Int32, qf_Q f b (n + 1) (fun y => C y + if y = qf_pr x then 1 else 0) a1 c2 c3 c4 c5 c6 → qf_F f a1 a2 a3 a4 a5 a6 a1 c2 c3 c4 c5 c6 → post (nI (C (qf_pr x) + 1)) (rc, a1, c2, c3, c4, c5, c6, a7)) :
    wpX_add post (rc, a1, a2, a3, a4, a5, a6, a7) (nI f) x := by
  obtain ⟨hf, hb1, hb, h1, h2⟩ := qf_Qb hQ
  have hn := qf_Q_n hQ
  have hm := qf_2b64 b hb
  have hp := qf_pr_lt x
  unfold wpX_add
  dsimp only
  refine qf_isFilter hf (br_f qf_10 (And.intro (pk_in f 2 hf) (qf_slots hf hb h1 ?_)))
  rw [nI_clamp (by omega), h2]
  refine pk_lt n (2 ^ b - 1) (fun hlt => ?_) (fun hge => H0 (by omega)) rfl (pk_sub (a := 2 ^ b) (b := 1) (by omega))
  unfold wpX_printOf
  dsimp only
  rw [qf_pr_e]
  refine qf_insert hQ (by omega) hp (fun c2 c3 c4 c5 c6 q F => ?_)
  dsimp only
  refine qf_timesQ q hp ?_
  rw [if_pos rfl]
  exact H1 (by omega) c2 c3 c4 c5 c6 q F
theorem qf_remove {post : Int32 → St1 → Prop} {x : Int32} (hQ : qf_Q f b n C a1 a2 a3 a4 a5 a6) (hC : C (qf_pr x) < 2 ^ 30) (H0 : C (qf_pr x) = 0 → post (-3) (rc, a1, a2, a3, a4, a5, a6, a7))
    (H1 : 0 < C (qf_pr x) → ∀ (rc' : Int32) (c2 c3 c4 c5 c6 c7 : Nat → Int32), qf_Q f b (n - 1) (fun y => C y - if y = qf_pr x then 1 else 0) a1 c2 c3 c4 c5 c6 → qf_F f a1 a2 a3 a4 a5 a6 a1 c2 c3 c4 c5 c6 → post (nI (C (qf_pr x) - 1)) (rc', a1, c2, c3, c4, c5, c6, c7)) :
    wpX_remove post (rc, a1, a2, a3, a4, a5, a6, a7) (nI f) x := by
  obtain ⟨hf, hb1, hb, h1, h2⟩ := qf_Qb hQ
  have hp := qf_pr_lt x
  unfold wpX_remove
  dsimp only
  refine qf_isFilter hf (br_f qf_10 ?_)
  unfold wpX_printOf
  dsimp only
  rw [qf_pr_e]
  refine qf_timesQ hQ hp ?_
  refine pk_eq (C (qf_pr x)) 0 (fun h => H0 h) (fun h => ?_)
  refine qf_takeOut hQ hp (by omega) (fun rc' c2 c3 c4 c5 c6 c7 q F => ?_)
  dsimp only
  rw [show (1 : Int32) = nI 1 from rfl, pk_sub (by omega)]
  exact H1 (by omega) rc' c2 c3 c4 c5 c6 c7 q F
theorem qf_pw {b : Nat} (h : 1 ≤ b) : 2 ^ b = 2 * 2 ^ (b - 1) := by
  obtain ⟨c, rfl⟩ : ∃ c, b = c + 1 := ⟨b - 1, by omega⟩
  rw [Nat.pow_succ, Nat.mul_comm]
  rfl
theorem qf_grow {post : Int32 → St1 → Prop} (hQ : qf_Q f b n C a1 a2 a3 a4 a5 a6) (H0 : b = 6 → post (-2) (rc, a1, a2, a3, a4, a5, a6, a7))
    (H1 : b < 6 → ∀ (rc' : Int32) (c1 c2 c3 c4 c5 c6 c7 : Nat → Int32), qf_Q f (b + 1) n C c1 c2 c3 c4 c5 c6 → qf_F f a1 a2 a3 a4 a5 a6 c1 c2 c3 c4 c5 c6 → post (nI (2 ^ (b + 1))) (rc', c1, c2, c3, c4, c5, c6, c7)) :
    wpX_grow post (rc, a1, a2, a3, a4, a5, a6, a7) (nI f) := by
  obtain ⟨hf, hb1, hb, h1, h2⟩ := qf_Qb hQ
  have hn := qf_Q_n hQ
  unfold wpX_grow
  dsimp only
  refine qf_isFilter hf (br_f qf_10 (And.intro (pk_in f 2 hf) ?_))
  rw [nI_clamp (by omega), h1]
  refine pk_eq b 6 (fun h => H0 h) (fun h => And.intro (pk_in f 2 hf) ?_)
  rw [nI_1]
  have hp := qf_pw (b := b + 1) (by omega)
  rw [show b + 1 - 1 = b by omega] at hp
  refine qf_resize hQ (by omega) (by omega) (by omega) (fun rc' c1 c2 c3 c4 c5 c6 c7 q F => ?_)
  dsimp only
  exact qf_slots hf (by omega) (qf_Qb q).2.2.2.1 (H1 (by omega) rc' c1 c2 c3 c4 c5 c6 c7 q F)
theorem qf_shrink {post : Int32 → St1 → Prop} (hQ : qf_Q f b n C a1 a2 a3 a4 a5 a6) (H0 : b = 3 ∨ 2 ^ b / 2 - 1 < n → post (-3) (rc, a1, a2, a3, a4, a5, a6, a7))
    (H1 : 3 < b → n ≤ 2 ^ b / 2 - 1 → ∀ (rc' : Int32) (c1 c2 c3 c4 c5 c6 c7 : Nat → Int32), qf_Q f (b - 1) n C c1 c2 c3 c4 c5 c6 → qf_F f a1 a2 a3 a4 a5 a6 c1 c2 c3 c4 c5 c6 → post (nI (2 ^ (b - 1))) (rc', c1, c2, c3, c4, c5, c6, c7)) :
    wpX_shrink post (rc, a1, a2, a3, a4, a5, a6, a7) (nI f) := by
  obtain ⟨hf, hb1, hb, h1, h2⟩ := qf_Qb hQ
  have hn := qf_Q_n hQ
  obtain ⟨hm1, hm2, _⟩ := qf_2b b hb hb1
  unfold wpX_shrink
  dsimp only
  refine qf_isFilter hf (br_f qf_10 (And.intro (pk_in f 2 hf) ?_))
  rw [nI_clamp (by omega), h1, h2]
  refine pk_eq b 3 (fun h => H0 (Or.inl h)) (fun h => And.intro (pk_in f 2 hf) ?_)
  refine qf_slots hf hb h1 ?_
  have e1 : nI (2 ^ b) / 2 = nI (2 ^ b / 2) := pk_div (d := 2) (by omega) (by omega) (by omega)
  have e2 : nI (2 ^ b) / 2 - 1 = nI (2 ^ b / 2 - 1) := by
    rw [e1]
    exact pk_sub (b := 1) (by omega)
  refine And.intro (by decide) (pk_le n (2 ^ b / 2 - 1) (fun hle => And.intro (pk_in f 2 hf) ?_) (fun hgt => H0 (Or.inr hgt)) rfl e2)
  rw [show nI b - 1 = nI (b - 1) from pk_sub (b := 1) (by omega)]
  have hp := qf_pw (b := b) (by omega)
  refine qf_resize hQ (by omega) (by omega) (by omega) (fun rc' c1 c2 c3 c4 c5 c6 c7 q F => ?_)
  dsimp only
  exact qf_slots hf (by omega) (qf_Qb q).2.2.2.1 (H1 (by omega) hle rc' c1 c2 c3 c4 c5 c6 c7 q F)
end
end
section
/-! print: the k-th of what is read, in order -/
theorem qf_S_swap (g : Nat → Nat → Nat) (v : Nat) : ∀ m, qf_S (fun x => qf_S (g x) m) v = qf_S (fun t => qf_S (fun x => g x t) v) m
  | 0 => qf_S_zero v (fun _ _ => rfl)
  | m + 1 => by
    show qf_S (fun x => qf_S (g x) m + g x m) v = qf_S (fun t => qf_S (fun x => g x t) v) m + qf_S (fun x => g x m) v
    rw [qf_S_plus, qf_S_swap g v m]
theorem qf_S_ind (P : Prop) [Decidable P] (y : Nat) : ∀ v, qf_S (fun x => if P ∧ y = x then 1 else 0) v = if P ∧ y < v then 1 else 0
  | 0 => by
    show 0 = _
    rw [if_neg (fun h => absurd h.2 (by omega))]
  | v + 1 => by
    show qf_S (fun x => if P ∧ y = x then 1 else 0) v + (if P ∧ y = v then 1 else 0) = _
    rw [qf_S_ind P y v]
    by_cases hP : P
    · by_cases h1 : y < v
      · rw [if_pos ⟨hP, h1⟩, if_neg (fun h => by omega), if_pos ⟨hP, by omega⟩]
      · by_cases h2 : y = v
        · rw [if_neg (fun h => h1 h.2), if_pos ⟨hP, h2⟩, if_pos ⟨hP, by omega⟩]
        · rw [if_neg (fun h => h1 h.2), if_neg (fun h => h2 h.2), if_neg (fun h => by omega)]
    · rw [if_neg (fun h => hP h.1), if_neg (fun h => hP h.1), if_neg (fun h => hP h.1)]
theorem qf_S_lt {r C : Nat → Nat} {n : Nat} (h : ∀ p, qf_S (qf_N r p) n = C p) (v : Nat) : qf_S (fun j => if r j < v then 1 else 0) n = qf_S C v := by
  have e1 : qf_S C v = qf_S (fun x => qf_S (qf_N r x) n) v := qf_S_congr v (fun x _ => (h x).symm)
  rw [e1, qf_S_swap]
  apply qf_S_congr
  intro j hj
  have h2 := qf_S_ind True (r j) v
  have e2 : qf_S (fun x => qf_N r x j) v = qf_S (fun x => if True ∧ r j = x then 1 else 0) v := by
    apply qf_S_congr
    intro x hx
    unfold qf_N
    by_cases hr : r j = x
    · rw [if_pos hr, if_pos ⟨trivial, hr⟩]
    · rw [if_neg hr, if_neg (fun h => hr h.2)]
  rw [e2, h2]
  by_cases hv : r j < v
  · rw [if_pos hv, if_pos ⟨trivial, hv⟩]
  · rw [if_neg hv, if_neg (fun h => hv h.2)]
section
variable {rc : Int32} {a1 a2 a3 a4 a5 a6 a7 : Nat → Int32} {f b n : Nat} {C : Nat → Nat}
theorem qf_Q_sum (hQ : qf_Q f b n C a1 a2 a3 a4 a5 a6) (v : Nat) : qf_S C v ≤ n := by
  obtain ⟨z, d, e, hL, h2, hS, hC⟩ := hQ
  have e1 : qf_S C v = qf_S (fun x => qf_S (qf_ct d e x) (2 ^ b)) v := qf_S_congr v (fun x _ => (hC x).symm)
  rw [e1, qf_S_swap, ← hS]
  apply qf_S_lem
  intro t ht
  show qf_S (fun x => if 1 ≤ d t ∧ e t = x then 1 else 0) v ≤ if 1 ≤ d t then 1 else 0
  rw [qf_S_ind]
  by_cases h1 : 1 ≤ d t
  · rw [if_pos h1]
    split <;> omega
  · rw [if_neg (fun h => h1 h.1), if_neg h1]
    exact Nat.le_refl 0
theorem qf_print {post : Int32 → St1 → Prop} {k p : Nat} (hQ : qf_Q f b n C a1 a2 a3 a4 a5 a6) (hk : qf_S C p ≤ k) (hk2 : k < qf_S C (p + 1))
    (H : ∀ (rc' : Int32) (c7 : Nat → Int32), post (nI p) (rc', a1, a2, a3, a4, a5, a6, c7)) : wpX_print post (rc, a1, a2, a3, a4, a5, a6, a7) (nI f) (nI k) := by
  obtain ⟨hf, hb1, hb, h1, h2⟩ := qf_Qb hQ
  have hn := qf_Q_n hQ
  have hm := qf_2b64 b hb
  have hs := qf_Q_sum hQ (p + 1)
  have hCp : qf_S C (p + 1) = qf_S C p + C p := rfl
  unfold wpX_print
  dsimp only
  refine qf_isFilter hf (br_f qf_10 (br_f (nI_pos (by omega)) (And.intro (pk_in f 2 hf) ?_)))
  rw [nI_clamp (by omega), h2]
  refine pk_lt k n (fun hkn => ?_) (fun h => absurd h (by omega))
  refine qf_readAll hQ (fun r g7 g1 g2 => ?_)
  dsimp only
  have e7 : ∀ j, j < n → g7 (nI j).toNatClampNeg = nI (r j) := by
    intro j hj
    rw [nI_clamp (by omega), (g1 j hj).2]
  refine loop_m (σ := Nat) (fun m i => wX_print_34 post (nI k) (nI n) a1 a2 a3 a4 a5 a6 g7 m (nI i)) (fun i => i ≤ n ∧ ∀ j, j < i → r j ≠ p) (fun i => n - i) ?_ 0 ⟨Nat.zero_le n, fun j hj => absurd hj (by omega)⟩
  intro m i hI hw
  obtain ⟨i1, i2⟩ := hI
  show wX_print_34 post (nI k) (nI n) a1 a2 a3 a4 a5 a6 g7 (m + 1) (nI i)
  refine pk_le n i (fun hni => ?_) (fun hin => ?_)
  · have h8 : qf_S (qf_N r p) n = 0 := by
      apply qf_S_zero
      intro j hj
      unfold qf_N
      rw [if_neg (i2 j (by omega))]
    rw [g2] at h8
    omega
  · have hri := (g1 i hin).1
    have nxt : r i ≠ p → wX_print_34 post (nI k) (nI n) a1 a2 a3 a4 a5 a6 g7 m (nI (i + 1)) := by
      intro hne
      refine hw (i + 1) ⟨by omega, fun j hj => ?_⟩ (by omega)
      by_cases hji : j = i
      · rw [hji]; exact hne
      · exact i2 j (by omega)
    have hSM := qf_S_lt g2 (r i)
    have hEQ := g2 (r i)
    have hCr : qf_S C (r i + 1) = qf_S C (r i) + C (r i) := rfl
    have hsr := qf_Q_sum hQ (r i + 1)
    have bSM : ∀ j, j ≤ n → qf_S (fun x => if r x < r i then 1 else 0) j ≤ n := by
      intro j hj
      have h8 : qf_S (fun x => if r x < r i then 1 else 0) j ≤ j := qf_S_le j (fun x _ => by split <;> omega)
      omega
    have bEQ : ∀ j, j ≤ n → qf_S (qf_N r (r i)) j ≤ n := by
      intro j hj
      have h8 : qf_S (qf_N r (r i)) j ≤ j := qf_S_le j (fun x _ => by unfold qf_N; split <;> omega)
      omega
    refine pk_loop (σ := Unit) (fun m' j _ => wX_print_51 post (wX_print_34 post (nI k) (nI n) a1 a2 a3 a4 a5 a6 g7 m) (nI k) (nI i) (nI n) a1 a2 a3 a4 a5 a6 g7 m' (nI (qf_S (fun x => if r x < r i then 1 else 0) j)) (nI (qf_S (qf_N r (r i)) j)) (nI j)) (fun _ _ => True) n 0 () (Nat.zero_le n) trivial ?_ ?_
    · intro m' _ _
      have b1 := bSM n (Nat.le_refl n)
      have b2 := bEQ n (Nat.le_refl n)
      refine pk_le n n (fun _ => ?_) (fun h => absurd h (by omega))
      refine pk_lt k (qf_S (fun x => if r x < r i then 1 else 0) n) (fun hlt => nm_r (nI_1 i) (nxt ?_)) (fun hge => ?_)
      · intro hc
        rw [hc] at hSM hlt
        omega
      · refine pk_le (qf_S (fun x => if r x < r i then 1 else 0) n + qf_S (qf_N r (r i)) n) k (fun hle => nm_r (nI_1 i) (nxt ?_)) (fun hgt => And.intro (pk_in i 64 (by omega)) ?_) (nI_add _ _)
        · intro hc
          rw [hc] at hSM hEQ hle
          omega
        · rw [e7 i hin]
          have hrp : r i = p := by
            by_cases hlt : r i < p
            · have := qf_S_mono (g := C) (show r i + 1 ≤ p by omega)
              omega
            · by_cases hgt2 : p < r i
              · have := qf_S_mono (g := C) (show p + 1 ≤ r i by omega)
                omega
              · omega
          rw [hrp]
          exact H _ _
    · intro m' j _ hj _ hw'
      have hrj := (g1 j hj).1
      have key : ∀ y : Nat, y = qf_S (fun x => if r x < r i then 1 else 0) (j + 1) → wX_print_79 post (wX_print_34 post (nI k) (nI n) a1 a2 a3 a4 a5 a6 g7 m) (wX_print_51 post (wX_print_34 post (nI k) (nI n) a1 a2 a3 a4 a5 a6 g7 m) (nI k) (nI i) (nI n) a1 a2 a3 a4 a5 a6 g7 m') (nI k) (nI i) (nI y) (nI (qf_S (qf_N r (r i)) j)) (nI j) (nI n) a1 a2 a3 a4 a5 a6 g7 := by
        intro y hy
        have nx := hw' () trivial
        rw [← hy, show qf_S (qf_N r (r i)) (j + 1) = qf_S (qf_N r (r i)) j + qf_N r (r i) j from rfl] at nx
        unfold wX_print_79
        rw [e7 i hin, e7 j hj]
        refine And.intro (pk_in j 64 (by omega)) (And.intro (pk_in i 64 (by omega)) (pk_eq (r j) (r i) (fun he => ?_) (fun he => ?_)))
        · rw [show qf_N r (r i) j = 1 from if_pos he] at nx
          exact nm_r (nI_1 _) (nm_r (nI_1 j) nx)
        · rw [show qf_N r (r i) j = 0 from if_neg he] at nx
          exact nm_r (nI_1 j) nx
      have hSj : qf_S (fun x => if r x < r i then 1 else 0) (j + 1) = qf_S (fun x => if r x < r i then 1 else 0) j + (if r j < r i then 1 else 0) := rfl
      refine pk_le n j (fun h => absurd h (by omega)) (fun _ => And.intro (pk_in j 64 (by omega)) (And.intro (pk_in i 64 (by omega)) ?_))
      rw [e7 i hin, e7 j hj]
      refine pk_le (r i) (r j) (fun hle => key _ ?_) (fun hlt => nm_r (nI_1 _) (key _ ?_))
      · rw [hSj, if_neg (by omega)]
        rfl
      · rw [hSj, if_pos hlt]
end
end
section
/-! ===== lN n to 2^64: shifts, and, or, masks, one bit ===== -/
theorem wb_tb (n : Nat) : (lN n).toBitVec = BitVec.ofNat 64 n := rfl
theorem wb_inj {a b : Int64} (h : a.toBitVec = b.toBitVec) : a = b := Int64.toBitVec_inj.mp h
theorem wb_tn {n : Nat} (h : n < 2 ^ 64) : (lN n).toBitVec.toNat = n := by rw [wb_tb, BitVec.toNat_ofNat, Nat.mod_eq_of_lt h]
theorem wb_of (x : Int64) : ∃ n, n < 2 ^ 64 ∧ x = lN n := ⟨x.toBitVec.toNat, x.toBitVec.isLt, wb_inj (by rw [wb_tb]; simp)⟩
theorem wb_of32 (x : Int32) : ∃ n, n < 2 ^ 32 ∧ x = nI n := ⟨x.toBitVec.toNat, x.toBitVec.isLt, Int32.toBitVec_inj.mp (by show _ = BitVec.ofNat 32 _; simp)⟩
theorem wb_c : ∀ k, k < 64 → ((nI k).toInt64 &&& 63) = lN k := by decide +kernel
theorem wb_cu : ∀ k, k < 64 → ((nI k).toInt64.toUInt64 &&& Int64.toUInt64 63) = UInt64.ofNat k := by decide +kernel
theorem wb_sm : ∀ k, k < 64 → (BitVec.ofNat 64 k).smod 64 = BitVec.ofNat 64 k := by decide +kernel
theorem wb_pw {a b : Nat} (h : a ≤ b) : 2 ^ b = 2 ^ a * 2 ^ (b - a) := by rw [← Nat.pow_add]; congr 1; omega
theorem wb_lt2 {a b : Nat} (h : a < b) : 2 ^ a < 2 ^ b := Nat.pow_lt_pow_right (by decide) h
theorem wb_mod (n : Nat) : lN n = lN (n % 2 ^ 64) := wb_inj (by rw [wb_tb, wb_tb]; apply BitVec.eq_of_toNat_eq; rw [BitVec.toNat_ofNat, BitVec.toNat_ofNat, Nat.mod_mod])
theorem wb_shr {n k : Nat} (hn : n < 2 ^ 64) (hk : k < 64) : ((lN n).toUInt64 >>> ((nI k).toInt64.toUInt64 &&& Int64.toUInt64 63)).toInt64 = lN (n / 2 ^ k) := by
  rw [wb_cu k hk]
  apply wb_inj
  apply BitVec.eq_of_toNat_eq
  show ((lN n).toUInt64 >>> UInt64.ofNat k).toNat = (BitVec.ofNat 64 _).toNat
  have h1 : (UInt64.ofNat k).toNat = k := by
    show (BitVec.ofNat 64 k).toNat = k
    rw [BitVec.toNat_ofNat, Nat.mod_eq_of_lt (by omega)]
  have h2 : (lN n).toUInt64.toNat = n := wb_tn hn
  rw [UInt64.toNat_shiftRight, h1, h2, Nat.mod_eq_of_lt hk, Nat.shiftRight_eq_div_pow, BitVec.toNat_ofNat, Nat.mod_eq_of_lt (Nat.lt_of_le_of_lt (Nat.div_le_self _ _) hn)]
theorem wb_shl (n : Nat) {k : Nat} (hk : k < 64) : lN n <<< ((nI k).toInt64 &&& 63) = lN (n * 2 ^ k) := by
  rw [wb_c k hk]
  apply wb_inj
  rw [Int64.toBitVec_shiftLeft, wb_tb, wb_tb, wb_tb, wb_sm k hk]
  apply BitVec.eq_of_toNat_eq
  rw [BitVec.shiftLeft_eq', BitVec.toNat_shiftLeft, BitVec.toNat_ofNat, BitVec.toNat_ofNat, BitVec.toNat_ofNat, Nat.mod_eq_of_lt (show k < 2 ^ 64 by omega), Nat.shiftLeft_eq, Nat.mul_mod, Nat.mod_mod, ← Nat.mul_mod]
end
section
/-! the law's packed words, and its holds -/
def qf_W (c : Nat → Nat) : Nat := c 0 + c 1 * 64 + c 2 * 4096 + c 3 * 262144 + c 4 * 16777216
theorem qf_5 {k : Nat} (h : k < 5) : k = 0 ∨ k = 1 ∨ k = 2 ∨ k = 3 ∨ k = 4 := by omega
theorem qf_W_lt {c : Nat → Nat} (hc : ∀ j, j < 5 → c j < 64) : qf_W c < 2 ^ 30 := by
  have h0 := hc 0 (by omega)
  have h1 := hc 1 (by omega)
  have h2 := hc 2 (by omega)
  have h3 := hc 3 (by omega)
  have h4 := hc 4 (by omega)
  unfold qf_W
  omega
theorem qf_dig {c : Nat → Nat} (hc : ∀ j, j < 5 → c j < 64) {k : Nat} (hk : k < 5) : qf_W c / 2 ^ (6 * k) % 2 ^ 6 = c k := by
  have h0 := hc 0 (by omega)
  have h1 := hc 1 (by omega)
  have h2 := hc 2 (by omega)
  have h3 := hc 3 (by omega)
  have h4 := hc 4 (by omega)
  unfold qf_W
  rcases qf_5 hk with h | h | h | h | h
  · subst h
    show (c 0 + c 1 * 64 + c 2 * 4096 + c 3 * 262144 + c 4 * 16777216) / 1 % 64 = c 0
    omega
  · subst h
    show (c 0 + c 1 * 64 + c 2 * 4096 + c 3 * 262144 + c 4 * 16777216) / 64 % 64 = c 1
    omega
  · subst h
    show (c 0 + c 1 * 64 + c 2 * 4096 + c 3 * 262144 + c 4 * 16777216) / 4096 % 64 = c 2
    omega
  · subst h
    show (c 0 + c 1 * 64 + c 2 * 4096 + c 3 * 262144 + c 4 * 16777216) / 262144 % 64 = c 3
    omega
  · subst h
    show (c 0 + c 1 * 64 + c 2 * 4096 + c 3 * 262144 + c 4 * 16777216) / 16777216 % 64 = c 4
    omega
theorem qf_have {post : Int32 → Prop} {c : Nat → Nat} {k : Nat} (hc : ∀ j, j < 5 → c j < 64) (hk : k < 5) (h : post (nI (c k))) : wpL_have post () (lN (qf_W c)) (nI k) := by
  have hW := qf_W_lt hc
  have e1 : (6 : Int32) * nI k = nI (6 * k) := pk_mul 6 k
  have h2 : qf_W c / 2 ^ (6 * k) ≤ qf_W c := Nat.div_le_self _ _
  unfold wpL_have
  rw [e1, wb_shr (by omega) (by omega), lN_i, pk_andN (by omega) 6 (by decide), qf_dig hc hk]
  exact h
theorem qf_sum {post : Int32 → Prop} {c : Nat → Nat} (hc : ∀ j, j < 5 → c j < 64) (h : post (nI (qf_S c 5))) : wpL_sum post () (lN (qf_W c)) := by
  refine pk_loop (σ := Unit) (fun n k _ => wL_sum_4 post (lN (qf_W c)) n (nI (qf_S c k)) (nI k)) (fun _ _ => True) 5 0 () (by omega) trivial ?_ ?_
  · intro n _ _
    exact pk_le 5 5 (fun _ => h) (fun h => absurd h (by omega))
  · intro n k _ hk _ hw
    exact pk_le 5 k (fun h => absurd h (by omega)) (fun _ => qf_have hc hk (nm_r (nI_add _ _) (nm_r (nI_1 k) (hw () trivial))))
def qf_cell (L : Nat) (xs : Nat → Int32) (k : Nat) : Int32 := if k < L then xs k else 0
theorem qf_cellW {post : Int32 → Prop} {L : Nat} {xs : Nat → Int32} {k : Nat} (hL : L ≤ 260) (hk : k < 2 ^ 30) (h : post (qf_cell L xs k)) : wpL_cell post L xs () (nI k) := by
  unfold qf_cell at h
  refine pk_le L k (fun hle => ?_) (fun hlt => And.intro (pk_in k L hlt) ?_)
  · rw [if_neg (by omega)] at h
    exact h
  · rw [if_pos hlt] at h
    rw [nI_clamp (by omega)]
    exact h
def qf_nu (L : Nat) (xs : Nat → Int32) (k : Nat) : Int32 := if k = 4 then qf_cell L xs 0 else qf_cell L xs 0 + nI k * qf_cell L xs 1
theorem qf_number {post : Int32 → Prop} {L : Nat} {xs : Nat → Int32} {k : Nat} (hL : L ≤ 260) (hk : k < 5) (h : post (qf_nu L xs k)) : wpL_number post L xs () (nI k) := by
  unfold wpL_number
  refine qf_cellW (k := 0) hL (by omega) (qf_cellW (k := 1) hL (by omega) ?_)
  unfold qf_nu at h
  refine pk_eq k 4 (fun he => ?_) (fun he => ?_)
  · rw [if_pos he] at h
    exact h
  · rw [if_neg he] at h
    exact h
theorem qf_printL {post : Int32 → Prop} {x : Int32} (h : post (nI (qf_pr x))) : wpL_print post () x := by
  unfold wpL_print
  rw [qf_pr_e]
  exact h
def qf_ck (L : Nat) (xs : Nat → Int32) (c : Nat → Nat) (p k : Nat) : Nat := if qf_pr (qf_nu L xs k) = p then c k else 0
def qf_C (L : Nat) (xs : Nat → Int32) (c : Nat → Nat) (p : Nat) : Nat := qf_S (qf_ck L xs c p) 5
theorem qf_timesL {post : Int32 → Prop} {L : Nat} {xs : Nat → Int32} {c : Nat → Nat} {p : Nat} (hL : L ≤ 260) (hc : ∀ j, j < 5 → c j < 64) (hp : p < 256) (h : post (nI (qf_C L xs c p))) : wpL_times post L xs () (lN (qf_W c)) (nI p) := by
  refine pk_loop (σ := Unit) (fun n k _ => wL_times_6 post L xs (lN (qf_W c)) (nI p) n (nI (qf_S (qf_ck L xs c p) k)) (nI k)) (fun _ _ => True) 5 0 () (by omega) trivial ?_ ?_
  · intro n _ _
    exact pk_le 5 5 (fun _ => h) (fun h => absurd h (by omega))
  · intro n k _ hk _ hw
    have nx := hw () trivial
    have hpr := qf_pr_lt (qf_nu L xs k)
    rw [show qf_S (qf_ck L xs c p) (k + 1) = qf_S (qf_ck L xs c p) k + qf_ck L xs c p k from rfl] at nx
    refine pk_le 5 k (fun h => absurd h (by omega)) (fun _ => qf_number hL hk (qf_printL ?_))
    refine pk_eq (qf_pr (qf_nu L xs k)) p (fun he => ?_) (fun he => ?_)
    · rw [show qf_ck L xs c p k = c k from if_pos he] at nx
      exact qf_have hc hk (nm_r (nI_add _ _) (nm_r (nI_1 k) nx))
    · rw [show qf_ck L xs c p k = 0 from if_neg he] at nx
      exact nm_r (nI_1 k) nx
section
variable {rc : Int32} {a1 a2 a3 a4 a5 a6 a7 : Nat → Int32} {f b : Nat}
theorem qf_c64 {L : Nat} {xs : Nat → Int32} {c : Nat → Nat} (hQ : qf_Q f b (qf_S c 5) (qf_C L xs c) a1 a2 a3 a4 a5 a6) : ∀ j, j < 5 → c j < 64 := by
  intro j hj
  have h1 := qf_Q_n hQ
  have h2 := qf_2b64 b (qf_Qb hQ).2.2.1
  have h3 := qf_S_at (g := c) hj
  omega
theorem qf_holds {post : Int32 → St1 → Prop} {L : Nat} {xs : Nat → Int32} {c : Nat → Nat} (hL : L ≤ 260) (hQ : qf_Q f b (qf_S c 5) (qf_C L xs c) a1 a2 a3 a4 a5 a6)
    (H : ∀ (rc' : Int32) (c7 : Nat → Int32), post 1 (rc', a1, a2, a3, a4, a5, a6, c7)) : wpL_holds post L xs (rc, a1, a2, a3, a4, a5, a6, a7) (nI f) (lN (qf_W c)) (nI (2 ^ b)) := by
  have hc := qf_c64 hQ
  have hn := qf_Q_n hQ
  have hb := qf_2b64 b (qf_Qb hQ).2.2.1
  unfold wpL_holds
  dsimp only
  refine pk_loop (σ := Int32 × (Nat → Int32)) (fun n p s => wL_holds_6 post L xs (nI f) (lN (qf_W c)) (nI (2 ^ b)) n (nI (qf_S (qf_C L xs c) p)) (nI p) s.1 a1 a2 a3 a4 a5 a6 s.2) (fun _ _ => True) 256 0 (rc, a7) (by omega) trivial ?_ ?_
  · rintro n ⟨rc', c7⟩ _
    refine pk_le 256 256 (fun _ => ?_) (fun h => absurd h (by omega))
    refine qf_count hQ (qf_sum hc ?_)
    refine pk_eq (qf_S c 5) (qf_S c 5) (fun _ => qf_size hQ ?_) (fun h => absurd rfl h)
    exact pk_eq (2 ^ b) (2 ^ b) (fun _ => H _ _) (fun h => absurd rfl h)
  · rintro n p ⟨rc', c7⟩ hp _ hw
    have hs := qf_Q_sum hQ (p + 1)
    have hSp : qf_S (qf_C L xs c) (p + 1) = qf_S (qf_C L xs c) p + qf_C L xs c p := rfl
    refine pk_le 256 p (fun h => absurd h (by omega)) (fun _ => qf_timesL hL hc hp (qf_times hQ hp ?_))
    refine pk_eq (qf_C L xs c p) (qf_C L xs c p) (fun _ => ?_) (fun h => absurd rfl h)
    refine pk_le (qf_C L xs c p) 0 (fun h0 => nm_r (nI_add _ _) (nm_r (nI_1 p) (hw (rc', c7) trivial))) (fun hpos => ?_)
    refine qf_print hQ (k := qf_S (qf_C L xs c) p) (p := p) (Nat.le_refl _) (by omega) (fun rc1 e7 => ?_)
    dsimp only
    refine pk_eq p p (fun _ => ?_) (fun h => absurd rfl h)
    have e1 : nI (qf_S (qf_C L xs c) p) + nI (qf_C L xs c p) - 1 = nI (qf_S (qf_C L xs c) p + qf_C L xs c p - 1) := by
      rw [nI_add]
      exact pk_sub (b := 1) (by omega)
    rw [e1]
    refine qf_print hQ (p := p) (by omega) (by omega) (fun rc2 g7 => ?_)
    dsimp only
    exact pk_eq p p (fun _ => nm_r (nI_add _ _) (nm_r (nI_1 p) (hw (rc2, g7) trivial))) (fun h => absurd rfl h)
end
end
section
/-! one turn of the law, call by call -/
theorem qf_S_succ (g : Nat → Nat) (n : Nat) : qf_S g (n + 1) = qf_S g n + g n := rfl
theorem qf_S_up {g g' : Nat → Nat} {k v : Nat} : ∀ n, k < n → (∀ j, j < n → j ≠ k → g' j = g j) → g' k = g k + v → qf_S g' n = qf_S g n + v
  | 0, hk, _, _ => absurd hk (by omega)
  | n + 1, hk, h, hv => by
    show qf_S g' n + g' n = qf_S g n + g n + v
    by_cases hkn : k = n
    · subst hkn
      rw [hv, qf_S_congr k (fun j hj => h j (by omega) (by omega))]
      omega
    · rw [qf_S_up n (by omega) (fun j hj hjk => h j (by omega) hjk) hv, h n (by omega) (fun e => hkn e.symm)]
      omega
theorem qf_W_up {c c' : Nat → Nat} {k : Nat} (hk : k < 5) (h : ∀ j, j < 5 → j ≠ k → c' j = c j) (hv : c' k = c k + 1) : qf_W c' = qf_W c + 2 ^ (6 * k) := by
  unfold qf_W
  rcases qf_5 hk with e | e | e | e | e
  · subst e
    have h1 := h 1 (by omega) (by omega)
    have h2 := h 2 (by omega) (by omega)
    have h3 := h 3 (by omega) (by omega)
    have h4 := h 4 (by omega) (by omega)
    show _ = _ + 1
    omega
  · subst e
    have h1 := h 0 (by omega) (by omega)
    have h2 := h 2 (by omega) (by omega)
    have h3 := h 3 (by omega) (by omega)
    have h4 := h 4 (by omega) (by omega)
    show _ = _ + 64
    omega
  · subst e
    have h1 := h 0 (by omega) (by omega)
    have h2 := h 1 (by omega) (by omega)
    have h3 := h 3 (by omega) (by omega)
    have h4 := h 4 (by omega) (by omega)
    show _ = _ + 4096
    omega
  · subst e
    have h1 := h 0 (by omega) (by omega)
    have h2 := h 1 (by omega) (by omega)
    have h3 := h 2 (by omega) (by omega)
    have h4 := h 4 (by omega) (by omega)
    show _ = _ + 262144
    omega
  · subst e
    have h1 := h 0 (by omega) (by omega)
    have h2 := h 1 (by omega) (by omega)
    have h3 := h 2 (by omega) (by omega)
    have h4 := h 3 (by omega) (by omega)
    show _ = _ + 16777216
    omega
theorem qf_C_up {L : Nat} {xs : Nat → Int32} {c c' : Nat → Nat} {k : Nat} (hk : k < 5) (h : ∀ j, j < 5 → j ≠ k → c' j = c j) (hv : c' k = c k + 1) (y : Nat) : qf_C L xs c' y = qf_C L xs c y + if y = qf_pr (qf_nu L xs k) then 1 else 0 := by
  unfold qf_C
  refine qf_S_up 5 hk (fun j hj hjk => ?_) ?_
  · unfold qf_ck
    rw [h j hj hjk]
  · unfold qf_ck
    by_cases hy : y = qf_pr (qf_nu L xs k)
    · rw [if_pos hy.symm, if_pos hy.symm, if_pos hy, hv]
    · rw [if_neg (fun e => hy e.symm), if_neg (fun e => hy e.symm), if_neg hy]
theorem qf_C_plus {L : Nat} {xs : Nat → Int32} {c c2 : Nat → Nat} (y : Nat) : qf_C L xs (fun j => c j + c2 j) y = qf_C L xs c y + qf_C L xs c2 y := by
  unfold qf_C
  rw [← qf_S_plus]
  apply qf_S_congr
  intro j _
  unfold qf_ck
  by_cases hy : qf_pr (qf_nu L xs j) = y
  · rw [if_pos hy, if_pos hy, if_pos hy]
  · rw [if_neg hy, if_neg hy, if_neg hy]
theorem qf_W_plus {c c2 : Nat → Nat} : qf_W (fun j => c j + c2 j) = qf_W c + qf_W c2 := by
  show c 0 + c2 0 + (c 1 + c2 1) * 64 + (c 2 + c2 2) * 4096 + (c 3 + c2 3) * 262144 + (c 4 + c2 4) * 16777216 = _
  unfold qf_W
  omega
theorem qf_bit {k : Nat} (hk : k < 5) : (1 : Int64) <<< (((6 : Int32) * nI k).toInt64 &&& 63) = lN (2 ^ (6 * k)) := by
  have e1 : (6 : Int32) * nI k = nI (6 * k) := pk_mul 6 k
  have e2 := wb_shl 1 (show 6 * k < 64 by omega)
  rw [Nat.one_mul] at e2
  rw [e1]
  exact e2
def qf_K (post : Int32 → Prop) (L : Nat) (xs : Nat → Int32) (J : Int64 → Int64 → Int32 → Int32 → Int32 → Int32 → (Nat → Int32) → (Nat → Int32) → (Nat → Int32) → (Nat → Int32) → (Nat → Int32) → (Nat → Int32) → (Nat → Int32) → Prop) (x2 x4 : Int64) (x6 x7 x8 : Int32) (f kc ks : Nat) (a1 a2 a3 a4 a5 a6 : Nat → Int32) : Prop :=
  ∀ (c : Nat → Nat) (b : Nat) (rc : Int32) (e1 e2 e3 e4 e5 e6 e7 : Nat → Int32), qf_Q f b (qf_S c 5) (qf_C L xs c) e1 e2 e3 e4 e5 e6 → qf_F f a1 a2 a3 a4 a5 a6 e1 e2 e3 e4 e5 e6 →
    wL_law_514 post L xs J x2 x4 x6 x7 x8 (nI f) (lN (qf_W c)) (nI (2 ^ b)) kc ks rc e1 e2 e3 e4 e5 e6 e7
section
variable {post : Int32 → Prop} {L : Nat} {xs : Nat → Int32} {J : Int64 → Int64 → Int32 → Int32 → Int32 → Int32 → (Nat → Int32) → (Nat → Int32) → (Nat → Int32) → (Nat → Int32) → (Nat → Int32) → (Nat → Int32) → (Nat → Int32) → Prop} {x2 x4 : Int64} {x6 x7 x8 : Int32} {f b g b2 kc ks k : Nat} {c c2 : Nat → Nat} {rc : Int32} {a1 a2 a3 a4 a5 a6 a7 : Nat → Int32}
theorem qf_k_add {z0 : Int32} (hk : k < 5) (hQ : qf_Q f b (qf_S c 5) (qf_C L xs c) a1 a2 a3 a4 a5 a6) (K : qf_K post L xs J x2 x4 x6 x7 x8 f kc ks a1 a2 a3 a4 a5 a6)
    (hz : (qf_S c 5 + 1 = 2 ^ b ∧ z0 = -2) ∨ (qf_S c 5 + 1 < 2 ^ b ∧ z0 = nI (qf_C L xs c (qf_pr (qf_nu L xs k)) + 1))) :
    wL_law_480 post L xs J x2 x4 x6 x7 x8 (nI f) (nI k) (lN (qf_W c)) (nI (2 ^ b)) (qf_nu L xs k) z0 kc ks rc a1 a2 a3 a4 a5 a6 a7 := by
  have hs := qf_Q_sum hQ (qf_pr (qf_nu L xs k) + 1)
  have hs2 := qf_S_succ (qf_C L xs c) (qf_pr (qf_nu L xs k))
  have hn := qf_Q_n hQ
  have hb := qf_2b64 b (qf_Qb hQ).2.2.1
  unfold wL_law_480
  refine qf_add hQ (fun h => ?_) (fun h c2 c3 c4 c5 c6 q F => ?_)
  · dsimp only
    rcases hz with ⟨_, hz⟩ | ⟨hz, _⟩
    · subst hz
      exact br_t rfl (br_t (by decide) (K c b _ _ _ _ _ _ _ _ hQ qf_F_refl))
    · omega
  · dsimp only
    rcases hz with ⟨hz, _⟩ | ⟨_, hz⟩
    · omega
    · subst hz
      have u1 : ∀ j, j < 5 → j ≠ k → (fun j => if j = k then c j + 1 else c j) j = c j := fun j _ hjk => if_neg hjk
      have u2 : (fun j => if j = k then c j + 1 else c j) k = c k + 1 := if_pos rfl
      refine br_t rfl (br_f (nI_nle (by omega) (by omega)) ?_)
      rw [qf_bit hk, lN_add, ← qf_W_up hk u1 u2]
      refine nm_e (K _ b _ _ _ _ _ _ _ _ ?_ F)
      rw [qf_S_up 5 hk u1 u2]
      exact qf_Q_C q (fun y => by rw [qf_C_up hk u1 u2])
theorem qf_k_grow {z0 : Int32} (hQ : qf_Q f b (qf_S c 5) (qf_C L xs c) a1 a2 a3 a4 a5 a6) (K : qf_K post L xs J x2 x4 x6 x7 x8 f kc ks a1 a2 a3 a4 a5 a6)
    (hz : (b = 6 ∧ z0 = -2) ∨ (b < 6 ∧ z0 = nI (2 ^ (b + 1)))) :
    wL_law_188 post L xs J x2 x4 x6 x7 x8 (nI f) (lN (qf_W c)) (nI (2 ^ b)) z0 kc ks rc a1 a2 a3 a4 a5 a6 a7 := by
  unfold wL_law_188
  refine qf_grow hQ (fun h => ?_) (fun h rc' c1 c2 c3 c4 c5 c6 c7 q F => ?_)
  · dsimp only
    rcases hz with ⟨_, hz⟩ | ⟨hz, _⟩
    · subst hz
      exact br_t rfl (br_t (by decide) (K c b _ _ _ _ _ _ _ _ hQ qf_F_refl))
    · omega
  · dsimp only
    rcases hz with ⟨hz, _⟩ | ⟨_, hz⟩
    · omega
    · subst hz
      have h1 := qf_2b64 (b + 1) (by omega)
      have h2 := qf_2p (b + 1) (by omega)
      exact br_t rfl (br_f (nI_nle h2 (by omega)) (K c (b + 1) _ _ _ _ _ _ _ _ q F))
theorem qf_k_shrink {z0 : Int32} (hQ : qf_Q f b (qf_S c 5) (qf_C L xs c) a1 a2 a3 a4 a5 a6) (K : qf_K post L xs J x2 x4 x6 x7 x8 f kc ks a1 a2 a3 a4 a5 a6)
    (hz : ((b = 3 ∨ 2 ^ b / 2 - 1 < qf_S c 5) ∧ z0 = -3) ∨ ((3 < b ∧ qf_S c 5 ≤ 2 ^ b / 2 - 1) ∧ z0 = nI (2 ^ (b - 1)))) :
    wL_law_242 post L xs J x2 x4 x6 x7 x8 (nI f) (lN (qf_W c)) (nI (2 ^ b)) z0 kc ks rc a1 a2 a3 a4 a5 a6 a7 := by
  have hb := (qf_Qb hQ).2.2.1
  unfold wL_law_242
  refine qf_shrink hQ (fun h => ?_) (fun h h' rc' c1 c2 c3 c4 c5 c6 c7 q F => ?_)
  · dsimp only
    rcases hz with ⟨_, hz⟩ | ⟨hz, _⟩
    · subst hz
      exact br_t rfl (br_t (by decide) (K c b _ _ _ _ _ _ _ _ hQ qf_F_refl))
    · omega
  · dsimp only
    rcases hz with ⟨hz, _⟩ | ⟨_, hz⟩
    · omega
    · subst hz
      have h1 := qf_2b64 (b - 1) (by omega)
      have h2 := qf_2p (b - 1) (by omega)
      exact br_t rfl (br_f (nI_nle h2 (by omega)) (K c (b - 1) _ _ _ _ _ _ _ _ q F))
theorem qf_k_pour {z0 : Int32} (hg : g = 1 - f) (hQ : qf_Q f b (qf_S c 5) (qf_C L xs c) a1 a2 a3 a4 a5 a6) (hQ2 : qf_Q g b2 (qf_S c2 5) (qf_C L xs c2) a1 a2 a3 a4 a5 a6) (K : qf_K post L xs J x2 x4 x6 x7 x8 f kc ks a1 a2 a3 a4 a5 a6)
    (hz : (63 < qf_S c 5 + qf_S c2 5 ∧ z0 = -2) ∨ (qf_S c 5 + qf_S c2 5 ≤ 63 ∧ z0 = nI (qf_S c 5 + qf_S c2 5))) :
    wL_law_295 post L xs J x2 x4 x6 x7 x8 (nI f) (lN (qf_W c)) (lN (qf_W c2)) (nI (2 ^ b)) z0 kc ks rc a1 a2 a3 a4 a5 a6 a7 := by
  have hb := qf_2b64 b (qf_Qb hQ).2.2.1
  have hb3 := (qf_Qb hQ).2.1
  unfold wL_law_295
  refine qf_pour hg hQ hQ2 (fun hle b' rc' e1 e2 e3 e4 e5 e6 e7 t1 t2 t3 t4 q F => ?_) (fun hgt => ?_)
  · dsimp only
    rcases hz with ⟨hz, _⟩ | ⟨_, hz⟩
    · omega
    · subst hz
      refine br_t rfl (br_f (nI_pos (by omega)) (nm_r (lN_add _ _) ?_))
      rw [← qf_W_plus]
      refine Exists.elim (pk_loop (σ := Unit) (fun n j _ => wL_law_325 post L xs J x2 x4 x6 x7 x8 (nI f) (lN (qf_W (fun j => c j + c2 j))) (nI (qf_S c 5 + qf_S c2 5)) kc ks rc' e1 e2 e3 e4 e5 e6 e7 n (nI (2 ^ (min (b + j) b'))) (nI j)) (fun _ _ => True) 3 0 () (by omega) trivial ?_ ?_) (fun n hn => ?_)
      · intro n _ _
        refine pk_le 3 3 (fun _ => ?_) (fun h => absurd h (by omega))
        rw [show min (b + 3) b' = b' by omega]
        refine K _ b' _ _ _ _ _ _ _ _ ?_ F
        rw [qf_S_plus]
        exact qf_Q_C q (fun y => (qf_C_plus y).symm)
      · intro n j _ hj _ hw
        have nx := hw () trivial
        have hmb := qf_2b64 (min (b + j) b') (by omega)
        refine pk_le 3 j (fun h => absurd h (by omega)) (fun _ => ?_)
        refine pk_lt (qf_S c 5 + qf_S c2 5) (2 ^ (min (b + j) b')) (fun hlt => nm_r (nI_1 j) ?_) (fun hge => ?_)
        · have hbb : min (b + j) b' = b' := by
            apply Classical.byContradiction
            intro hc
            have := t4 (min (b + j) b') (by omega) (by omega)
            omega
          rw [show min (b + (j + 1)) b' = min (b + j) b' by omega] at nx
          exact nx
        · have hbb : b + j < b' := by
            apply Classical.byContradiction
            intro hc
            rw [show min (b + j) b' = b' by omega] at hge
            omega
          have e9 : (2 : Int32) * nI (2 ^ (min (b + j) b')) = nI (2 ^ (min (b + (j + 1)) b')) := by
            have h8 := qf_pw (b := min (b + (j + 1)) b') (by omega)
            rw [h8, show min (b + (j + 1)) b' - 1 = min (b + j) b' by omega]
            exact pk_mul 2 _
          exact nm_r e9 (nm_r (nI_1 j) nx)
      · rw [show min (b + 0) b' = b by omega] at hn
        exact ⟨n, hn⟩
  · dsimp only
    rcases hz with ⟨_, hz⟩ | ⟨hz, _⟩
    · subst hz
      refine br_t rfl (br_t (by decide) ?_)
      refine pk_loop (σ := Unit) (fun n j _ => wL_law_325 post L xs J x2 x4 x6 x7 x8 (nI f) (lN (qf_W c)) (-2) kc ks rc a1 a2 a3 a4 a5 a6 a7 n (nI (2 ^ b)) (nI j)) (fun _ _ => True) 3 0 () (by omega) trivial ?_ ?_
      · intro n _ _
        exact pk_le 3 3 (fun _ => K c b _ _ _ _ _ _ _ _ hQ qf_F_refl) (fun h => absurd h (by omega))
      · intro n j _ hj _ hw
        refine pk_le 3 j (fun h => absurd h (by omega)) (fun _ => br_t ?_ (nm_r (nI_1 j) (hw () trivial)))
        rw [Int32.lt_iff_toInt_lt, nI_toInt (by omega)]
        have h8 : (-2 : Int32).toInt = -2 := by decide
        have h9 : (0 : Int) ≤ ((2 ^ b : Nat) : Int) := Int.natCast_nonneg _
        rw [h8]
        omega
    · omega
theorem qf_k_rem {z0 : Int32} {p : Nat} (hL : L ≤ 260) (hk : k < 5) (hp : p = qf_pr (qf_nu L xs k)) (hQ : qf_Q f b (qf_S c 5) (qf_C L xs c) a1 a2 a3 a4 a5 a6) (K : qf_K post L xs J x2 x4 x6 x7 x8 f kc ks a1 a2 a3 a4 a5 a6)
    (hz : (qf_C L xs c p = 0 ∧ z0 = -3) ∨ (0 < qf_C L xs c p ∧ z0 = nI (qf_C L xs c p - 1))) :
    wL_law_367 post L xs J x2 x4 x6 x7 x8 (nI f) (lN (qf_W c)) (nI (2 ^ b)) (qf_nu L xs k) (nI p) z0 kc ks rc a1 a2 a3 a4 a5 a6 a7 := by
  have hc := qf_c64 hQ
  have hs := qf_Q_sum hQ (qf_pr (qf_nu L xs k) + 1)
  have hs2 := qf_S_succ (qf_C L xs c) (qf_pr (qf_nu L xs k))
  have hn := qf_Q_n hQ
  have hb := qf_2b64 b (qf_Qb hQ).2.2.1
  have hpl : p < 256 := by rw [hp]; exact qf_pr_lt _
  subst hp
  have loop : ∀ (rc' : Int32) (e1 e2 e3 e4 e5 e6 e7 : Nat → Int32) (g0 : Nat),
      ((g0 = 1 ∧ wL_law_514 post L xs J x2 x4 x6 x7 x8 (nI f) (lN (qf_W c)) (nI (2 ^ b)) kc ks rc' e1 e2 e3 e4 e5 e6 e7) ∨
       (g0 = 0 ∧ 0 < qf_C L xs c (qf_pr (qf_nu L xs k)) ∧ ∀ c' : Nat → Nat, ∀ i, i < 5 → (∀ j, j < 5 → j ≠ i → c j = c' j) → c i = c' i + 1 → qf_pr (qf_nu L xs i) = qf_pr (qf_nu L xs k) → wL_law_514 post L xs J x2 x4 x6 x7 x8 (nI f) (lN (qf_W c')) (nI (2 ^ b)) kc ks rc' e1 e2 e3 e4 e5 e6 e7)) →
      ∃ n, wL_law_399 post L xs J x2 x4 x6 x7 x8 (nI f) (nI (2 ^ b)) (nI (qf_pr (qf_nu L xs k))) kc ks rc' e1 e2 e3 e4 e5 e6 e7 n (lN (qf_W c)) (nI g0) 0 := by
    intro rc' e1 e2 e3 e4 e5 e6 e7 g0 h0
    refine pk_loop (σ := Nat × (Nat → Nat)) (fun n j s => wL_law_399 post L xs J x2 x4 x6 x7 x8 (nI f) (nI (2 ^ b)) (nI (qf_pr (qf_nu L xs k))) kc ks rc' e1 e2 e3 e4 e5 e6 e7 n (lN (qf_W s.2)) (nI s.1) (nI j))
      (fun j s => (s.1 = 1 ∧ wL_law_514 post L xs J x2 x4 x6 x7 x8 (nI f) (lN (qf_W s.2)) (nI (2 ^ b)) kc ks rc' e1 e2 e3 e4 e5 e6 e7) ∨ (s.1 = 0 ∧ s.2 = c ∧ g0 = 0 ∧ ∀ i, i < j → ¬ (qf_pr (qf_nu L xs i) = qf_pr (qf_nu L xs k) ∧ 0 < c i))) 5 0 (g0, c) (by omega) ?_ ?_ ?_
    · dsimp only
      rcases h0 with h0 | h0
      · exact Or.inl h0
      · exact Or.inr ⟨h0.1, rfl, h0.1, fun i hi => absurd hi (by omega)⟩
    · rintro n ⟨gg, c'⟩ hI
      dsimp only at hI
      refine pk_le 5 5 (fun _ => ?_) (fun h => absurd h (by omega))
      rcases hI with hI | hI
      · exact hI.2
      · obtain ⟨q1, q2, q3, q4⟩ := hI
        rcases h0 with h0 | h0
        · omega
        · obtain ⟨i, hi, hpos⟩ := qf_S_pos 5 h0.2.1
          unfold qf_ck at hpos
          by_cases he : qf_pr (qf_nu L xs i) = qf_pr (qf_nu L xs k)
          · rw [if_pos he] at hpos
            exact absurd ⟨he, hpos⟩ (q4 i hi)
          · rw [if_neg he] at hpos
            omega
    · rintro n j ⟨gg, c'⟩ hj hI hw
      dsimp only at hI
      show wL_law_399 post L xs J x2 x4 x6 x7 x8 (nI f) (nI (2 ^ b)) (nI (qf_pr (qf_nu L xs k))) kc ks rc' e1 e2 e3 e4 e5 e6 e7 (n + 1) (lN (qf_W c')) (nI gg) (nI j)
      have hprj := qf_pr_lt (qf_nu L xs j)
      refine pk_le 5 j (fun h => absurd h (by omega)) (fun _ => qf_number hL hj ?_)
      rcases hI with hI | hI
      · obtain ⟨q1, q2⟩ := hI
        subst q1
        exact pk_eq 1 0 (fun h => absurd h (by omega)) (fun _ => nm_r (nI_1 j) (hw (1, c') (Or.inl ⟨rfl, q2⟩)))
      · obtain ⟨q1, q2, q3, q4⟩ := hI
        subst q1 q2
        refine pk_eq 0 0 (fun _ => qf_printL ?_) (fun h => absurd rfl h)
        have skip : ¬ (qf_pr (qf_nu L xs j) = qf_pr (qf_nu L xs k) ∧ 0 < c' j) → wL_law_399 post L xs J x2 x4 x6 x7 x8 (nI f) (nI (2 ^ b)) (nI (qf_pr (qf_nu L xs k))) kc ks rc' e1 e2 e3 e4 e5 e6 e7 n (lN (qf_W c')) (nI 0) (nI (j + 1)) := by
          intro hno
          refine hw (0, c') (Or.inr ⟨rfl, rfl, q3, fun i hi => ?_⟩)
          by_cases hij : i = j
          · rw [hij]; exact hno
          · exact q4 i (by omega)
        refine pk_eq (qf_pr (qf_nu L xs j)) (qf_pr (qf_nu L xs k)) (fun he => qf_have hc hj ?_) (fun he => nm_r (nI_1 j) (skip (fun h => he h.1)))
        have hcj := hc j hj
        refine pk_le (c' j) 0 (fun h => nm_r (nI_1 j) (skip (fun h' => by omega))) (fun hpos => ?_)
        have u1 : ∀ i, i < 5 → i ≠ j → c' i = (fun i => if i = j then c' i - 1 else c' i) i := fun i _ hij => (if_neg hij).symm
        have u2 : c' j = (fun i => if i = j then c' i - 1 else c' i) j + 1 := by
          show c' j = (if j = j then c' j - 1 else c' j) + 1
          rw [if_pos rfl]
          omega
        have e9 := qf_W_up hj u1 u2
        rw [qf_bit hj, lN_sub (by omega), show qf_W c' - 2 ^ (6 * j) = qf_W (fun i => if i = j then c' i - 1 else c' i) by omega]
        refine nm_e (nm_r (nI_1 j) (hw (1, fun i => if i = j then c' i - 1 else c' i) (Or.inl ⟨rfl, ?_⟩)))
        rcases h0 with h0 | h0
        · omega
        · exact h0.2.2 _ j hj u1 u2 he
  unfold wL_law_367
  refine qf_remove hQ (by omega) (fun h => ?_) (fun h rc' e2 e3 e4 e5 e6 e7 q F => ?_)
  · dsimp only
    rcases hz with ⟨_, hz⟩ | ⟨hz, _⟩
    · subst hz
      exact br_t rfl (br_f (by decide) (loop _ _ _ _ _ _ _ _ 1 (Or.inl ⟨rfl, K c b _ _ _ _ _ _ _ _ hQ qf_F_refl⟩)))
    · omega
  · dsimp only
    rcases hz with ⟨hz, _⟩ | ⟨_, hz⟩
    · omega
    · subst hz
      refine br_t rfl (br_t (nI_pos' (by omega)) (loop _ _ _ _ _ _ _ _ 0 (Or.inr ⟨rfl, h, fun c' i hi u1 u2 he => K c' b _ _ _ _ _ _ _ _ ?_ F⟩)))
      have h5 := qf_S_up 5 hi u1 u2
      rw [show qf_S c' 5 = qf_S c 5 - 1 by omega]
      refine qf_Q_C q (fun y => ?_)
      rw [qf_C_up hi u1 u2 y, he]
      omega
end
end
section
/-! the switch of one turn -/
theorem qf_b6 : ∀ b, b < 7 → (2 ^ b = 64 → b = 6) ∧ (2 ^ b = 8 → b = 3) ∧ (b = 6 → 2 ^ b = 64) ∧ (b = 3 → 2 ^ b = 8) := by decide +kernel
section
variable {post : Int32 → Prop} {L : Nat} {xs : Nat → Int32} {J : Int64 → Int64 → Int32 → Int32 → Int32 → Int32 → (Nat → Int32) → (Nat → Int32) → (Nat → Int32) → (Nat → Int32) → (Nat → Int32) → (Nat → Int32) → (Nat → Int32) → Prop} {x2 x4 : Int64} {x6 x7 : Int32} {f b g b2 kc ks k ii : Nat} {c c2 : Nat → Nat} {rc : Int32} {a1 a2 a3 a4 a5 a6 a7 : Nat → Int32}
theorem qf_body (hL : L ≤ 260) (hk : k < 5) (hii : ii < L) (hg : g = 1 - f) (hQ : qf_Q f b (qf_S c 5) (qf_C L xs c) a1 a2 a3 a4 a5 a6) (hQ2 : qf_Q g b2 (qf_S c2 5) (qf_C L xs c2) a1 a2 a3 a4 a5 a6) (K : qf_K post L xs J x2 x4 x6 x7 (nI ii) f kc ks a1 a2 a3 a4 a5 a6) :
    wL_law_95 post L xs J x2 x4 x6 x7 (nI ii) (nI f) (nI k) (lN (qf_W c)) (lN (qf_W c2)) (nI (2 ^ b)) kc ks rc a1 a2 a3 a4 a5 a6 a7 := by
  have hc := qf_c64 hQ
  have hc2 := qf_c64 hQ2
  have hn := qf_Q_n hQ
  have hn2 := qf_Q_n hQ2
  obtain ⟨hf, hb3, hb7, _, _⟩ := qf_Qb hQ
  obtain ⟨hm1, hm2, _⟩ := qf_2b b hb7 hb3
  have hm22 := qf_2b64 b2 (qf_Qb hQ2).2.2.1
  obtain ⟨s64, s8, t6, t3⟩ := qf_b6 b hb7
  have hs := qf_Q_sum hQ (qf_pr (qf_nu L xs k) + 1)
  have hs2 := qf_S_succ (qf_C L xs c) (qf_pr (qf_nu L xs k))
  have hpw := qf_pw (b := b) (by omega)
  unfold wL_law_95
  refine qf_number hL hk (qf_printL (qf_timesL hL hc (qf_pr_lt _) (qf_sum hc ?_)))
  refine And.intro (pk_in ii L hii) ?_
  obtain ⟨sel, hsel, esel⟩ := pk_andE (xs (nI ii).toNatClampNeg) (m := 15) 4 (by decide)
  refine nm_r esel ?_
  refine br_f (nI_pos (by omega)) (pk_lt 4 sel (fun hgt => ?_) (fun hle => ?_))
  · refine pk_eq (qf_S c 5) (2 ^ b - 1) (fun h => qf_k_add hk hQ K (Or.inl ⟨by omega, rfl⟩)) (fun h => ?_) rfl (pk_sub (a := 2 ^ b) (b := 1) (by omega))
    rw [nI_1]
    exact qf_k_add hk hQ K (Or.inr ⟨by omega, rfl⟩)
  refine pk_eq sel 0 (fun h0 => ?_) (fun h0 => ?_)
  · refine pk_eq (2 ^ b) 64 (fun h => qf_k_grow hQ K (Or.inl ⟨s64 h, rfl⟩)) (fun h => ?_)
    have e1 : (2 : Int32) * nI (2 ^ b) = nI (2 ^ (b + 1)) := by
      have h8 := qf_pw (b := b + 1) (by omega)
      rw [show b + 1 - 1 = b by omega] at h8
      rw [h8]
      exact pk_mul 2 _
    rw [e1]
    have hb6 : b ≠ 6 := fun h6 => h (t6 h6)
    exact qf_k_grow hQ K (Or.inr ⟨by omega, rfl⟩)
  refine pk_eq sel 1 (fun h1 => ?_) (fun h1 => ?_)
  · have e1 : nI (2 ^ b) / 2 = nI (2 ^ b / 2) := pk_div (d := 2) (by omega) (by omega) (by omega)
    have e2 : nI (2 ^ b) / 2 - 1 = nI (2 ^ b / 2 - 1) := by
      rw [e1]
      exact pk_sub (b := 1) (by omega)
    refine pk_eq (2 ^ b) 8 (fun h => ?_) (fun h => And.intro (by decide) (pk_le (qf_S c 5) (2 ^ b / 2 - 1) (fun hle2 => And.intro (by decide) ?_) (fun hgt2 => ?_) rfl e2))
    · unfold wL_law_233
      exact qf_k_shrink hQ K (Or.inl ⟨Or.inl (s8 h), rfl⟩)
    · have hb3' : b ≠ 3 := fun h3 => h (t3 h3)
      rw [e1, show 2 ^ b / 2 = 2 ^ (b - 1) by omega]
      exact qf_k_shrink hQ K (Or.inr ⟨⟨by omega, hle2⟩, rfl⟩)
    · unfold wL_law_233
      exact qf_k_shrink hQ K (Or.inl ⟨Or.inr hgt2, rfl⟩)
  refine pk_eq sel 2 (fun h2 => ?_) (fun h2 => ?_)
  · refine qf_sum hc2 (pk_le (qf_S c 5 + qf_S c2 5) 63 (fun hle2 => qf_sum hc2 ?_) (fun hgt2 => qf_k_pour hg hQ hQ2 K (Or.inl ⟨hgt2, rfl⟩)) (nI_add _ _))
    rw [nI_add]
    exact qf_k_pour hg hQ hQ2 K (Or.inr ⟨hle2, rfl⟩)
  have rem : wL_law_353 post L xs J x2 x4 x6 x7 (nI ii) (nI f) (lN (qf_W c)) (nI (2 ^ b)) (qf_nu L xs k) (nI (qf_pr (qf_nu L xs k))) (nI (qf_C L xs c (qf_pr (qf_nu L xs k)))) kc ks rc a1 a2 a3 a4 a5 a6 a7 := by
    unfold wL_law_353
    refine pk_eq (qf_C L xs c (qf_pr (qf_nu L xs k))) 0 (fun h => qf_k_rem hL hk rfl hQ K (Or.inl ⟨h, rfl⟩)) (fun h => ?_)
    rw [show (1 : Int32) = nI 1 from rfl, pk_sub (by omega)]
    exact qf_k_rem hL hk rfl hQ K (Or.inr ⟨by omega, rfl⟩)
  refine pk_eq sel 3 (fun h3 => rem) (fun h3 => ?_)
  exact pk_eq sel 4 (fun h4 => rem) (fun h4 => trivial)
end
end
section
/-! the law -/
theorem qf_lc {L ii : Nat} (hL : L ≤ 260) (hi : ii < 2 ^ 20) : (Int32.ofNat L - 2 < nI ii) ↔ L < ii + 2 := by
  have e1 : (nI L - nI 2).toInt = (L : Int) - 2 := pk_sub_toInt (by omega) (by omega)
  show (nI L - nI 2 < nI ii) ↔ L < ii + 2
  rw [Int32.lt_iff_toInt_lt, e1, nI_toInt (by omega)]
  omega
theorem qf_law24 {L : Nat} {xs : Nat → Int32} {kc ks : Nat} (hL : L ≤ 260) (s : Nat × (Nat → Nat) × (Nat → Nat) × Nat × Nat × Int32 × (Nat → Int32) × (Nat → Int32) × (Nat → Int32) × (Nat → Int32) × (Nat → Int32) × (Nat → Int32) × (Nat → Int32))
    (h : s.1 < 2 ^ 20 ∧ qf_Q 0 s.2.2.2.1 (qf_S s.2.1 5) (qf_C L xs s.2.1) s.2.2.2.2.2.2.1 s.2.2.2.2.2.2.2.1 s.2.2.2.2.2.2.2.2.1 s.2.2.2.2.2.2.2.2.2.1 s.2.2.2.2.2.2.2.2.2.2.1 s.2.2.2.2.2.2.2.2.2.2.2.1 ∧ qf_Q 1 s.2.2.2.2.1 (qf_S s.2.2.1 5) (qf_C L xs s.2.2.1) s.2.2.2.2.2.2.1 s.2.2.2.2.2.2.2.1 s.2.2.2.2.2.2.2.2.1 s.2.2.2.2.2.2.2.2.2.1 s.2.2.2.2.2.2.2.2.2.2.1 s.2.2.2.2.2.2.2.2.2.2.2.1) :
    ∃ n, wL_law_24 (fun r => r = 1) L xs kc ks n (lN (qf_W s.2.1)) (lN (qf_W s.2.2.1)) (nI (2 ^ s.2.2.2.1)) (nI (2 ^ s.2.2.2.2.1)) (nI s.1) s.2.2.2.2.2.1 s.2.2.2.2.2.2.1 s.2.2.2.2.2.2.2.1 s.2.2.2.2.2.2.2.2.1 s.2.2.2.2.2.2.2.2.2.1 s.2.2.2.2.2.2.2.2.2.2.1 s.2.2.2.2.2.2.2.2.2.2.2.1 s.2.2.2.2.2.2.2.2.2.2.2.2 := by
  refine loop_m (fun n (s : Nat × (Nat → Nat) × (Nat → Nat) × Nat × Nat × Int32 × (Nat → Int32) × (Nat → Int32) × (Nat → Int32) × (Nat → Int32) × (Nat → Int32) × (Nat → Int32) × (Nat → Int32)) => wL_law_24 (fun r => r = 1) L xs kc ks n (lN (qf_W s.2.1)) (lN (qf_W s.2.2.1)) (nI (2 ^ s.2.2.2.1)) (nI (2 ^ s.2.2.2.2.1)) (nI s.1) s.2.2.2.2.2.1 s.2.2.2.2.2.2.1 s.2.2.2.2.2.2.2.1 s.2.2.2.2.2.2.2.2.1 s.2.2.2.2.2.2.2.2.2.1 s.2.2.2.2.2.2.2.2.2.2.1 s.2.2.2.2.2.2.2.2.2.2.2.1 s.2.2.2.2.2.2.2.2.2.2.2.2)
    (fun s => s.1 < 2 ^ 20 ∧ qf_Q 0 s.2.2.2.1 (qf_S s.2.1 5) (qf_C L xs s.2.1) s.2.2.2.2.2.2.1 s.2.2.2.2.2.2.2.1 s.2.2.2.2.2.2.2.2.1 s.2.2.2.2.2.2.2.2.2.1 s.2.2.2.2.2.2.2.2.2.2.1 s.2.2.2.2.2.2.2.2.2.2.2.1 ∧ qf_Q 1 s.2.2.2.2.1 (qf_S s.2.2.1 5) (qf_C L xs s.2.2.1) s.2.2.2.2.2.2.1 s.2.2.2.2.2.2.2.1 s.2.2.2.2.2.2.2.2.1 s.2.2.2.2.2.2.2.2.2.1 s.2.2.2.2.2.2.2.2.2.2.1 s.2.2.2.2.2.2.2.2.2.2.2.1)
    (fun s => L + 2 - s.1) ?_ s h
  rintro n ⟨ii, c0, c1, b0, b1, rc, a1, a2, a3, a4, a5, a6, a7⟩ hI hw
  dsimp only at hI
  obtain ⟨hi, Q0, Q1⟩ := hI
  show wL_law_24 (fun r => r = 1) L xs kc ks (n + 1) (lN (qf_W c0)) (lN (qf_W c1)) (nI (2 ^ b0)) (nI (2 ^ b1)) (nI ii) rc a1 a2 a3 a4 a5 a6 a7
  refine ek_if (qf_lc hL hi) (fun hlt => ?_) (fun hge => ?_)
  · refine qf_holds (f := 0) hL Q0 (fun rc' c7 => ?_)
    exact br_f qf_10 (qf_holds (f := 1) hL Q1 (fun rc'' c7' => br_f qf_10 rfl))
  · obtain ⟨f, hf, ef⟩ := pk_andE ((xs (nI ii).toNatClampNeg) >>> ((4 : Int32) &&& 31)) (m := 1) 1 (by decide)
    obtain ⟨y, hy, ey⟩ := pk_andE (xs (nI ii + 1).toNatClampNeg) (m := 255) 8 (by decide)
    refine And.intro (pk_in ii L (by omega)) (nm_r ef (And.intro (pk_in (ii + 1) L (by omega) (nI_1 ii)) (And.intro (by decide) (nm_r (e' := nI (y % 5)) (by rw [ey]; exact pk_rem (d := 5) (by omega) (by omega) (by omega)) ?_))))
    have hf2 : f = 0 ∨ f = 1 := by omega
    rcases hf2 with hf0 | hf1
    · subst hf0
      have K : qf_K (fun r => r = 1) L xs (wL_law_24 (fun r => r = 1) L xs kc ks n) (lN (qf_W c0)) (lN (qf_W c1)) (nI (2 ^ b0)) (nI (2 ^ b1)) (nI ii) 0 kc ks a1 a2 a3 a4 a5 a6 := by
        intro c b rc' e1 e2 e3 e4 e5 e6 e7 q F
        unfold wL_law_514
        refine br_t rfl ?_
        unfold wL_law_537
        refine qf_holds hL q (fun rc'' g7 => ?_)
        dsimp only
        refine br_f qf_10 (nm_r (nI_add ii 2) (hw (ii + 2, c, c1, b, b1, rc'', e1, e2, e3, e4, e5, e6, g7) ?_ ?_))
        · dsimp only
          exact ⟨by omega, q, qf_Q_fr Q1 F (by omega)⟩
        · dsimp only
          omega
      refine br_t rfl ?_
      unfold wL_law_68
      refine br_t rfl ?_
      unfold wL_law_81
      exact br_t rfl (qf_body hL (by omega) (by omega) rfl Q0 Q1 K)
    · subst hf1
      have K : qf_K (fun r => r = 1) L xs (wL_law_24 (fun r => r = 1) L xs kc ks n) (lN (qf_W c0)) (lN (qf_W c1)) (nI (2 ^ b0)) (nI (2 ^ b1)) (nI ii) 1 kc ks a1 a2 a3 a4 a5 a6 := by
        intro c b rc' e1 e2 e3 e4 e5 e6 e7 q F
        unfold wL_law_514
        refine br_f qf_10 ?_
        unfold wL_law_537
        refine qf_holds hL q (fun rc'' g7 => ?_)
        dsimp only
        refine br_f qf_10 (nm_r (nI_add ii 2) (hw (ii + 2, c0, c, b0, b, rc'', e1, e2, e3, e4, e5, e6, g7) ?_ ?_))
        · dsimp only
          exact ⟨by omega, qf_Q_fr Q0 F (by omega), q⟩
        · dsimp only
          omega
      refine br_f qf_10 ?_
      unfold wL_law_68
      refine br_f qf_10 ?_
      unfold wL_law_81
      exact br_f qf_10 (qf_body hL (by omega) (by omega) rfl Q1 Q0 K)
theorem qf_C_0 {L : Nat} {xs : Nat → Int32} (p : Nat) : 0 = qf_C L xs (fun _ => 0) p := by
  unfold qf_C
  symm
  apply qf_S_zero
  intro j _
  unfold qf_ck
  split <;> rfl
theorem i_vc (xs : Nat → Int32) (L : Nat) (hL : L ≤ 260) : wpL_law (fun r => r = 1) L xs := by
  unfold wpL_law
  refine ⟨7, 580, by omega, by omega, ?_⟩
  unfold wpX_init
  refine ⟨by omega, by omega, by omega, by omega, by omega, by omega, by omega, by omega, by omega, by omega, by omega, by omega, by omega, by omega, nm_e (nm_e ?_)⟩
  dsimp only
  have Q0 : qf_Q 0 3 0 (fun _ => 0) (upd (upd (fun _ => 0) 0 3) 1 3) (fun _ => 0) (fun _ => 0) (fun _ => 0) (fun _ => 0) (fun _ => 0) :=
    qf_Q_0 (by omega) (by omega) (by omega) rfl rfl (fun _ _ => ⟨rfl, rfl, rfl⟩)
  have Q1 : qf_Q 1 3 0 (fun _ => 0) (upd (upd (fun _ => 0) 0 3) 1 3) (fun _ => 0) (fun _ => 0) (fun _ => 0) (fun _ => 0) (fun _ => 0) :=
    qf_Q_0 (by omega) (by omega) (by omega) rfl rfl (fun _ _ => ⟨rfl, rfl, rfl⟩)
  exact qf_law24 hL (2, fun _ => 0, fun _ => 0, 3, 3, 0, upd (upd (fun _ => 0) 0 3) 1 3, fun _ => 0, fun _ => 0, fun _ => 0, fun _ => 0, fun _ => 0, fun _ => 0) ⟨by omega, qf_Q_C Q0 qf_C_0, qf_Q_C Q1 qf_C_0⟩
end
