section
/-! the ring: places are unrolled, the cell of t is t % n -/
theorem qf_mc {n t u : Nat} (k : Nat) (h : (t + k) % n = (u + k) % n) : t % n = u % n := by
  obtain ⟨k1, k2, e⟩ := Nat.mod_eq_mod_iff.mp h
  exact Nat.mod_eq_mod_iff.mpr ⟨k1, k2, by omega⟩
theorem qf_ma {n t u : Nat} (k : Nat) (h : t % n = u % n) : (t + k) % n = (u + k) % n :=
  Nat.add_mod_eq_add_mod_right k h
theorem qf_m1 {n t : Nat} (h : 2 ≤ n) : (t + 1) % n ≠ t % n := by
  intro e
  have e' : (1 + t) % n = (0 + t) % n := by
    rw [Nat.add_comm 1 t, Nat.zero_add]
    exact e
  have e2 := qf_mc t e'
  rw [Nat.mod_eq_of_lt (by omega), Nat.mod_eq_of_lt (by omega)] at e2
  omega
/-- two places of one window -/
theorem qf_mw {n t u : Nat} (a : Nat) (ht : a ≤ t) (ht' : t < a + n) (hu : a ≤ u) (hu' : u < a + n) (h : t % n = u % n) : t = u := by
  have e : ((t - a) + a) % n = ((u - a) + a) % n := by
    rw [Nat.sub_add_cancel ht, Nat.sub_add_cancel hu]
    exact h
  have e2 := qf_mc a e
  rw [Nat.mod_eq_of_lt (by omega), Nat.mod_eq_of_lt (by omega)] at e2
  omega
/-- every place of the ring stands in every window -/
theorem qf_win {n : Nat} (hn : 0 < n) (z a : Nat) : ∃ k, k < n ∧ (a + k) % n = z % n := by
  refine ⟨(z + (n - a % n)) % n, Nat.mod_lt _ hn, ?_⟩
  rw [Nat.add_mod_mod]
  have h1 : a % n + n * (a / n) = a := Nat.mod_add_div a n
  have h2 := Nat.mod_lt a hn
  have h3 : a + (z + (n - a % n)) = z + n * (a / n + 1) := by
    rw [Nat.mul_add, Nat.mul_one]
    omega
  rw [h3, Nat.add_mul_mod_self_left]
def qf_per {α : Type} (n : Nat) (f : Nat → α) : Prop := ∀ t u, t % n = u % n → f t = f u
def qf_up {α : Type} (n c : Nat) (v : α) (f : Nat → α) : Nat → α := fun t => if t % n = c % n then v else f t
theorem qf_up_s {α : Type} {n c t : Nat} {v : α} {f : Nat → α} (h : t % n = c % n) : qf_up n c v f t = v := if_pos h
theorem qf_up_n {α : Type} {n c t : Nat} {v : α} {f : Nat → α} (h : t % n ≠ c % n) : qf_up n c v f t = f t := if_neg h
theorem qf_up_per {α : Type} {n c : Nat} {v : α} {f : Nat → α} (h : qf_per n f) : qf_per n (qf_up n c v f) := by
  intro t u e
  by_cases z : t % n = c % n
  · rw [qf_up_s z, qf_up_s (e ▸ z)]
  · rw [qf_up_n z, qf_up_n (e ▸ z), h t u e]
/-- the cell holds something: it is named, or what it holds is pushed -/
def qf_oc (N : Nat → Bool) (D : Nat → Nat) (t : Nat) : Prop := N t = true ∨ D t ≠ 0
theorem qf_oc_per {n : Nat} {N : Nat → Bool} {D : Nat → Nat} (hN : qf_per n N) (hD : qf_per n D) {t u : Nat} (e : t % n = u % n) (h : qf_oc N D t) : qf_oc N D u := by
  unfold qf_oc at *
  rw [hN u t e.symm, hD u t e.symm]
  exact h
/-- what a pushed cell rests on -/
def qf_st (N G : Nat → Bool) (L D : Nat → Nat) (t : Nat) : Prop :=
  D (t + 1) ≠ 0 → qf_oc N D t ∧ (G (t + 1) = true → D (t + 1) = D t + 1 ∧ L t ≤ L (t + 1)) ∧ (G (t + 1) = false → D (t + 1) ≤ D t)
def qf_W (n : Nat) (N G : Nat → Bool) (L D : Nat → Nat) : Prop :=
  qf_per n N ∧ qf_per n G ∧ qf_per n L ∧ qf_per n D ∧ (∀ t, G t = true → D t ≠ 0) ∧ (∀ t, qf_st N G L D t)
theorem qf_le1 {n : Nat} {N G : Nat → Bool} {L D : Nat → Nat} (h : qf_W n N G L D) (t : Nat) : D (t + 1) ≤ D t + 1 := by
  obtain ⟨_, _, _, _, _, hs⟩ := h
  by_cases e : D (t + 1) = 0
  · omega
  · obtain ⟨_, h1, h2⟩ := hs t e
    cases g : G (t + 1) with
    | true =>
      have := (h1 g).1
      omega
    | false =>
      have := h2 g
      omega
theorem qf_mono {n : Nat} {N G : Nat → Bool} {L D : Nat → Nat} (h : qf_W n N G L D) (a k : Nat) : D (a + k) ≤ D a + k := by
  induction k with
  | zero => exact Nat.le_refl _
  | succ k ih =>
    have h1 := qf_le1 h (a + k)
    rw [← Nat.add_assoc]
    omega
theorem qf_chain {n : Nat} {N G : Nat → Bool} {L D : Nat → Nat} (h : qf_W n N G L D) (t i : Nat) (hi : i ≤ D t) (ht : i ≤ t) (ho : qf_oc N D t) : qf_oc N D (t - i) ∧ D t ≤ D (t - i) + i := by
  induction i with
  | zero => exact ⟨ho, Nat.le_refl _⟩
  | succ i ih =>
    obtain ⟨h1, h2⟩ := ih (by omega) (by omega)
    have e : t - i = (t - (i + 1)) + 1 := by omega
    rw [e] at h2
    have hd : D (t - (i + 1) + 1) ≠ 0 := by omega
    have ho' := (h.2.2.2.2.2 _ hd).1
    have h3 := qf_le1 h (t - (i + 1))
    exact ⟨ho', by omega⟩
theorem qf_fb {n : Nat} {N G : Nat → Bool} {L D : Nat → Nat} (h : qf_W n N G L D) {z t : Nat} (hz : ¬ qf_oc N D z) (hzt : z < t) : D t < t - z := by
  refine Nat.lt_of_not_le (fun hle => hz ?_)
  have h1 := (qf_chain h t (t - z) hle (by omega) (Or.inr (by omega))).1
  rwa [show t - (t - z) = z by omega] at h1
theorem qf_ff {n : Nat} {N : Nat → Bool} {D : Nat → Nat} (hn : 0 < n) (hN : qf_per n N) (hD : qf_per n D) {z : Nat} (hz : ¬ qf_oc N D z) (a : Nat) : ∃ k, k < n ∧ ¬ qf_oc N D (a + k) ∧ ∀ i, i < k → qf_oc N D (a + i) := by
  obtain ⟨k, hk, e⟩ := qf_win hn z a
  obtain ⟨k0, h0, h1⟩ := pk_least (fun k => ¬ qf_oc N D (a + k)) ⟨k, fun o => hz (qf_oc_per hN hD e o)⟩
  refine ⟨k0, ?_, h0, fun i hi => Classical.byContradiction (h1 i hi)⟩
  refine Nat.lt_of_not_le (fun hle => ?_)
  exact h1 k (by omega) (fun o => hz (qf_oc_per hN hD e o))
theorem qf_fl {n : Nat} {N : Nat → Bool} {D : Nat → Nat} (hn : 0 < n) (hN : qf_per n N) (hD : qf_per n D) {z : Nat} (hz : ¬ qf_oc N D z) (x : Nat) (hx : n ≤ x) : ∃ k, k < n ∧ ¬ qf_oc N D (x - k) ∧ ∀ i, i < k → qf_oc N D (x - i) := by
  obtain ⟨k, hk, e⟩ := qf_win hn z (x - (n - 1))
  have hf : ¬ qf_oc N D (x - (n - 1 - k)) := by
    rw [show x - (n - 1 - k) = x - (n - 1) + k by omega]
    exact fun o => hz (qf_oc_per hN hD e o)
  obtain ⟨k0, h0, h1⟩ := pk_least (fun k => ¬ qf_oc N D (x - k)) ⟨_, hf⟩
  refine ⟨k0, ?_, h0, fun i hi => Classical.byContradiction (h1 i hi)⟩
  refine Nat.lt_of_not_le (fun hle => ?_)
  exact h1 (n - 1 - k) (by omega) hf
/-- the displacement is less than the ring -/
theorem qf_dn {n : Nat} {N G : Nat → Bool} {L D : Nat → Nat} (hn : 0 < n) (h : qf_W n N G L D) {z : Nat} (hz : ¬ qf_oc N D z) (t : Nat) : D t < n := by
  obtain ⟨k, hk, hf, _⟩ := qf_fl hn h.1 h.2.2.2.1 hz (t + n) (by omega)
  have e : D t = D (t + n) := h.2.2.2.1 t (t + n) (by rw [Nat.add_mod_right])
  by_cases h0 : k = 0
  · rw [h0] at hf
    have : ¬ D (t + n) ≠ 0 := fun z => hf (Or.inr z)
    omega
  · have := qf_fb h hf (t := t + n) (by omega)
    omega
/-- the run of a slot begins here -/
def qf_rs (N : Nat → Bool) (D : Nat → Nat) (b s : Nat) : Prop := b ≤ s ∧ (∀ t, b ≤ t → t < s → qf_oc N D t ∧ t < b + D t) ∧ (qf_oc N D s → D s + b ≤ s)
theorem qf_rs_run {n : Nat} {N G : Nat → Bool} {L D : Nat → Nat} (h : qf_W n N G L D) {b s j : Nat} (hr : qf_rs N D b s) (ho : qf_oc N D (b + j)) (hj : D (b + j) = j) : qf_oc N D s ∧ D s + b = s := by
  obtain ⟨h1, h2, h3⟩ := hr
  have hs : s ≤ b + j := by
    refine Nat.le_of_not_lt (fun hlt => ?_)
    have := (h2 (b + j) (by omega) hlt).2
    omega
  obtain ⟨o, hd⟩ := qf_chain h (b + j) (b + j - s) (by omega) (by omega) ho
  rw [show b + j - (b + j - s) = s by omega] at o hd
  have := h3 o
  exact ⟨o, by omega⟩
theorem qf_run {n : Nat} {N G : Nat → Bool} {L D : Nat → Nat} (h : qf_W n N G L D) {b s s1 : Nat} (hos : qf_oc N D s) (hds : D s + b = s) (hg : ∀ t, s < t → t < s1 → G t = true) : ∀ i, s + i < s1 → qf_oc N D (s + i) ∧ D (s + i) + b = s + i := by
  intro i
  induction i with
  | zero => exact fun _ => ⟨hos, hds⟩
  | succ i ih =>
    intro hi
    obtain ⟨_, e⟩ := ih (by omega)
    have g : G (s + i + 1) = true := hg _ (by omega) hi
    have hd : D (s + i + 1) ≠ 0 := h.2.2.2.2.1 _ g
    have h1 := ((h.2.2.2.2.2 (s + i) hd).2.1 g).1
    exact ⟨Or.inr hd, by rw [← Nat.add_assoc]; omega⟩
theorem qf_rs_next {n : Nat} {N G : Nat → Bool} {L D : Nat → Nat} (h : qf_W n N G L D) {x c b b1 s s1 : Nat}
    (hx : ∀ t, c < t → t ≤ x → D t ≠ 0) (hcb : c ≤ b)
    (hr : qf_rs N D b s) (hos : qf_oc N D s) (hds : D s + b = s)
    (hs1 : s < s1) (hg : ∀ t, s < t → t < s1 → G t = true) (hg1 : G s1 = false)
    (hb1 : b < b1) (hnx : b1 ≤ x) (hb : ∀ t, b < t → t < b1 → N t = false)
    (hN : ∀ t, qf_oc N D t → D t ≤ t → N (t - D t) = true) : qf_rs N D b1 s1 := by
  have hrun := qf_run h hos hds hg
  have hlast : D (s1 - 1) + b = s1 - 1 := by
    have := (hrun (s1 - 1 - s) (by omega)).2
    rwa [show s + (s1 - 1 - s) = s1 - 1 by omega] at this
  have hdd : D s1 ≠ 0 → D s1 ≤ s1 - 1 - b := by
    intro hd
    rw [show s1 = s1 - 1 + 1 by omega] at hd hg1
    have := (h.2.2.2.2.2 (s1 - 1) hd).2.2 hg1
    rw [show s1 - 1 + 1 = s1 by omega] at this
    omega
  have hq : D s1 ≠ 0 → b1 ≤ s1 - D s1 := by
    intro hd
    have h1 := hdd hd
    have h2 := hN s1 (Or.inr hd) (by omega)
    refine Nat.le_of_not_lt (fun hlt => ?_)
    rw [hb (s1 - D s1) (by omega) hlt] at h2
    exact Bool.noConfusion h2
  have hle : b1 ≤ s1 := by
    refine Nat.le_of_not_lt (fun hlt => ?_)
    have h1 := hr.1
    have := hq (hx s1 (by omega) (by omega))
    omega
  refine ⟨hle, fun t h1 h2 => ?_, fun _ => ?_⟩
  · by_cases hts : s ≤ t
    · have := hrun (t - s) (by omega)
      rw [show s + (t - s) = t by omega] at this
      exact ⟨this.1, by omega⟩
    · obtain ⟨o, hd⟩ := hr.2.1 t (by omega) (by omega)
      exact ⟨o, by omega⟩
  · by_cases hd : D s1 = 0
    · omega
    · have h1 := hq hd
      have h2 := hdd hd
      omega
end
section
/-! what the ring holds, as a list -/
def qf_ct (c : Nat → Option Nat) (a : Nat) : Nat → List Nat
  | 0 => []
  | k + 1 => qf_ct c a k ++ (c (a + k)).toList
theorem qf_ct_congr {c c' : Nat → Option Nat} {a k : Nat} (h : ∀ i, i < k → c' (a + i) = c (a + i)) : qf_ct c' a k = qf_ct c a k := by
  induction k with
  | zero => rfl
  | succ k ih =>
    unfold qf_ct
    rw [ih (fun i hi => h i (by omega)), h k (by omega)]
theorem qf_ct_upd {c c' : Nat → Option Nat} {a k s : Nat} (hs : s < k) (h : ∀ i, i < k → i ≠ s → c' (a + i) = c (a + i)) :
    ((c (a + s)).toList ++ qf_ct c' a k).Perm ((c' (a + s)).toList ++ qf_ct c a k) := by
  induction k with
  | zero => exact absurd hs (by omega)
  | succ k ih =>
    unfold qf_ct
    by_cases e : s = k
    · rw [qf_ct_congr (c := c) (c' := c') (fun i hi => h i (by omega) (by omega)), e]
      exact List.perm_iff_count.mpr (fun p => by simp only [List.count_append]; omega)
    · have h1 := ih (by omega) (fun i hi => h i (by omega))
      rw [h k (by omega) (fun z => e z.symm), ← List.append_assoc, ← List.append_assoc]
      exact h1.append_right _
theorem qf_ct_head {c : Nat → Option Nat} (a k : Nat) : qf_ct c a (k + 1) = (c a).toList ++ qf_ct c (a + 1) k := by
  induction k with
  | zero => simp [qf_ct]
  | succ k ih =>
    rw [qf_ct, ih, qf_ct, List.append_assoc, show a + (k + 1) = a + 1 + k by omega]
theorem qf_ct_rot1 {c : Nat → Option Nat} {n : Nat} (h : qf_per n c) (a : Nat) : (qf_ct c (a + 1) n).Perm (qf_ct c a n) := by
  have h1 := qf_ct_head (c := c) a n
  rw [qf_ct, h (a + n) a (Nat.add_mod_right a n)] at h1
  refine (List.perm_append_left_iff (c a).toList).mp ?_
  rw [← h1]
  exact List.perm_append_comm
theorem qf_ct_rot {c : Nat → Option Nat} {n : Nat} (h : qf_per n c) (a : Nat) : (qf_ct c a n).Perm (qf_ct c 0 n) := by
  induction a with
  | zero => exact List.Perm.refl _
  | succ a ih => exact (qf_ct_rot1 h a).trans ih
theorem qf_ct_len {c : Nat → Option Nat} {a k : Nat} (h : ∀ i, i < k → c (a + i) ≠ none) : (qf_ct c a k).length = k := by
  induction k with
  | zero => rfl
  | succ k ih =>
    unfold qf_ct
    have h1 := h k (by omega)
    cases e : c (a + k) with
    | none => exact absurd e h1
    | some v =>
      rw [List.length_append, ih (fun i hi => h i (by omega))]
      rfl
theorem qf_ct_free {c : Nat → Option Nat} {a k : Nat} (h : (qf_ct c a k).length < k) : ∃ i, i < k ∧ c (a + i) = none := by
  refine Classical.byContradiction (fun hn => ?_)
  have := qf_ct_len (c := c) (a := a) (k := k) (fun i hi e => hn ⟨i, hi, e⟩)
  omega
theorem qf_ct_nil {c : Nat → Option Nat} {a k : Nat} (h : ∀ i, i < k → c (a + i) = none) : qf_ct c a k = [] := by
  induction k with
  | zero => rfl
  | succ k ih =>
    unfold qf_ct
    rw [ih (fun i hi => h i (by omega)), h k (by omega)]
    rfl
theorem qf_ct_app {c : Nat → Option Nat} (a i k : Nat) : qf_ct c a (i + k) = qf_ct c a i ++ qf_ct c (a + i) k := by
  induction k with
  | zero => simp [qf_ct]
  | succ k ih =>
    rw [← Nat.add_assoc, qf_ct, ih, qf_ct, List.append_assoc, Nat.add_assoc a i k]
theorem qf_ct_mem {c : Nat → Option Nat} {a k p : Nat} : p ∈ qf_ct c a k ↔ ∃ i, i < k ∧ c (a + i) = some p := by
  induction k with
  | zero => exact ⟨fun h => absurd h (by simp [qf_ct]), fun ⟨i, hi, _⟩ => absurd hi (by omega)⟩
  | succ k ih =>
    unfold qf_ct
    rw [List.mem_append, ih, Option.mem_toList]
    constructor
    · rintro (⟨i, hi, e⟩ | e)
      · exact ⟨i, by omega, e⟩
      · exact ⟨k, by omega, e⟩
    · rintro ⟨i, hi, e⟩
      by_cases z : i = k
      · exact Or.inr (z ▸ e)
      · exact Or.inl ⟨i, by omega, e⟩
/-- the slot that names what stands at t, pushed by d -/
def qf_ow (n t d : Nat) : Nat := (t + (n - 1) * d) % n
theorem qf_ow_s {n : Nat} (hn : 0 < n) (t d : Nat) : qf_ow n (t + 1) (d + 1) = qf_ow n t d := by
  unfold qf_ow
  have : t + 1 + (n - 1) * (d + 1) = t + (n - 1) * d + n := by
    rw [Nat.mul_add, Nat.mul_one]
    omega
  rw [this, Nat.add_mod_right]
theorem qf_ow_at {n : Nat} (hn : 0 < n) (x j : Nat) : qf_ow n (x + j) j = x % n := by
  induction j with
  | zero => simp [qf_ow]
  | succ j ih => rw [← Nat.add_assoc, qf_ow_s hn, ih]
theorem qf_ow_per {n t u : Nat} (d : Nat) (e : t % n = u % n) : qf_ow n t d = qf_ow n u d := qf_ma _ e
theorem qf_ow_lt {n : Nat} (hn : 0 < n) (t d : Nat) : qf_ow n t d < n := Nat.mod_lt _ hn
/-- the owner tells the displacement -/
theorem qf_ow_inj {n : Nat} (hn : 0 < n) {x j d : Nat} (hj : j < n) (hd : d < n) (h : qf_ow n (x + j) d = x % n) : d = j := by
  rw [← qf_ow_at hn x d] at h
  have h2 := qf_mc ((n - 1) * d) h
  exact Nat.add_left_cancel (qf_mw x (by omega) (by omega) (by omega) (by omega) h2).symm
/-- a cell: the fingerprint that it holds, if any -/
def qf_ce (n R : Nat) (N : Nat → Bool) (L D : Nat → Nat) (t : Nat) : Option Nat :=
  if N t = true ∨ D t ≠ 0 then some (qf_ow n t (D t) * R + L t) else none
theorem qf_ce_o {n R : Nat} {N : Nat → Bool} {L D : Nat → Nat} {t : Nat} (h : qf_oc N D t) : qf_ce n R N L D t = some (qf_ow n t (D t) * R + L t) := if_pos h
theorem qf_ce_f {n R : Nat} {N : Nat → Bool} {L D : Nat → Nat} {t : Nat} (h : ¬ qf_oc N D t) : qf_ce n R N L D t = none := if_neg h
theorem qf_ce_nf {n R : Nat} {N : Nat → Bool} {L D : Nat → Nat} {t : Nat} (h : qf_ce n R N L D t = none) : ¬ qf_oc N D t := by
  intro o
  rw [qf_ce_o o] at h
  exact absurd h (by simp)
theorem qf_ce_per {n R : Nat} {N : Nat → Bool} {L D : Nat → Nat} (hN : qf_per n N) (hL : qf_per n L) (hD : qf_per n D) : qf_per n (qf_ce n R N L D) := by
  intro t u e
  unfold qf_ce
  rw [hN t u e, hL t u e, hD t u e, qf_ow_per _ e]
/-- a sound layout -/
def qf_V (n R : Nat) (N G : Nat → Bool) (L D : Nat → Nat) : Prop :=
  qf_W n N G L D ∧ (∀ t, qf_oc N D t → L t < R) ∧ (∀ s, N s = true ↔ ∃ j, qf_oc N D (s + j) ∧ D (s + j) = j)
theorem qf_V_own {n R : Nat} {N G : Nat → Bool} {L D : Nat → Nat} (h : qf_V n R N G L D) : ∀ t, qf_oc N D t → D t ≤ t → N (t - D t) = true := by
  intro t o hd
  refine (h.2.2 (t - D t)).mpr ⟨D t, ?_, ?_⟩
  · rw [Nat.sub_add_cancel hd]
    exact o
  · rw [Nat.sub_add_cancel hd]
/-- a layout and something (cl, cg, cd) that is to be put at c -/
def qf_J (n R : Nat) (N G : Nat → Bool) (L D : Nat → Nat) (c cl : Nat) (cg : Bool) (cd : Nat) : Prop :=
  qf_per n N ∧ qf_per n G ∧ qf_per n L ∧ qf_per n D ∧
  (∀ t, G t = true → qf_oc N D t) ∧
  (∀ t, t % n ≠ c % n → G t = true → D t ≠ 0) ∧
  (∀ t, qf_oc N D t → L t < R) ∧
  (∀ t, (t + 1) % n ≠ c % n → qf_st N G L D t) ∧
  (cg = true → cd ≠ 0) ∧ cl < R ∧
  (∀ t, (t + 1) % n = c % n → cd ≠ 0 → qf_oc N D t ∧ (cg = true → cd = D t + 1 ∧ L t ≤ cl) ∧ (cg = false → cd ≤ D t)) ∧
  (qf_oc N D c → (G c = true → D c = cd ∧ cl ≤ L c) ∧ (G c = false → D c + 1 ≤ cd)) ∧
  (∀ s, N s = true ↔ (∃ j, qf_oc N D (s + j) ∧ D (s + j) = j) ∨ (s + cd) % n = c % n)
theorem qf_oc_up {n : Nat} {N : Nat → Bool} {D : Nat → Nat} {c cd : Nat} (pN : qf_per n N) (h0 : cd = 0 → N c = true) (t : Nat) : qf_oc N (qf_up n c cd D) t ↔ (t % n = c % n ∨ qf_oc N D t) := by
  by_cases e : t % n = c % n
  · refine ⟨fun _ => Or.inl e, fun _ => ?_⟩
    unfold qf_oc
    rw [qf_up_s e, pN t c e]
    by_cases z : cd = 0
    · exact Or.inl (h0 z)
    · exact Or.inr z
  · unfold qf_oc
    rw [qf_up_n e]
    exact ⟨fun h => Or.inr h, fun h => h.elim (fun z => absurd z e) id⟩
theorem qf_st_up {n : Nat} {N G : Nat → Bool} {L D : Nat → Nat} {c cl : Nat} {cg : Bool} {cd : Nat} (pN : qf_per n N) (h0 : cd = 0 → N c = true)
    (hS : ∀ t, (t + 1) % n ≠ c % n → qf_st N G L D t)
    (cP : ∀ t, (t + 1) % n = c % n → cd ≠ 0 → qf_oc N D t ∧ (cg = true → cd = D t + 1 ∧ L t ≤ cl) ∧ (cg = false → cd ≤ D t))
    {t : Nat} (htc : t % n ≠ c % n) : qf_st N (qf_up n c cg G) (qf_up n c cl L) (qf_up n c cd D) t := by
  have oc' := qf_oc_up (D := D) pN h0
  unfold qf_st
  by_cases e : (t + 1) % n = c % n
  · rw [qf_up_s e, qf_up_s e, qf_up_s e, qf_up_n htc, qf_up_n htc]
    intro hd
    obtain ⟨o, a, b⟩ := cP t e hd
    exact ⟨(oc' t).mpr (Or.inr o), a, b⟩
  · rw [qf_up_n e, qf_up_n e, qf_up_n e, qf_up_n htc, qf_up_n htc]
    intro hd
    obtain ⟨o, a, b⟩ := hS t e hd
    exact ⟨(oc' t).mpr (Or.inr o), a, b⟩
theorem qf_J_step {n R : Nat} {N G : Nat → Bool} {L D : Nat → Nat} {c cl : Nat} {cg : Bool} {cd : Nat} (hn : 2 ≤ n) (h : qf_J n R N G L D c cl cg cd) (ho : qf_oc N D c) :
    qf_J n R N (qf_up n c cg G) (qf_up n c cl L) (qf_up n c cd D) (c + 1) (L c) (G c) (D c + 1) := by
  obtain ⟨pN, pG, pL, pD, gO, gD, lR, hS, cgD, clR, cP, cN, nm⟩ := h
  have h0 : cd = 0 → N c = true := fun e => (nm c).mpr (Or.inr (by rw [e, Nat.add_zero]))
  have oc' := qf_oc_up (D := D) pN h0
  have hc1 : (c + 1) % n ≠ c % n := qf_m1 hn
  refine ⟨pN, qf_up_per pG, qf_up_per pL, qf_up_per pD, ?_, ?_, ?_, ?_, fun _ => Nat.succ_ne_zero _, lR c ho, ?_, ?_, ?_⟩
  · intro t g
    refine (oc' t).mpr ?_
    by_cases e : t % n = c % n
    · exact Or.inl e
    · rw [qf_up_n e] at g
      exact Or.inr (gO t g)
  · intro t _ g
    by_cases e : t % n = c % n
    · rw [qf_up_s e] at g ⊢
      exact cgD g
    · rw [qf_up_n e] at g ⊢
      exact gD t e g
  · intro t o
    by_cases e : t % n = c % n
    · rw [qf_up_s e]
      exact clR
    · rw [qf_up_n e]
      exact lR t (((oc' t).mp o).elim (fun z => absurd z e) id)
  · intro t ht
    exact qf_st_up pN h0 hS cP (fun e => ht (qf_ma 1 e))
  · intro t ht _
    have e : t % n = c % n := qf_mc 1 ht
    rw [qf_up_s e, qf_up_s e]
    obtain ⟨a, b⟩ := cN ho
    exact ⟨(oc' t).mpr (Or.inl e), fun g => ⟨by rw [(a g).1], (a g).2⟩, fun g => b g⟩
  · intro o
    rw [qf_up_n hc1, qf_up_n hc1, qf_up_n hc1]
    have hst := hS c hc1
    refine ⟨fun g => ?_, fun g => ?_⟩
    · obtain ⟨_, a, _⟩ := hst (gD _ hc1 g)
      exact a g
    · by_cases z : D (c + 1) = 0
      · omega
      · obtain ⟨_, _, b⟩ := hst z
        have := b g
        omega
  · intro s
    constructor
    · intro hs
      rcases (nm s).mp hs with ⟨j, o, e⟩ | e
      · by_cases z : (s + j) % n = c % n
        · refine Or.inr ?_
          rw [pD _ _ z] at e
          rw [← Nat.add_assoc, e]
          exact qf_ma 1 z
        · exact Or.inl ⟨j, (oc' _).mpr (Or.inr o), by rw [qf_up_n z]; exact e⟩
      · exact Or.inl ⟨cd, (oc' _).mpr (Or.inl e), qf_up_s e⟩
    · rintro (⟨j, o, e⟩ | e)
      · by_cases z : (s + j) % n = c % n
        · rw [qf_up_s z] at e
          exact (nm s).mpr (Or.inr (by rw [e]; exact z))
        · rw [qf_up_n z] at e
          exact (nm s).mpr (Or.inl ⟨j, ((oc' _).mp o).elim (fun y => absurd y z) id, e⟩)
      · have z : (s + D c) % n = c % n := qf_mc 1 (by rw [← Nat.add_assoc] at e; exact e)
        exact (nm s).mpr (Or.inl ⟨D c, qf_oc_per pN pD z.symm ho, pD _ _ z⟩)
theorem qf_J_end {n R : Nat} {N G : Nat → Bool} {L D : Nat → Nat} {c cl : Nat} {cg : Bool} {cd : Nat} (hn : 2 ≤ n) (h : qf_J n R N G L D c cl cg cd) (ho : ¬ qf_oc N D c) :
    qf_V n R N (qf_up n c cg G) (qf_up n c cl L) (qf_up n c cd D) ∧ cd ≠ 0 := by
  obtain ⟨pN, pG, pL, pD, gO, gD, lR, hS, cgD, clR, cP, cN, nm⟩ := h
  have h0 : cd = 0 → N c = true := fun e => (nm c).mpr (Or.inr (by rw [e, Nat.add_zero]))
  have hcd : cd ≠ 0 := fun e => ho (Or.inl (h0 e))
  have oc' := qf_oc_up (D := D) pN h0
  have hc1 : (c + 1) % n ≠ c % n := qf_m1 hn
  refine ⟨⟨⟨pN, qf_up_per pG, qf_up_per pL, qf_up_per pD, ?_, ?_⟩, ?_, ?_⟩, hcd⟩
  · intro t g
    by_cases e : t % n = c % n
    · rw [qf_up_s e]
      exact hcd
    · rw [qf_up_n e] at g ⊢
      exact gD t e g
  · intro t
    by_cases e : t % n = c % n
    · have e1 : (t + 1) % n = (c + 1) % n := qf_ma 1 e
      intro hd
      rw [qf_up_n (by rw [e1]; exact hc1), pD _ _ e1] at hd
      exact absurd (hS c hc1 hd).1 ho
    · exact qf_st_up pN h0 hS cP e
  · intro t o
    by_cases e : t % n = c % n
    · rw [qf_up_s e]
      exact clR
    · rw [qf_up_n e]
      exact lR t (((oc' t).mp o).elim (fun z => absurd z e) id)
  · intro s
    constructor
    · intro hs
      rcases (nm s).mp hs with ⟨j, o, e⟩ | e
      · have z : (s + j) % n ≠ c % n := fun z => ho (qf_oc_per pN pD z o)
        exact ⟨j, (oc' _).mpr (Or.inr o), by rw [qf_up_n z]; exact e⟩
      · exact ⟨cd, (oc' _).mpr (Or.inl e), qf_up_s e⟩
    · rintro ⟨j, o, e⟩
      by_cases z : (s + j) % n = c % n
      · rw [qf_up_s z] at e
        exact (nm s).mpr (Or.inr (by rw [e]; exact z))
      · rw [qf_up_n z] at e
        exact (nm s).mpr (Or.inl ⟨j, ((oc' _).mp o).elim (fun y => absurd y z) id, e⟩)
/-- one cell is written: what the list gains and loses -/
theorem qf_ce_put {n R : Nat} {N : Nat → Bool} {L D : Nat → Nat} {c cl cd : Nat} (hn : 0 < n) (pN : qf_per n N) (pL : qf_per n L) (pD : qf_per n D) (h0 : cd = 0 → N c = true) :
    ((qf_ce n R N L D c).toList ++ qf_ct (qf_ce n R N (qf_up n c cl L) (qf_up n c cd D)) 0 n).Perm ((qf_ow n c cd * R + cl) :: qf_ct (qf_ce n R N L D) 0 n) := by
  have hm : c % n % n = c % n := Nat.mod_mod c n
  have h1 := qf_ct_upd (c := qf_ce n R N L D) (c' := qf_ce n R N (qf_up n c cl L) (qf_up n c cd D)) (a := 0) (k := n) (s := c % n) (Nat.mod_lt _ hn) (fun i hi hic => by
    have e : (0 + i) % n ≠ c % n := by
      rw [Nat.zero_add, Nat.mod_eq_of_lt hi]
      exact hic
    unfold qf_ce
    rw [qf_up_n e, qf_up_n e])
  rw [Nat.zero_add, qf_ce_per pN pL pD (c % n) c hm, qf_ce_per pN (qf_up_per pL) (qf_up_per pD) (c % n) c hm, qf_ce_o ((qf_oc_up pN h0 c).mpr (Or.inl rfl)), qf_up_s rfl, qf_up_s rfl] at h1
  exact h1
theorem qf_J_cstep {n R : Nat} {N G : Nat → Bool} {L D : Nat → Nat} {c cl : Nat} {cg : Bool} {cd : Nat} (hn : 2 ≤ n) (h : qf_J n R N G L D c cl cg cd) (ho : qf_oc N D c) :
    ((qf_ow n (c + 1) (D c + 1) * R + L c) :: qf_ct (qf_ce n R N (qf_up n c cl L) (qf_up n c cd D)) 0 n).Perm ((qf_ow n c cd * R + cl) :: qf_ct (qf_ce n R N L D) 0 n) := by
  obtain ⟨pN, pG, pL, pD, gO, gD, lR, hS, cgD, clR, cP, cN, nm⟩ := h
  have h0 : cd = 0 → N c = true := fun e => (nm c).mpr (Or.inr (by rw [e, Nat.add_zero]))
  have h1 := qf_ce_put (R := R) (cl := cl) (by omega) pN pL pD h0
  rw [qf_ce_o ho] at h1
  rw [qf_ow_s (by omega)]
  exact h1
theorem qf_J_cend {n R : Nat} {N G : Nat → Bool} {L D : Nat → Nat} {c cl : Nat} {cg : Bool} {cd : Nat} (hn : 2 ≤ n) (h : qf_J n R N G L D c cl cg cd) (ho : ¬ qf_oc N D c) :
    (qf_ct (qf_ce n R N (qf_up n c cl L) (qf_up n c cd D)) 0 n).Perm ((qf_ow n c cd * R + cl) :: qf_ct (qf_ce n R N L D) 0 n) := by
  obtain ⟨pN, pG, pL, pD, gO, gD, lR, hS, cgD, clR, cP, cN, nm⟩ := h
  have h0 : cd = 0 → N c = true := fun e => (nm c).mpr (Or.inr (by rw [e, Nat.add_zero]))
  have h1 := qf_ce_put (R := R) (cl := cl) (by omega) pN pL pD h0
  rw [qf_ce_f ho] at h1
  exact h1
end
section
/-! adding, without the program -/
theorem qf_nm_oc {n : Nat} {N : Nat → Bool} {D : Nat → Nat} {x : Nat} (pN : qf_per n N) (pD : qf_per n D) (ho : qf_oc N D x) (t : Nat) : qf_oc (qf_up n x true N) D t ↔ qf_oc N D t := by
  by_cases e : t % n = x % n
  · refine ⟨fun _ => qf_oc_per pN pD e.symm ho, fun _ => Or.inl (qf_up_s e)⟩
  · unfold qf_oc
    rw [qf_up_n e]
theorem qf_nm_id {n : Nat} {N : Nat → Bool} {x : Nat} (pN : qf_per n N) (h : N x = true) : qf_up n x true N = N := by
  funext t
  by_cases e : t % n = x % n
  · rw [qf_up_s e, pN t x e, h]
  · rw [qf_up_n e]
theorem qf_nm_W {n : Nat} {N G : Nat → Bool} {L D : Nat → Nat} {x : Nat} (h : qf_W n N G L D) (ho : qf_oc N D x) : qf_W n (qf_up n x true N) G L D := by
  obtain ⟨pN, pG, pL, pD, hG, hS⟩ := h
  refine ⟨qf_up_per pN, pG, pL, pD, hG, fun t hd => ?_⟩
  obtain ⟨o, a, b⟩ := hS t hd
  exact ⟨(qf_nm_oc pN pD ho t).mpr o, a, b⟩
theorem qf_nm_own {n R : Nat} {N G : Nat → Bool} {L D : Nat → Nat} {x : Nat} (h : qf_V n R N G L D) (ho : qf_oc N D x) : ∀ t, qf_oc (qf_up n x true N) D t → D t ≤ t → (qf_up n x true N) (t - D t) = true := by
  intro t o hd
  have h1 := qf_V_own h t ((qf_nm_oc h.1.1 h.1.2.2.2.1 ho t).mp o) hd
  by_cases e : (t - D t) % n = x % n
  · exact qf_up_s e
  · rw [qf_up_n e]
    exact h1
theorem qf_nm_ce {n R : Nat} {N : Nat → Bool} {L D : Nat → Nat} {x : Nat} (pN : qf_per n N) (pD : qf_per n D) (ho : qf_oc N D x) : qf_ce n R (qf_up n x true N) L D = qf_ce n R N L D := by
  funext t
  by_cases o : qf_oc N D t
  · rw [qf_ce_o o, qf_ce_o ((qf_nm_oc pN pD ho t).mpr o)]
  · rw [qf_ce_f o, qf_ce_f (fun z => o ((qf_nm_oc pN pD ho t).mp z))]
/-- into a free slot -/
theorem qf_put_V {n R : Nat} {N G : Nat → Bool} {L D : Nat → Nat} {x r : Nat} (h : qf_V n R N G L D) (ho : ¬ qf_oc N D x) (hr : r < R) : qf_V n R (qf_up n x true N) G (qf_up n x r L) D := by
  obtain ⟨⟨pN, pG, pL, pD, hG, hS⟩, lR, nm⟩ := h
  have hx0 : D x = 0 := Classical.byContradiction (fun z => ho (Or.inr z))
  have oc' : ∀ t, qf_oc (qf_up n x true N) D t ↔ (t % n = x % n ∨ qf_oc N D t) := by
    intro t
    by_cases e : t % n = x % n
    · exact ⟨fun _ => Or.inl e, fun _ => Or.inl (qf_up_s e)⟩
    · unfold qf_oc
      rw [qf_up_n e]
      exact ⟨fun z => Or.inr z, fun z => z.elim (fun y => absurd y e) id⟩
  refine ⟨⟨qf_up_per pN, pG, qf_up_per pL, pD, hG, fun t hd => ?_⟩, fun t o => ?_, fun s => ?_⟩
  · obtain ⟨o, a, b⟩ := hS t hd
    have e1 : (t + 1) % n ≠ x % n := fun e => hd (by rw [pD _ _ e, hx0])
    have e2 : t % n ≠ x % n := fun e => ho (qf_oc_per pN pD e o)
    rw [qf_up_n e1, qf_up_n e2]
    exact ⟨(oc' t).mpr (Or.inr o), a, b⟩
  · by_cases e : t % n = x % n
    · rw [qf_up_s e]
      exact hr
    · rw [qf_up_n e]
      exact lR t (((oc' t).mp o).elim (fun z => absurd z e) id)
  · constructor
    · intro hs
      by_cases e : s % n = x % n
      · exact ⟨0, (oc' s).mpr (Or.inl e), by rw [Nat.add_zero, pD _ _ e, hx0]⟩
      · rw [qf_up_n e] at hs
        obtain ⟨j, o, hj⟩ := (nm s).mp hs
        exact ⟨j, (oc' _).mpr (Or.inr o), hj⟩
    · rintro ⟨j, o, hj⟩
      by_cases e : (s + j) % n = x % n
      · rw [pD _ _ e, hx0] at hj
        rw [← hj, Nat.add_zero] at e
        exact qf_up_s e
      · have h1 := (nm s).mpr ⟨j, ((oc' _).mp o).elim (fun z => absurd z e) id, hj⟩
        by_cases e2 : s % n = x % n
        · exact qf_up_s e2
        · rw [qf_up_n e2]
          exact h1
theorem qf_put_C {n R : Nat} {N G : Nat → Bool} {L D : Nat → Nat} {x r : Nat} (hn : 0 < n) (h : qf_V n R N G L D) (ho : ¬ qf_oc N D x) :
    (qf_ct (qf_ce n R (qf_up n x true N) (qf_up n x r L) D) 0 n).Perm ((x % n * R + r) :: qf_ct (qf_ce n R N L D) 0 n) := by
  obtain ⟨⟨pN, pG, pL, pD, hG, hS⟩, lR, nm⟩ := h
  have hx0 : D x = 0 := Classical.byContradiction (fun z => ho (Or.inr z))
  have hm : x % n % n = x % n := Nat.mod_mod x n
  have h1 := qf_ct_upd (c := qf_ce n R N L D) (c' := qf_ce n R (qf_up n x true N) (qf_up n x r L) D) (a := 0) (k := n) (s := x % n) (Nat.mod_lt _ hn) (fun i hi hic => by
    have e : (0 + i) % n ≠ x % n := by
      rw [Nat.zero_add, Nat.mod_eq_of_lt hi]
      exact hic
    unfold qf_ce
    rw [qf_up_n e, qf_up_n e])
  rw [Nat.zero_add, qf_ce_per pN pL pD (x % n) x hm, qf_ce_per (qf_up_per pN) (qf_up_per pL) pD (x % n) x hm, qf_ce_f ho, qf_ce_o (Or.inl (qf_up_s rfl)), qf_up_s rfl, hx0] at h1
  have e : qf_ow n x 0 = x % n := qf_ow_at hn x 0
  rw [e] at h1
  exact h1
/-- ahead of the run's first -/
theorem qf_J_A1 {n R : Nat} {N G : Nat → Bool} {L D : Nat → Nat} {x y r : Nat} (h : qf_V n R N G L D) (hx : N x = true) (hr : r < R)
    (hrs : qf_rs N D x y) (oy : qf_oc N D y) (dy : D y + x = y) (hry : r ≤ L y) : qf_J n R N (qf_up n y true G) L D y r false (y - x) := by
  obtain ⟨⟨pN, pG, pL, pD, hG, hS⟩, lR, nm⟩ := h
  refine ⟨pN, qf_up_per pG, pL, pD, ?_, ?_, lR, ?_, fun z => Bool.noConfusion z, hr, ?_, ?_, ?_⟩
  · intro t g
    by_cases e : t % n = y % n
    · exact qf_oc_per pN pD e.symm oy
    · rw [qf_up_n e] at g
      exact Or.inr (hG t g)
  · intro t e g
    rw [qf_up_n e] at g
    exact hG t g
  · intro t e
    unfold qf_st
    rw [qf_up_n e]
    exact hS t
  · intro t e hd
    have h1 := hrs.2.1 (y - 1) (by omega) (by omega)
    have e1 : t % n = (y - 1) % n := qf_mc 1 (by rw [e, Nat.sub_add_cancel (by omega)])
    rw [pD _ _ e1]
    exact ⟨qf_oc_per pN pD e1.symm h1.1, fun z => Bool.noConfusion z, fun _ => by omega⟩
  · intro _
    rw [qf_up_s rfl]
    exact ⟨fun _ => ⟨by omega, hry⟩, fun z => Bool.noConfusion z⟩
  · intro s
    refine ⟨fun hs => Or.inl ((nm s).mp hs), ?_⟩
    rintro (hs | hs)
    · exact (nm s).mpr hs
    · have h1 := hrs.1
      have e1 : s % n = x % n := qf_mc (y - x) (by rw [hs, show x + (y - x) = y by omega])
      rw [pN _ _ e1]
      exact hx
/-- into its run -/
theorem qf_J_A2 {n R : Nat} {N G : Nat → Bool} {L D : Nat → Nat} {x s r : Nat} (h : qf_V n R N G L D) (hx : N x = true) (hr : r < R)
    (hxs : x < s) (os : qf_oc N D (s - 1)) (ds : D (s - 1) + x = s - 1) (ls : L (s - 1) < r) (hg : G s = true → r ≤ L s) : qf_J n R N G L D s r true (s - x) := by
  obtain ⟨⟨pN, pG, pL, pD, hG, hS⟩, lR, nm⟩ := h
  have hst := hS (s - 1)
  unfold qf_st at hst
  rw [Nat.sub_add_cancel (show 1 ≤ s by omega)] at hst
  refine ⟨pN, pG, pL, pD, fun t g => Or.inr (hG t g), fun t _ g => hG t g, lR, fun t _ => hS t, fun _ => by omega, hr, ?_, ?_, ?_⟩
  · intro t e _
    have e1 : t % n = (s - 1) % n := qf_mc 1 (by rw [e, Nat.sub_add_cancel (by omega)])
    rw [pD _ _ e1, pL _ _ e1]
    exact ⟨qf_oc_per pN pD e1.symm os, fun _ => ⟨by omega, by omega⟩, fun z => Bool.noConfusion z⟩
  · intro _
    refine ⟨fun g => ⟨?_, hg g⟩, fun g => ?_⟩
    · have := ((hst (hG s g)).2.1 g).1
      omega
    · by_cases z : D s = 0
      · omega
      · have := (hst z).2.2 g
        omega
  · intro t
    refine ⟨fun hs => Or.inl ((nm t).mp hs), ?_⟩
    rintro (hs | hs)
    · exact (nm t).mpr hs
    · have e1 : t % n = x % n := qf_mc (s - x) (by rw [hs, show x + (s - x) = s by omega])
      rw [pN _ _ e1]
      exact hx
/-- a run of its own -/
theorem qf_J_B {n R : Nat} {N G : Nat → Bool} {L D : Nat → Nat} {x y r : Nat} (h : qf_V n R N G L D) (hx : N x = false) (ho : qf_oc N D x) (hr : r < R)
    (hrs : qf_rs (qf_up n x true N) D x y) : qf_J n R (qf_up n x true N) G L D y r false (y - x) ∧ x < y := by
  obtain ⟨⟨pN, pG, pL, pD, hG, hS⟩, lR, nm⟩ := h
  have oc' := qf_nm_oc pN pD ho
  have hdx : D x ≠ 0 := ho.elim (fun z => absurd (hx.symm.trans z) (fun w => Bool.noConfusion w)) id
  obtain ⟨h1, h2, h3⟩ := hrs
  have hxy : x < y := by
    refine Nat.lt_of_le_of_ne h1 (fun e => hdx ?_)
    rw [← e] at h3
    have := h3 ((oc' x).mpr ho)
    omega
  have hst := hS (y - 1)
  unfold qf_st at hst
  rw [Nat.sub_add_cancel (show 1 ≤ y by omega)] at hst
  have hl := h2 (y - 1) (by omega) (by omega)
  have hne : qf_oc N D y → D y ≠ y - x := by
    intro o e
    have := (nm x).mpr ⟨y - x, by rw [show x + (y - x) = y by omega]; exact o, by rw [show x + (y - x) = y by omega]; exact e⟩
    rw [hx] at this
    exact Bool.noConfusion this
  refine ⟨⟨qf_up_per pN, pG, pL, pD, fun t g => Or.inr (hG t g), fun t _ g => hG t g, fun t o => lR t ((oc' t).mp o), fun t _ hd => ?_, fun z => Bool.noConfusion z, hr, ?_, ?_, ?_⟩, hxy⟩
  · obtain ⟨o, a, b⟩ := hS t hd
    exact ⟨(oc' t).mpr o, a, b⟩
  · intro t e _
    have e1 : t % n = (y - 1) % n := qf_mc 1 (by rw [e, Nat.sub_add_cancel (by omega)])
    rw [pD _ _ e1]
    exact ⟨qf_oc_per (qf_up_per pN) pD e1.symm hl.1, fun z => Bool.noConfusion z, fun _ => by omega⟩
  · intro o
    have h4 := h3 o
    have h5 := hne ((oc' y).mp o)
    refine ⟨fun g => ?_, fun _ => by omega⟩
    have := ((hst (hG y g)).2.1 g).1
    omega
  · intro s
    constructor
    · intro hs
      by_cases e : s % n = x % n
      · refine Or.inr ?_
        rw [qf_ma (y - x) e, show x + (y - x) = y by omega]
      · rw [qf_up_n e] at hs
        obtain ⟨j, o, hj⟩ := (nm s).mp hs
        exact Or.inl ⟨j, (oc' _).mpr o, hj⟩
    · rintro (⟨j, o, hj⟩ | hs)
      · have h6 := (nm s).mpr ⟨j, (oc' _).mp o, hj⟩
        by_cases e : s % n = x % n
        · exact qf_up_s e
        · rw [qf_up_n e]
          exact h6
      · exact qf_up_s (qf_mc (y - x) (by rw [hs, show x + (y - x) = y by omega]))
end
section
/-! counting, reading and clearing, without the program -/
def qf_cn (Q : Nat → Bool) (a : Nat) : Nat → Nat
  | 0 => 0
  | k + 1 => qf_cn Q a k + (if Q (a + k) = true then 1 else 0)
theorem qf_cn_congr {Q Q' : Nat → Bool} {a k : Nat} (h : ∀ i, i < k → Q (a + i) = Q' (a + i)) : qf_cn Q a k = qf_cn Q' a k := by
  induction k with
  | zero => rfl
  | succ k ih =>
    unfold qf_cn
    rw [ih (fun i hi => h i (by omega)), h k (by omega)]
theorem qf_cn_zero {Q : Nat → Bool} {a k : Nat} (h : ∀ i, i < k → Q (a + i) = false) : qf_cn Q a k = 0 := by
  induction k with
  | zero => rfl
  | succ k ih =>
    unfold qf_cn
    rw [ih (fun i hi => h i (by omega)), h k (by omega)]
    rfl
theorem qf_cn_app {Q : Nat → Bool} (a i k : Nat) : qf_cn Q a (i + k) = qf_cn Q a i + qf_cn Q (a + i) k := by
  induction k with
  | zero => rfl
  | succ k ih =>
    rw [← Nat.add_assoc, qf_cn, ih, qf_cn, Nat.add_assoc, Nat.add_assoc a i k]
theorem qf_cn_le {Q : Nat → Bool} (a k : Nat) : qf_cn Q a k ≤ k := by
  induction k with
  | zero => exact Nat.le_refl _
  | succ k ih =>
    unfold qf_cn
    by_cases e : Q (a + k) = true
    · rw [if_pos e]
      omega
    · rw [if_neg e]
      omega
theorem qf_ct_count {c : Nat → Option Nat} (p a k : Nat) : (qf_ct c a k).count p = qf_cn (fun t => c t == some p) a k := by
  induction k with
  | zero => rfl
  | succ k ih =>
    rw [qf_ct, qf_cn, List.count_append, ih]
    cases e : c (a + k) with
    | none => simp
    | some v => simp [List.count_singleton]
theorem qf_fp_inj {R a b l w : Nat} (hl : l < R) (hw : w < R) (h : a * R + l = b * R + w) : a = b ∧ l = w := by
  have h1 : (R * a + l) / R = (R * b + w) / R := by rw [Nat.mul_comm R a, Nat.mul_comm R b, h]
  rw [Nat.mul_add_div (by omega), Nat.mul_add_div (by omega), Nat.div_eq_of_lt hl, Nat.div_eq_of_lt hw] at h1
  have h2 : a = b := by omega
  rw [h2] at h
  exact ⟨h2, by omega⟩
/-- a cell of the window from x that holds a fingerprint of slot x -/
theorem qf_ce_x {n R : Nat} {N G : Nat → Bool} {L D : Nat → Nat} (hn : 0 < n) (h : qf_V n R N G L D) {z : Nat} (hz : ¬ qf_oc N D z) {x i w : Nat} (hi : i < n) (hw : w < R)
    (hc : qf_ce n R N L D (x + i) = some (x % n * R + w)) : qf_oc N D (x + i) ∧ D (x + i) = i ∧ L (x + i) = w := by
  by_cases o : qf_oc N D (x + i)
  · rw [qf_ce_o o] at hc
    obtain ⟨h1, h2⟩ := qf_fp_inj (h.2.1 _ o) hw (Option.some.inj hc)
    exact ⟨o, qf_ow_inj hn hi (qf_dn hn h.1 hz _) h1, h2⟩
  · rw [qf_ce_f o] at hc
    exact absurd hc (by simp)
theorem qf_times_0 {n R : Nat} {N G : Nat → Bool} {L D : Nat → Nat} (hn : 0 < n) (h : qf_V n R N G L D) {z : Nat} (hz : ¬ qf_oc N D z) {x w : Nat} (hw : w < R) (hx : N x = false) :
    (qf_ct (qf_ce n R N L D) 0 n).count (x % n * R + w) = 0 := by
  rw [← (qf_ct_rot (qf_ce_per h.1.1 h.1.2.2.1 h.1.2.2.2.1) x).count_eq, List.count_eq_zero, qf_ct_mem]
  rintro ⟨i, hi, hc⟩
  obtain ⟨o, d, _⟩ := qf_ce_x hn h hz hi hw hc
  have := (h.2.2 x).mpr ⟨i, o, d⟩
  rw [hx] at this
  exact Bool.noConfusion this
/-- the run of x, from y to e -/
theorem qf_run_end {n R : Nat} {N G : Nat → Bool} {L D : Nat → Nat} (hn : 0 < n) (h : qf_V n R N G L D) {z : Nat} (hz : ¬ qf_oc N D z) {x y e : Nat}
    (hrs : qf_rs N D x y) (oy : qf_oc N D y) (dy : D y + x = y) (hye : y < e) (hg : ∀ t, y < t → t < e → G t = true) : e < x + n := by
  obtain ⟨k, hk, hf, _⟩ := qf_ff hn h.1.1 h.1.2.2.2.1 hz x
  refine Nat.lt_of_not_le (fun hle => hf ?_)
  have hrun := qf_run h.1 oy dy hg
  have h1 := hrs.1
  by_cases c1 : x + k < y
  · exact (hrs.2.1 (x + k) (by omega) c1).1
  · have h2 := (hrun (x + k - y) (by omega)).1
    rwa [show y + (x + k - y) = x + k by omega] at h2
theorem qf_times {n R : Nat} {N G : Nat → Bool} {L D : Nat → Nat} (hn : 0 < n) (h : qf_V n R N G L D) {z : Nat} (hz : ¬ qf_oc N D z) {x y e w : Nat} (hw : w < R)
    (hrs : qf_rs N D x y) (oy : qf_oc N D y) (dy : D y + x = y) (hye : y < e) (hg : ∀ t, y < t → t < e → G t = true) (hge : G e = false) :
    (qf_ct (qf_ce n R N L D) 0 n).count (x % n * R + w) = qf_cn (fun t => L t == w) y (e - y) := by
  have hen := qf_run_end hn h hz hrs oy dy hye hg
  have hrun := qf_run h.1 oy dy hg
  have h1 := hrs.1
  rw [← (qf_ct_rot (qf_ce_per h.1.1 h.1.2.2.1 h.1.2.2.2.1) x).count_eq, qf_ct_count]
  rw [show n = (y - x) + ((e - y) + (x + n - e)) by omega, qf_cn_app, qf_cn_app]
  rw [show (y - x) + ((e - y) + (x + n - e)) = n by omega, show x + (y - x) = y by omega, show y + (e - y) = e by omega]
  have z1 : qf_cn (fun t => qf_ce n R N L D t == some (x % n * R + w)) x (y - x) = 0 := by
    refine qf_cn_zero (fun i hi => ?_)
    refine Bool.eq_false_iff.mpr (fun hc => ?_)
    obtain ⟨_, d, _⟩ := qf_ce_x hn h hz (x := x) (i := i) (by omega) hw (by simpa using hc)
    have := (hrs.2.1 (x + i) (by omega) (by omega)).2
    omega
  have z3 : qf_cn (fun t => qf_ce n R N L D t == some (x % n * R + w)) e (x + n - e) = 0 := by
    refine qf_cn_zero (fun i hi => ?_)
    refine Bool.eq_false_iff.mpr (fun hc => ?_)
    have hc' : qf_ce n R N L D (x + (e + i - x)) = some (x % n * R + w) := by
      rw [show x + (e + i - x) = e + i by omega]
      simpa using hc
    obtain ⟨o, d, _⟩ := qf_ce_x hn h hz (by omega) hw hc'
    rw [show x + (e + i - x) = e + i by omega] at o d
    obtain ⟨_, h3⟩ := qf_chain h.1 (e + i) i (by omega) (by omega) o
    rw [Nat.add_sub_cancel] at h3
    have h4 := hrun (e - 1 - y) (by omega)
    rw [show y + (e - 1 - y) = e - 1 by omega] at h4
    have hst := h.1.2.2.2.2.2 (e - 1)
    unfold qf_st at hst
    rw [Nat.sub_add_cancel (show 1 ≤ e by omega)] at hst
    have := (hst (by omega)).2.2 hge
    omega
  have z2 : qf_cn (fun t => qf_ce n R N L D t == some (x % n * R + w)) y (e - y) = qf_cn (fun t => L t == w) y (e - y) := by
    refine qf_cn_congr (fun i hi => ?_)
    obtain ⟨o, d⟩ := hrun i (by omega)
    have ed : D (y + i) = y + i - x := by omega
    have eo : qf_ow n (y + i) (D (y + i)) = x % n := by
      rw [ed]
      have := qf_ow_at hn x (y + i - x)
      rwa [show x + (y + i - x) = y + i by omega] at this
    rw [qf_ce_o o, eo]
    by_cases hl : L (y + i) = w
    · rw [hl]
      simp
    · have hne : ¬ x % n * R + L (y + i) = x % n * R + w := by omega
      show (some (x % n * R + L (y + i)) == some (x % n * R + w)) = (L (y + i) == w)
      rw [beq_eq_false_iff_ne.mpr hl]
      exact beq_eq_false_iff_ne.mpr (fun z => hne (Option.some.inj z))
  rw [z1, z2, z3]
  omega
/-- the next slot that is named is the owner of what stands at s -/
theorem qf_owner {n R : Nat} {N G : Nat → Bool} {L D : Nat → Nat} (h : qf_V n R N G L D) {s : Nat} (hs : 1 ≤ s) (hd : D s ≠ 0) (h1 : D s ≤ s) (h2 : D (s - 1) ≤ s - 1) (hg : G s = false) :
    s - 1 - D (s - 1) < s - D s ∧ N (s - D s) = true ∧ ∀ t, s - 1 - D (s - 1) < t → t < s - D s → N t = false := by
  have hst := h.1.2.2.2.2.2 (s - 1)
  unfold qf_st at hst
  rw [Nat.sub_add_cancel hs] at hst
  have h3 := (hst hd).2.2 hg
  refine ⟨by omega, qf_V_own h s (Or.inr hd) h1, fun t h4 h5 => ?_⟩
  refine Bool.eq_false_iff.mpr (fun hN => ?_)
  obtain ⟨j, o, dj⟩ := (h.2.2 t).mp hN
  by_cases c1 : t + j ≤ s - 1
  · have := qf_mono h.1 (t + j) (s - 1 - (t + j))
    rw [show t + j + (s - 1 - (t + j)) = s - 1 by omega] at this
    omega
  · obtain ⟨_, h6⟩ := qf_chain h.1 (t + j) (t + j - s) (by omega) (by omega) o
    rw [show t + j - (t + j - s) = s by omega] at h6
    omega
/-- the cells from a, m of them -/
def qf_in (n a m t : Nat) : Bool := decide ((t + (n - a % n)) % n < m)
theorem qf_in_at {n a m i : Nat} (hn : 0 < n) (hi : i < n) : qf_in n a m (a + i) = decide (i < m) := by
  unfold qf_in
  have h1 : a % n + n * (a / n) = a := Nat.mod_add_div a n
  have h2 := Nat.mod_lt a hn
  have h3 : a + i + (n - a % n) = i + n * (a / n + 1) := by
    rw [Nat.mul_add, Nat.mul_one]
    omega
  rw [h3, Nat.add_mul_mod_self_left, Nat.mod_eq_of_lt hi]
theorem qf_in_per {n a m : Nat} : qf_per n (qf_in n a m) := by
  intro t u e
  unfold qf_in
  rw [qf_ma (n - a % n) e]
def qf_clB (n a m : Nat) (N : Nat → Bool) : Nat → Bool := fun t => if qf_in n a m t = true then false else N t
def qf_clD (n a m : Nat) (D : Nat → Nat) : Nat → Nat := fun t => if qf_in n a m t = true then 0 else D t
theorem qf_clB_per {n a m : Nat} {N : Nat → Bool} (h : qf_per n N) : qf_per n (qf_clB n a m N) := by
  intro t u e
  unfold qf_clB
  rw [qf_in_per t u e, h t u e]
theorem qf_clD_per {n a m : Nat} {D : Nat → Nat} (h : qf_per n D) : qf_per n (qf_clD n a m D) := by
  intro t u e
  unfold qf_clD
  rw [qf_in_per t u e, h t u e]
theorem qf_cl_oc {n a m : Nat} {N : Nat → Bool} {D : Nat → Nat} (t : Nat) : qf_oc (qf_clB n a m N) (qf_clD n a m D) t ↔ (qf_oc N D t ∧ qf_in n a m t = false) := by
  unfold qf_oc qf_clB qf_clD
  by_cases e : qf_in n a m t = true
  · rw [if_pos e, if_pos e, e]
    simp
  · rw [if_neg e, if_neg e, Bool.eq_false_iff.mpr e]
    simp
/-- a stretch between free cells is cleared -/
theorem qf_cl_V {n R : Nat} {N G : Nat → Bool} {L D : Nat → Nat} (hn : 0 < n) (h : qf_V n R N G L D) {a m : Nat} (ha : 1 ≤ a) (hm : m < n)
    (hz : ¬ qf_oc N D (a - 1)) (he : ¬ qf_oc N D (a + m)) : qf_V n R (qf_clB n a m N) (qf_clB n a m G) L (qf_clD n a m D) := by
  obtain ⟨⟨pN, pG, pL, pD, hG, hS⟩, lR, nm⟩ := h
  have hW : qf_W n N G L D := ⟨pN, pG, pL, pD, hG, hS⟩
  have oc' := qf_cl_oc (n := n) (a := a) (m := m) (N := N) (D := D)
  have hin : ∀ t, qf_in n a m t = true → ∃ i, i < m ∧ (a + i) % n = t % n := by
    intro t ht
    obtain ⟨i, hi, e⟩ := qf_win hn t a
    rw [← qf_in_per _ _ e, qf_in_at hn hi] at ht
    exact ⟨i, of_decide_eq_true ht, e⟩
  have hinI : ∀ t i, i < m → (a + i) % n = t % n → qf_in n a m t = true := by
    intro t i hi e
    rw [← qf_in_per _ _ e, qf_in_at hn (by omega)]
    exact decide_eq_true hi
  have dN : ∀ t, qf_in n a m t = false → qf_clD n a m D t = D t := by
    intro t ht
    unfold qf_clD
    rw [ht]
    rfl
  have bN : ∀ (B : Nat → Bool) t, qf_in n a m t = false → qf_clB n a m B t = B t := by
    intro B t ht
    unfold qf_clB
    rw [ht]
    rfl
  have bI : ∀ (B : Nat → Bool) t, qf_clB n a m B t = true → qf_in n a m t = false ∧ B t = true := by
    intro B t ht
    unfold qf_clB at ht
    by_cases e : qf_in n a m t = true
    · rw [if_pos e] at ht
      exact Bool.noConfusion ht
    · rw [if_neg e] at ht
      exact ⟨Bool.eq_false_iff.mpr e, ht⟩
  have dI : ∀ t, qf_clD n a m D t ≠ 0 → qf_in n a m t = false := by
    intro t ht
    refine Bool.eq_false_iff.mpr (fun e => ht ?_)
    unfold qf_clD
    rw [if_pos e]
  refine ⟨⟨qf_clB_per pN, qf_clB_per pG, pL, qf_clD_per pD, fun t g => ?_, fun t hd => ?_⟩, fun t o => lR t ((oc' t).mp o).1, fun s => ?_⟩
  · obtain ⟨h1, h2⟩ := bI G t g
    rw [dN t h1]
    exact hG t h2
  · have h1 := dI _ hd
    rw [dN _ h1] at hd ⊢
    rw [bN G _ h1]
    obtain ⟨o, p, q⟩ := hS t hd
    have h2 : qf_in n a m t = false := by
      refine Bool.eq_false_iff.mpr (fun e => ?_)
      obtain ⟨i, hi, ei⟩ := hin t e
      have e1 : (a + i + 1) % n = (t + 1) % n := qf_ma 1 ei
      by_cases c1 : i + 1 < m
      · rw [hinI (t + 1) (i + 1) c1 (by rw [← Nat.add_assoc]; exact e1)] at h1
        exact Bool.noConfusion h1
      · rw [show a + i + 1 = a + m by omega] at e1
        exact he (qf_oc_per pN pD e1.symm (Or.inr hd))
    rw [dN _ h2]
    exact ⟨(oc' t).mpr ⟨o, h2⟩, p, q⟩
  · constructor
    · intro hs
      obtain ⟨h1, h2⟩ := bI N s hs
      obtain ⟨j, o, dj⟩ := (nm s).mp h2
      have h3 : qf_in n a m (s + j) = false := by
        refine Bool.eq_false_iff.mpr (fun e => ?_)
        obtain ⟨i, hi, ei⟩ := hin _ e
        have h4 := qf_fb hW hz (t := a + i) (by omega)
        rw [pD _ _ ei, dj] at h4
        have e1 : (a + (i - j)) % n = s % n := qf_mc j (by rw [← ei, show a + (i - j) + j = a + i by omega])
        rw [hinI s (i - j) (by omega) e1] at h1
        exact Bool.noConfusion h1
      exact ⟨j, (oc' _).mpr ⟨o, h3⟩, by rw [dN _ h3]; exact dj⟩
    · rintro ⟨j, o, dj⟩
      obtain ⟨o1, h3⟩ := (oc' _).mp o
      rw [dN _ h3] at dj
      have h2 := (nm s).mpr ⟨j, o1, dj⟩
      have h1 : qf_in n a m s = false := by
        refine Bool.eq_false_iff.mpr (fun e => ?_)
        obtain ⟨i, hi, ei⟩ := hin _ e
        have e1 : (a + i + j) % n = (s + j) % n := qf_ma j ei
        have o2 : qf_oc N D (a + i + j) := qf_oc_per pN pD e1.symm o1
        have d2 : D (a + i + j) = j := by rw [pD _ _ e1]; exact dj
        by_cases c1 : i + j < m
        · rw [hinI (s + j) (i + j) c1 (by rw [← Nat.add_assoc]; exact e1)] at h3
          exact Bool.noConfusion h3
        · obtain ⟨o3, _⟩ := qf_chain hW (a + i + j) (i + j - m) (by omega) (by omega) o2
          rw [show a + i + j - (i + j - m) = a + m by omega] at o3
          exact he o3
      rw [bN N _ h1]
      exact h2
theorem qf_cl_C {n R : Nat} {N G : Nat → Bool} {L D : Nat → Nat} (hn : 0 < n) (h : qf_V n R N G L D) {a m : Nat} (hm : m < n) :
    (qf_ct (qf_ce n R N L D) 0 n).Perm (qf_ct (qf_ce n R N L D) a m ++ qf_ct (qf_ce n R (qf_clB n a m N) L (qf_clD n a m D)) 0 n) := by
  obtain ⟨⟨pN, pG, pL, pD, hG, hS⟩, lR, nm⟩ := h
  refine (qf_ct_rot (qf_ce_per pN pL pD) a).symm.trans ?_
  refine List.Perm.trans ?_ ((qf_ct_rot (qf_ce_per (R := R) (qf_clB_per (a := a) (m := m) pN) pL (qf_clD_per (a := a) (m := m) pD)) a).append_left _)
  have e1 : qf_ct (qf_ce n R N L D) a n = qf_ct (qf_ce n R N L D) a m ++ qf_ct (qf_ce n R N L D) (a + m) (n - m) := by
    rw [← qf_ct_app, show m + (n - m) = n by omega]
  have e2 : qf_ct (qf_ce n R (qf_clB n a m N) L (qf_clD n a m D)) a n = qf_ct (qf_ce n R N L D) (a + m) (n - m) := by
    have e3 := qf_ct_app (c := qf_ce n R (qf_clB n a m N) L (qf_clD n a m D)) a m (n - m)
    rw [show m + (n - m) = n by omega] at e3
    rw [e3, qf_ct_nil (fun i hi => qf_ce_f (fun o => ?_)), List.nil_append]
    · refine qf_ct_congr (fun i hi => ?_)
      have h1 : qf_in n a m (a + m + i) = false := by
        rw [Nat.add_assoc, qf_in_at hn (by omega)]
        exact decide_eq_false (by omega)
      unfold qf_ce qf_clB qf_clD
      rw [h1]
      rfl
    · have := ((qf_cl_oc _).mp o).2
      rw [qf_in_at hn (by omega), decide_eq_true hi] at this
      exact Bool.noConfusion this
  rw [e1, e2]
end
section
/-! the arrays against the layout; the small methods -/
def qf_b (x : Bool) : Int32 := if x = true then 1 else 0
theorem qf_b0 {x : Bool} (h : qf_b x = 0) : x = false := by
  cases x
  · rfl
  · exact absurd h (by decide)
theorem qf_b1 {x : Bool} (h : ¬ qf_b x = 0) : x = true := by
  cases x
  · exact absurd rfl h
  · rfl
theorem qf_bn (x : Bool) : vp_nar .boolean (qf_b x) = qf_b x := by
  cases x <;> decide
/-- the ring's size -/
def qf_n (b n : Nat) : Prop := 3 ≤ b ∧ b ≤ 6 ∧ n = 2 ^ b
theorem qf_n8 {b n : Nat} (h : qf_n b n) : 8 ≤ n ∧ n ≤ 64 ∧ n * 2 ^ (8 - b) = 256 := by
  obtain ⟨h1, h2, h3⟩ := h
  have : b = 3 ∨ b = 4 ∨ b = 5 ∨ b = 6 := by omega
  rcases this with e | e | e | e <;> subst e <;> subst h3 <;> decide
theorem qf_k_sl : ∀ b, b < 7 → (1 : Int32) <<< (nI b &&& 31) = nI (2 ^ b) := by decide +kernel
theorem qf_k_af : ∀ b, b < 7 → ∀ k, k < 64 → (nI k + 1) &&& (nI (2 ^ b) - 1) = nI ((k + 1) % 2 ^ b) := by decide +kernel
theorem qf_k_bf : ∀ b, b < 7 → ∀ k, k < 64 → (nI k - 1) &&& (nI (2 ^ b) - 1) = nI ((k + (2 ^ b - 1)) % 2 ^ b) := by decide +kernel
def qf_m (f n : Nat) (a3 a4 a5 a6 : Nat → Int32) (N G : Nat → Bool) (L D : Nat → Nat) : Prop :=
  ∀ t, a4 (64 * f + t % n) = qf_b (N t) ∧ a5 (64 * f + t % n) = qf_b (G t) ∧ a6 (64 * f + t % n) = qf_b (decide (D t ≠ 0)) ∧ (qf_oc N D t → a3 (64 * f + t % n) = nI (L t))
theorem qf_lt {f n : Nat} (hf : f < 2) (hn : 0 < n) (hn' : n ≤ 64) (t : Nat) : 64 * f + t % n < 128 := by
  have := Nat.mod_lt t hn
  omega
theorem qf_64 (f : Nat) : 64 * nI f = nI (64 * f) := pk_mul 64 f
theorem qw_base {post : Int32 → Prop} {u : St1} {f : Nat} (H : post (nI (64 * f))) : wpX_base post u (nI f) := by
  obtain ⟨rc, a1, a2, a3, a4, a5, a6, a7⟩ := u
  unfold wpX_base
  dsimp only
  rw [qf_64]
  exact H
theorem qw_slots {post : Int32 → Prop} {rc : Int32} {a1 a2 a3 a4 a5 a6 a7 : Nat → Int32} {f b n : Nat} (hf : f < 2) (hb : qf_n b n) (h1 : a1 f = nI b) (H : post (nI n)) : wpX_slots post (rc, a1, a2, a3, a4, a5, a6, a7) (nI f) := by
  unfold wpX_slots
  dsimp only
  refine ⟨vp_in_nI hf (by decide), ?_⟩
  obtain ⟨h3, h4, h5⟩ := hb
  rw [nI_clamp (by omega), h1, qf_k_sl b (by omega), ← h5]
  exact H
theorem qw_after {post : Int32 → Prop} {rc : Int32} {a1 a2 a3 a4 a5 a6 a7 : Nat → Int32} {f b n t : Nat} (hf : f < 2) (hb : qf_n b n) (h1 : a1 f = nI b) (H : post (nI ((t + 1) % n))) : wpX_after post (rc, a1, a2, a3, a4, a5, a6, a7) (nI f) (nI (t % n)) := by
  unfold wpX_after
  dsimp only
  refine qw_slots hf hb h1 ?_
  have h8 := qf_n8 hb
  have hm := Nat.mod_lt t (show 0 < n by omega)
  have e := qf_k_af b (by have := hb.2.1; omega) (t % n) (by omega)
  rw [← hb.2.2, Nat.mod_add_mod] at e
  rw [e]
  exact H
theorem qw_before {post : Int32 → Prop} {rc : Int32} {a1 a2 a3 a4 a5 a6 a7 : Nat → Int32} {f b n t : Nat} (hf : f < 2) (hb : qf_n b n) (h1 : a1 f = nI b) (H : post (nI (t % n))) : wpX_beforeSlot post (rc, a1, a2, a3, a4, a5, a6, a7) (nI f) (nI ((t + 1) % n)) := by
  unfold wpX_beforeSlot
  dsimp only
  refine qw_slots hf hb h1 ?_
  have h8 := qf_n8 hb
  have hm := Nat.mod_lt (t + 1) (show 0 < n by omega)
  have e := qf_k_bf b (by have := hb.2.1; omega) ((t + 1) % n) (by omega)
  rw [← hb.2.2, Nat.mod_add_mod, show t + 1 + (n - 1) = t + n by omega, Nat.add_mod_right] at e
  rw [e]
  exact H
theorem qw_holds {post : Int32 → Prop} {rc : Int32} {a1 a2 a3 a4 a5 a6 a7 : Nat → Int32} {f n : Nat} {N G : Nat → Bool} {L D : Nat → Nat} (hf : f < 2) (hn : 0 < n) (hn' : n ≤ 64) (hm : qf_m f n a3 a4 a5 a6 N G L D)
    (hG : ∀ t, G t = true → qf_oc N D t) (t : Nat) (ho : qf_oc N D t → post 1) (hz : ¬ qf_oc N D t → post 0) : wpX_holds post (rc, a1, a2, a3, a4, a5, a6, a7) (nI f) (nI (t % n)) := by
  unfold wpX_holds
  dsimp only
  refine qw_base ?_
  have hl := qf_lt hf hn hn' t
  refine nm_r (nI_add _ _) ?_
  obtain ⟨e4, e5, e6, _⟩ := hm t
  rw [nI_clamp (show 64 * f + t % n < 2 ^ 31 by omega), e4, e5, e6]
  have hi : vp_in (nI (64 * f + t % n)) 128 := vp_in_nI hl (by decide)
  refine ⟨hi, br_c (fun z4 => ⟨hi, br_c (fun z5 => ⟨hi, br_c (fun z6 => hz ?_) (fun z6 => ho ?_)⟩) (fun z5 => ho ?_)⟩) (fun z4 => ho (Or.inl (qf_b1 z4)))⟩
  · rintro (h | h)
    · rw [qf_b0 z4] at h
      exact Bool.noConfusion h
    · exact absurd h (of_decide_eq_false (qf_b0 z6))
  · exact Or.inr (of_decide_eq_true (qf_b1 z6))
  · exact hG t (qf_b1 z5)
theorem qw_isFree {post : Int32 → Prop} {rc : Int32} {a1 a2 a3 a4 a5 a6 a7 : Nat → Int32} {f n : Nat} {N G : Nat → Bool} {L D : Nat → Nat} (hf : f < 2) (hn : 0 < n) (hn' : n ≤ 64) (hm : qf_m f n a3 a4 a5 a6 N G L D)
    (hG : ∀ t, G t = true → qf_oc N D t) (t : Nat) (ho : qf_oc N D t → post 0) (hz : ¬ qf_oc N D t → post 1) : wpX_isFree post (rc, a1, a2, a3, a4, a5, a6, a7) (nI f) (nI (t % n)) := by
  unfold wpX_isFree
  dsimp only
  exact qw_holds hf hn hn' hm hG t (fun o => br_f (by decide) (ho o)) (fun o => br_t rfl (hz o))
/-- one cell is written -/
theorem qf_m_up {f n : Nat} {a3 a4 a5 a6 : Nat → Int32} {N G : Nat → Bool} {L D : Nat → Nat} (hm : qf_m f n a3 a4 a5 a6 N G L D) (pN : qf_per n N) {c cl cd : Nat} {cg : Bool} (h0 : cd = 0 → N c = true) :
    qf_m f n (upd a3 (64 * f + c % n) (nI cl)) a4 (upd a5 (64 * f + c % n) (qf_b cg)) (upd a6 (64 * f + c % n) (qf_b (decide (cd ≠ 0)))) N (qf_up n c cg G) (qf_up n c cl L) (qf_up n c cd D) := by
  intro t
  obtain ⟨e4, e5, e6, e3⟩ := hm t
  have oc' := qf_oc_up (D := D) pN h0 t
  by_cases e : t % n = c % n
  · rw [qf_up_s e, qf_up_s e, qf_up_s e, e, pk_us, pk_us, pk_us, ← e]
    exact ⟨e4, rfl, rfl, fun _ => rfl⟩
  · have hne : 64 * f + t % n ≠ 64 * f + c % n := by omega
    rw [qf_up_n e, qf_up_n e, qf_up_n e, pk_un hne, pk_un hne, pk_un hne]
    exact ⟨e4, e5, e6, fun o => e3 ((oc'.mp o).elim (fun z => absurd z e) id)⟩
/-- what lies outside the filter stays -/
def qf_fr (f : Nat) (a a' : Nat → Int32) : Prop := ∀ k, (k < 64 * f ∨ 64 * f + 64 ≤ k) → a' k = a k
theorem qf_fr_r (f : Nat) (a : Nat → Int32) : qf_fr f a a := fun _ _ => rfl
theorem qf_fr_t {f : Nat} {a a' a'' : Nat → Int32} (h : qf_fr f a a') (h' : qf_fr f a' a'') : qf_fr f a a'' := fun k hk => (h' k hk).trans (h k hk)
theorem qf_fr_u {f n : Nat} {a a' : Nat → Int32} {v : Int32} (t : Nat) (hn : 0 < n) (hn' : n ≤ 64) (h : qf_fr f a a') : qf_fr f a (upd a' (64 * f + t % n) v) := by
  intro k hk
  have := Nat.mod_lt t hn
  rw [pk_un (by omega)]
  exact h k hk
end
section
/-! runStart -/
theorem qw_rs85 {post : Int32 → Prop} {J37 : Int32 → Int32 → Prop} {x2 x5 rc : Int32} {a1 a2 a3 a4 a5 a6 a7 : Nat → Int32} {f b n : Nat} {N G : Nat → Bool} {L D : Nat → Nat}
    (hf : f < 2) (hb : qf_n b n) (h1 : a1 f = nI b) (hm : qf_m f n a3 a4 a5 a6 N G L D) :
    ∀ k s, (∀ i, i < k → N (s + i) = false) → N (s + k) = true → J37 (nI ((s + k) % n)) x5 → wX_runStart_85 post J37 (nI f) x2 (nI (64 * f)) x5 rc a1 a2 a3 a4 a5 a6 a7 (k + 1) (nI (s % n)) := by
  have h8 := qf_n8 hb
  intro k
  induction k with
  | zero =>
    intro s _ hg H
    have hl := qf_lt hf (show 0 < n by omega) (by omega) s
    rw [wX_runStart_85]
    dsimp only
    rw [nI_add, nI_clamp (by omega), (hm s).1]
    exact ⟨vp_in_nI hl (by decide), br_f (by rw [Nat.add_zero] at hg; rw [hg]; decide) H⟩
  | succ k ih =>
    intro s hi hg H
    have hl := qf_lt hf (show 0 < n by omega) (by omega) s
    rw [wX_runStart_85]
    dsimp only
    rw [nI_add, nI_clamp (by omega), (hm s).1]
    refine ⟨vp_in_nI hl (by decide), br_t (by have := hi 0 (by omega); rw [Nat.add_zero] at this; rw [this]; rfl) ?_⟩
    refine qw_after hf hb h1 (ih (s + 1) (fun i h => ?_) ?_ ?_)
    · rw [Nat.add_assoc, Nat.add_comm 1 i]
      exact hi (i + 1) (by omega)
    · rw [Nat.add_assoc, Nat.add_comm 1 k]
      exact hg
    · rw [Nat.add_assoc, Nat.add_comm 1 k]
      exact H
theorem qw_rs52 {post : Int32 → Prop} {J37 : Int32 → Int32 → Prop} {x2 rc : Int32} {a1 a2 a3 a4 a5 a6 a7 : Nat → Int32} {f b n d : Nat} {N G : Nat → Bool} {L D : Nat → Nat}
    (hf : f < 2) (hb : qf_n b n) (h1 : a1 f = nI b) (hm : qf_m f n a3 a4 a5 a6 N G L D) :
    ∀ k s, (∀ i, i < k → G (s + i) = true) → G (s + k) = false → (∃ fu, wX_runStart_85 post J37 (nI f) x2 (nI (64 * f)) (nI ((s + k) % n)) rc a1 a2 a3 a4 a5 a6 a7 fu (nI ((d + 1) % n))) →
      wX_runStart_52 post J37 (nI f) x2 (nI (64 * f)) (nI (d % n)) rc a1 a2 a3 a4 a5 a6 a7 (k + 1) (nI (s % n)) := by
  have h8 := qf_n8 hb
  intro k
  induction k with
  | zero =>
    intro s _ hg H
    have hl := qf_lt hf (show 0 < n by omega) (by omega) s
    rw [wX_runStart_52]
    dsimp only
    rw [nI_add, nI_clamp (by omega), (hm s).2.1]
    exact ⟨vp_in_nI hl (by decide), br_t (by rw [Nat.add_zero] at hg; rw [hg]; rfl) (qw_after hf hb h1 H)⟩
  | succ k ih =>
    intro s hi hg H
    have hl := qf_lt hf (show 0 < n by omega) (by omega) s
    rw [wX_runStart_52]
    dsimp only
    rw [nI_add, nI_clamp (by omega), (hm s).2.1]
    refine ⟨vp_in_nI hl (by decide), br_f (by have := hi 0 (by omega); rw [Nat.add_zero] at this; rw [this]; decide) ?_⟩
    refine qw_after hf hb h1 (ih (s + 1) (fun i h => ?_) ?_ ?_)
    · rw [Nat.add_assoc, Nat.add_comm 1 i]
      exact hi (i + 1) (by omega)
    · rw [Nat.add_assoc, Nat.add_comm 1 k]
      exact hg
    · rw [Nat.add_assoc, Nat.add_comm 1 k]
      exact H
theorem qw_rs9 {post : Int32 → Prop} {x2 rc : Int32} {a1 a2 a3 a4 a5 a6 a7 : Nat → Int32} {f b n : Nat} {N G : Nat → Bool} {L D : Nat → Nat}
    (hf : f < 2) (hb : qf_n b n) (h1 : a1 f = nI b) (hm : qf_m f n a3 a4 a5 a6 N G L D) {c : Nat} (hc : D c = 0)
    (H : ∃ fu, wX_runStart_37 post (nI f) x2 (nI (64 * f)) rc a1 a2 a3 a4 a5 a6 a7 fu (nI (c % n)) (nI (c % n))) :
    ∀ k, (∀ i, i < k → D (c + i + 1) ≠ 0) → wX_runStart_9 post (nI f) x2 (nI (64 * f)) rc a1 a2 a3 a4 a5 a6 a7 (k + 1) (nI ((c + k) % n)) := by
  have h8 := qf_n8 hb
  intro k
  induction k with
  | zero =>
    intro _
    have hl := qf_lt hf (show 0 < n by omega) (by omega) c
    rw [wX_runStart_9]
    dsimp only
    rw [Nat.add_zero, nI_add, nI_clamp (by omega), (hm c).2.2.1]
    exact ⟨vp_in_nI hl (by decide), br_t (by rw [hc]; rfl) H⟩
  | succ k ih =>
    intro hi
    have hl := qf_lt hf (show 0 < n by omega) (by omega) (c + (k + 1))
    rw [wX_runStart_9]
    dsimp only
    rw [nI_add, nI_clamp (by omega), (hm (c + (k + 1))).2.2.1]
    refine ⟨vp_in_nI hl (by decide), br_f ?_ ?_⟩
    · have := hi k (by omega)
      rw [← Nat.add_assoc, decide_eq_true this]
      decide
    · rw [← Nat.add_assoc]
      exact qw_before hf hb h1 (ih (fun i h => hi i (by omega)))
/-- a run's start stands before the next free cell -/
theorem qf_rs_lt {n : Nat} {N : Nat → Bool} {D : Nat → Nat} (hn : 0 < n) (pN : qf_per n N) (pD : qf_per n D) {z x y : Nat} (hz : ¬ qf_oc N D z) (h : qf_rs N D x y) : y < x + n := by
  obtain ⟨k, hk, hf, _⟩ := qf_ff hn pN pD hz x
  refine Nat.lt_of_not_le (fun hle => hf (h.2.1 (x + k) (by omega) (by omega)).1)
theorem qw_rs37 {post : Int32 → Prop} {rc : Int32} {a1 a2 a3 a4 a5 a6 a7 : Nat → Int32} {f b n : Nat} {N G : Nat → Bool} {L D : Nat → Nat}
    (hf : f < 2) (hb : qf_n b n) (h1 : a1 f = nI b) (hm : qf_m f n a3 a4 a5 a6 N G L D) (hW : qf_W n N G L D)
    (own : ∀ t, qf_oc N D t → D t ≤ t → N (t - D t) = true) {x c z : Nat} (hNx : N x = true)
    (hnm : ∀ s, N s = true → s % n = x % n ∨ ∃ j, qf_oc N D (s + j) ∧ D (s + j) = j) (hz : ¬ qf_oc N D z)
    (hcx : x < c + n) (hx : ∀ t, c < t → t ≤ x → D t ≠ 0)
    (H : ∀ y, qf_rs N D x y → y < x + n → post (nI (y % n))) :
    ∀ m d s, x - d ≤ m → c ≤ d → d ≤ x → N d = true → qf_rs N D d s → wX_runStart_37 post (nI f) (nI (x % n)) (nI (64 * f)) rc a1 a2 a3 a4 a5 a6 a7 (m + 1) (nI (d % n)) (nI (s % n)) := by
  have h8 := qf_n8 hb
  have hn0 : 0 < n := by omega
  intro m
  induction m with
  | zero =>
    intro d s h2 h3 h4 h5 h6
    have e : d = x := by omega
    subst e
    rw [wX_runStart_37]
    dsimp only
    exact br_t rfl (H s h6 (qf_rs_lt hn0 hW.1 hW.2.2.2.1 hz h6))
  | succ m ih =>
    intro d s h2 h3 h4 h5 h6
    rw [wX_runStart_37]
    dsimp only
    by_cases e : d = x
    · subst e
      exact br_t rfl (H s h6 (qf_rs_lt hn0 hW.1 hW.2.2.2.1 hz h6))
    · have hm1 := Nat.mod_lt d hn0
      have hm2 := Nat.mod_lt x hn0
      have hne : ¬ d % n = x % n := fun z => e (qf_mw c h3 (by omega) (by omega) hcx z)
      refine br_f (fun z => hne ((nI_eq (by omega) (by omega)).mp z)) ?_
      obtain ⟨j, oj, dj⟩ := (hnm d h5).resolve_left hne
      obtain ⟨os, ds⟩ := qf_rs_run hW h6 oj dj
      obtain ⟨k0, _, hk0, _⟩ := qf_ff hn0 hW.1 hW.2.2.2.1 hz (s + 1)
      obtain ⟨k1, g1, g2⟩ := pk_least (fun k => G (s + 1 + k) = false) ⟨k0, Bool.eq_false_iff.mpr (fun g => hk0 (Or.inr (hW.2.2.2.2.1 _ g)))⟩
      obtain ⟨k2, n1, n2⟩ := pk_least (fun k => N (d + 1 + k) = true) ⟨x - d - 1, by rw [show d + 1 + (x - d - 1) = x by omega]; exact hNx⟩
      have hk2 : d + 1 + k2 ≤ x := by
        refine Nat.le_of_not_lt (fun hlt => ?_)
        exact n2 (x - d - 1) (by omega) (by rw [show d + 1 + (x - d - 1) = x by omega]; exact hNx)
      refine qw_after hf hb h1 ⟨k1 + 1, ?_⟩
      refine qw_rs52 hf hb h1 hm k1 (s + 1) (fun i hi => Bool.not_eq_false _ ▸ g2 i hi) g1 ⟨k2 + 1, ?_⟩
      refine qw_rs85 hf hb h1 hm k2 (d + 1) (fun i hi => Bool.eq_false_iff.mpr (n2 i hi)) n1 ?_
      refine ih (d + 1 + k2) (s + 1 + k1) (by omega) (by omega) hk2 n1 ?_
      refine qf_rs_next hW hx h3 h6 os ds (by omega) (fun t t1 t2 => ?_) g1 (by omega) hk2 (fun t t1 t2 => ?_) own
      · have := g2 (t - (s + 1)) (by omega)
        rw [show s + 1 + (t - (s + 1)) = t by omega] at this
        exact eq_true_of_ne_false this
      · have := n2 (t - (d + 1)) (by omega)
        rw [show d + 1 + (t - (d + 1)) = t by omega] at this
        exact Bool.eq_false_iff.mpr this
theorem qw_runStart {post : Int32 → Prop} {rc : Int32} {a1 a2 a3 a4 a5 a6 a7 : Nat → Int32} {f b n : Nat} {N G : Nat → Bool} {L D : Nat → Nat}
    (hf : f < 2) (hb : qf_n b n) (h1 : a1 f = nI b) (hm : qf_m f n a3 a4 a5 a6 N G L D) (hW : qf_W n N G L D)
    (own : ∀ t, qf_oc N D t → D t ≤ t → N (t - D t) = true) {x z : Nat} (hxn : n ≤ x) (hNx : N x = true)
    (hnm : ∀ s, N s = true → s % n = x % n ∨ ∃ j, qf_oc N D (s + j) ∧ D (s + j) = j) (hz : ¬ qf_oc N D z)
    (H : ∀ y, qf_rs N D x y → y < x + n → post (nI (y % n))) : wpX_runStart post (rc, a1, a2, a3, a4, a5, a6, a7) (nI f) (nI (x % n)) := by
  have h8 := qf_n8 hb
  have hn0 : 0 < n := by omega
  obtain ⟨k0, hk0, hf0, _⟩ := qf_fl hn0 hW.1 hW.2.2.2.1 hz x hxn
  have hd0 : D (x - k0) = 0 := Classical.byContradiction (fun z => hf0 (Or.inr z))
  obtain ⟨k, d1, d2⟩ := pk_least (fun k => D (x - k) = 0) ⟨k0, hd0⟩
  have hk : k ≤ k0 := Nat.le_of_not_lt (fun hlt => d2 k0 hlt hd0)
  have hx : ∀ t, x - k < t → t ≤ x → D t ≠ 0 := by
    intro t t1 t2
    have := d2 (x - t) (by omega)
    rwa [show x - (x - t) = t by omega] at this
  have hNc : N (x - k) = true := by
    by_cases e : k = 0
    · rw [e, Nat.sub_zero]
      exact hNx
    · have h2 := (hW.2.2.2.2.2 (x - k) (hx _ (by omega) (by omega))).1
      exact h2.elim id (fun z => absurd d1 z)
  unfold wpX_runStart
  dsimp only
  refine qw_base ⟨k + 1, ?_⟩
  have h9 := qw_rs9 (post := post) (x2 := nI (x % n)) (rc := rc) (a2 := a2) (a7 := a7) hf hb h1 hm d1 ⟨_, qw_rs37 hf hb h1 hm hW own hNx hnm hz (by omega) hx H k (x - k) (x - k) (by omega) (by omega) (by omega) hNc ⟨Nat.le_refl _, fun t t1 t2 => absurd t1 (by omega), fun _ => by rw [d1]; omega⟩⟩ k (fun i hi => hx _ (by omega) (by omega))
  rwa [show x - k + k = x by omega] at h9
end
section
/-! push -/
theorem qf_i8 : ∀ v, v < 128 → (nI v).toInt8.toInt32 = nI v := by decide +kernel
theorem qw_push24 {post : St1 → Prop} {rc : Int32} {a1 a2 a4 a7 : Nat → Int32} {f b n R : Nat} {N : Nat → Bool}
    (hf : f < 2) (hb : qf_n b n) (h1 : a1 f = nI b) (hR : R ≤ 32) :
    ∀ (m : Nat) (a3 a5 a6 : Nat → Int32) (G : Nat → Bool) (L D : Nat → Nat) (c cl : Nat) (cg : Bool) (cd : Nat),
      qf_m f n a3 a4 a5 a6 N G L D → qf_J n R N G L D c cl cg cd → (∀ i, i < m → qf_oc N D (c + i)) → ¬ qf_oc N D (c + m) →
      (∀ (a3' a5' a6' : Nat → Int32) (G' : Nat → Bool) (L' D' : Nat → Nat), qf_m f n a3' a4 a5' a6' N G' L' D' → qf_V n R N G' L' D' →
        (qf_ct (qf_ce n R N L' D') 0 n).Perm ((qf_ow n c cd * R + cl) :: qf_ct (qf_ce n R N L D) 0 n) →
        qf_fr f a3 a3' → qf_fr f a5 a5' → qf_fr f a6 a6' → post (rc, a1, a2, a3', a4, a5', a6', a7)) →
      wX_push_24 post (nI f) (nI (64 * f)) rc (m + 2) (nI (c % n)) (nI cl) (qf_b cg) (qf_b (decide (cd ≠ 0))) 1 a1 a2 a3 a4 a5 a6 a7 := by
  have h8 := qf_n8 hb
  have hn0 : 0 < n := by omega
  intro m
  induction m with
  | zero =>
    intro a3 a5 a6 G L D c cl cg cd hm hJ _ hz H
    rw [Nat.add_zero] at hz
    have hl := qf_lt hf hn0 (by omega) c
    have hi : vp_in (nI (64 * f + c % n)) 128 := vp_in_nI hl (by decide)
    have hcl : cl < R := hJ.2.2.2.2.2.2.2.2.2.1
    rw [wX_push_24]
    dsimp only
    refine br_f (by decide) ?_
    refine qw_holds hf hn0 (by omega) hm hJ.2.2.2.2.1 c (fun o => absurd o hz) (fun _ => ?_)
    rw [nI_add, nI_clamp (by omega), qf_i8 cl (by omega), qf_bn, qf_bn]
    refine ⟨hi, nm_e ⟨hi, nm_e ⟨hi, nm_e ⟨hi, nm_e ⟨hi, nm_e ?_⟩⟩⟩⟩⟩
    refine qw_after hf hb h1 ?_
    rw [wX_push_24]
    dsimp only
    refine br_t rfl ?_
    obtain ⟨hV, hcd⟩ := qf_J_end (by omega) hJ hz
    exact H _ _ _ _ _ _ (qf_m_up hm hJ.1 (fun e => absurd e hcd)) hV (qf_J_cend (by omega) hJ hz) (qf_fr_u c hn0 (by omega) (qf_fr_r f a3)) (qf_fr_u c hn0 (by omega) (qf_fr_r f a5)) (qf_fr_u c hn0 (by omega) (qf_fr_r f a6))
  | succ m ih =>
    intro a3 a5 a6 G L D c cl cg cd hm hJ ho hz H
    have oc : qf_oc N D c := by
      have := ho 0 (by omega)
      rwa [Nat.add_zero] at this
    have hl := qf_lt hf hn0 (by omega) c
    have hi : vp_in (nI (64 * f + c % n)) 128 := vp_in_nI hl (by decide)
    have hcl : cl < R := hJ.2.2.2.2.2.2.2.2.2.1
    have h0 : cd = 0 → N c = true := fun e => (hJ.2.2.2.2.2.2.2.2.2.2.2.2 c).mpr (Or.inr (by rw [e, Nat.add_zero]))
    have oc' := qf_oc_up (D := D) hJ.1 h0
    rw [wX_push_24]
    dsimp only
    refine br_f (by decide) ?_
    refine qw_holds hf hn0 (by omega) hm hJ.2.2.2.2.1 c (fun _ => ?_) (fun o => absurd oc o)
    rw [nI_add, nI_clamp (by omega), qf_i8 cl (by omega), qf_bn, qf_bn, (hm c).2.1, (hm c).2.2.2 oc]
    refine ⟨hi, nm_e ⟨hi, nm_e ⟨hi, nm_e ⟨hi, nm_e ⟨hi, nm_e ?_⟩⟩⟩⟩⟩
    refine qw_after hf hb h1 ?_
    have hih := ih (upd a3 (64 * f + c % n) (nI cl)) (upd a5 (64 * f + c % n) (qf_b cg)) (upd a6 (64 * f + c % n) (qf_b (decide (cd ≠ 0)))) (qf_up n c cg G) (qf_up n c cl L) (qf_up n c cd D) (c + 1) (L c) (G c) (D c + 1)
      (qf_m_up hm hJ.1 h0) (qf_J_step (by omega) hJ oc) (fun i hi => (oc' _).mpr (Or.inr (by have := ho (i + 1) (by omega); rwa [show c + (i + 1) = c + 1 + i by omega] at this)))
      (fun o => by
        rw [show c + (m + 1) = c + 1 + m by omega] at hz
        exact ((oc' _).mp o).elim (fun e => hz (qf_oc_per hJ.1 hJ.2.2.2.1 e.symm oc)) hz)
      (fun a3' a5' a6' G' L' D' q1 q2 q3 q4 q5 q6 => H a3' a5' a6' G' L' D' q1 q2 (q3.trans (qf_J_cstep (by omega) hJ oc))
        (qf_fr_t (qf_fr_u c hn0 (by omega) (qf_fr_r f a3)) q4) (qf_fr_t (qf_fr_u c hn0 (by omega) (qf_fr_r f a5)) q5) (qf_fr_t (qf_fr_u c hn0 (by omega) (qf_fr_r f a6)) q6))
    exact hih
theorem qw_push {post : St1 → Prop} {rc : Int32} {a1 a2 a3 a4 a5 a6 a7 : Nat → Int32} {f b n R : Nat} {N G : Nat → Bool} {L D : Nat → Nat} {c cl : Nat} {cg : Bool} {cd z : Nat}
    (hf : f < 2) (hb : qf_n b n) (h1 : a1 f = nI b) (hR : R ≤ 32) (hm : qf_m f n a3 a4 a5 a6 N G L D) (hJ : qf_J n R N G L D c cl cg cd) (hz : ¬ qf_oc N D z)
    (H : ∀ (a3' a5' a6' : Nat → Int32) (G' : Nat → Bool) (L' D' : Nat → Nat), qf_m f n a3' a4 a5' a6' N G' L' D' → qf_V n R N G' L' D' →
        (qf_ct (qf_ce n R N L' D') 0 n).Perm ((qf_ow n c cd * R + cl) :: qf_ct (qf_ce n R N L D) 0 n) →
        qf_fr f a3 a3' → qf_fr f a5 a5' → qf_fr f a6 a6' → post (rc, a1, a2, a3', a4, a5', a6', a7)) :
    wpX_push post (rc, a1, a2, a3, a4, a5, a6, a7) (nI f) (nI (c % n)) (nI cl) (qf_b cg) (qf_b (decide (cd ≠ 0))) := by
  have h8 := qf_n8 hb
  obtain ⟨m, _, hfm, hom⟩ := qf_ff (show 0 < n by omega) hJ.1 hJ.2.2.2.1 hz c
  unfold wpX_push
  dsimp only
  exact qw_base ⟨m + 2, qw_push24 hf hb h1 hR m a3 a5 a6 G L D c cl cg cd hm hJ hom hfm H⟩
end
section
/-! insert -/
theorem qf_k_so : ∀ b, b < 7 → ∀ p, p < 256 → nI p >>> ((8 - nI b) &&& 31) = nI (p / 2 ^ (8 - b)) := by decide +kernel
theorem qf_k_lo : ∀ b, b < 7 → ∀ p, p < 256 → nI p &&& (((1 : Int32) <<< ((8 - nI b) &&& 31)) - 1) = nI (p % 2 ^ (8 - b)) := by decide +kernel
theorem qf_k_h1 : ∀ k, k < 100 → (nI k + 1).toInt8.toInt32 = nI (k + 1) := by decide +kernel
theorem qw_slotOf {post : Int32 → Prop} {rc : Int32} {a1 a2 a3 a4 a5 a6 a7 : Nat → Int32} {f b n p : Nat} (hf : f < 2) (hb : qf_n b n) (h1 : a1 f = nI b) (hp : p < 256) (H : post (nI (p / 2 ^ (8 - b)))) : wpX_slotOf post (rc, a1, a2, a3, a4, a5, a6, a7) (nI f) (nI p) := by
  unfold wpX_slotOf
  dsimp only
  refine ⟨vp_in_nI hf (by decide), ?_⟩
  rw [nI_clamp (by omega), h1, qf_k_so b (by have := hb.2.1; omega) p hp]
  exact H
theorem qw_lowerOf {post : Int32 → Prop} {rc : Int32} {a1 a2 a3 a4 a5 a6 a7 : Nat → Int32} {f b n p : Nat} (hf : f < 2) (hb : qf_n b n) (h1 : a1 f = nI b) (hp : p < 256) (H : post (nI (p % 2 ^ (8 - b)))) : wpX_lowerOf post (rc, a1, a2, a3, a4, a5, a6, a7) (nI f) (nI p) := by
  unfold wpX_lowerOf
  dsimp only
  refine ⟨vp_in_nI hf (by decide), ?_⟩
  rw [nI_clamp (by omega), h1, qf_k_lo b (by have := hb.2.1; omega) p hp]
  exact H
theorem qf_R32 {b n : Nat} (hb : qf_n b n) : 2 ^ (8 - b) ≤ 32 ∧ 0 < 2 ^ (8 - b) := by
  obtain ⟨h1, h2, _⟩ := hb
  have : b = 3 ∨ b = 4 ∨ b = 5 ∨ b = 6 := by omega
  rcases this with e | e | e | e <;> subst e <;> decide
/-- the slot of p, unrolled -/
theorem qf_slot {b n p : Nat} (hb : qf_n b n) (hp : p < 256) : p / 2 ^ (8 - b) = (p / 2 ^ (8 - b) + n) % n := by
  have h8 := qf_n8 hb
  have hR := qf_R32 hb
  have : p / 2 ^ (8 - b) < n := Nat.div_lt_of_lt_mul (by rw [Nat.mul_comm]; omega)
  rw [Nat.add_mod_right, Nat.mod_eq_of_lt this]
/-- the scan of the run stops -/
theorem qw_ins_stop {post : St1 → Prop} {rc x4 x6 x7 : Int32} {a1 a2 a3 a4 a5 a6 a7 : Nat → Int32} {f b n r m s : Nat} {g : Bool} {N G : Nat → Bool} {L D : Nat → Nat}
    (hf : f < 2) (hb : qf_n b n) (hm : qf_m f n a3 a4 a5 a6 N G L D) (hr : r < 32) (hL : ∀ t, qf_oc N D t → L t < 32) (hg : g = true → qf_oc N D s ∧ r ≤ L s)
    (H : wX_insert_146 post (nI f) (nI (64 * f)) x4 (nI r) x6 x7 (nI (s % n)) rc a1 a2 a3 a4 a5 a6 a7) :
    wX_insert_104 post (nI f) (nI (64 * f)) x4 (nI r) x6 x7 rc a1 a2 a3 a4 a5 a6 a7 (m + 1) (nI (s % n)) (qf_b g) := by
  have h8 := qf_n8 hb
  have hl := qf_lt hf (show 0 < n by omega) (by omega) s
  rw [wX_insert_104]
  dsimp only
  refine br_c (fun _ => H) (fun z => ?_)
  obtain ⟨o, h⟩ := hg (qf_b1 z)
  have h2 := hL s o
  rw [nI_add, nI_clamp (by omega), (hm s).2.2.2 o]
  exact ⟨vp_in_nI hl (by decide), br_t (nI_le h (by omega)) H⟩
theorem qw_ins_go {post : St1 → Prop} {rc x4 x6 x7 : Int32} {a1 a2 a3 a4 a5 a6 a7 : Nat → Int32} {f b n r m s : Nat} {g : Bool} {N G : Nat → Bool} {L D : Nat → Nat}
    (hf : f < 2) (hb : qf_n b n) (h1 : a1 f = nI b) (hm : qf_m f n a3 a4 a5 a6 N G L D) (hr : r < 32) (hg : g = true) (ho : qf_oc N D s) (hl : L s < r)
    (H : wX_insert_104 post (nI f) (nI (64 * f)) x4 (nI r) x6 x7 rc a1 a2 a3 a4 a5 a6 a7 m (nI ((s + 1) % n)) (qf_b (G (s + 1)))) :
    wX_insert_104 post (nI f) (nI (64 * f)) x4 (nI r) x6 x7 rc a1 a2 a3 a4 a5 a6 a7 (m + 1) (nI (s % n)) (qf_b g) := by
  have h8 := qf_n8 hb
  have hl1 := qf_lt hf (show 0 < n by omega) (by omega) s
  have hl2 := qf_lt hf (show 0 < n by omega) (by omega) (s + 1)
  rw [wX_insert_104]
  dsimp only
  refine br_f (by rw [hg]; decide) ?_
  rw [nI_add, nI_clamp (by omega), (hm s).2.2.2 ho]
  refine ⟨vp_in_nI hl1 (by decide), br_f (nI_ge hl (by omega)) ?_⟩
  refine qw_after hf hb h1 ?_
  rw [nI_add, nI_clamp (by omega), (hm (s + 1)).2.1]
  exact ⟨vp_in_nI hl2 (by decide), nm_e H⟩
theorem qw_ins_scan {post : St1 → Prop} {rc x4 x6 x7 : Int32} {a1 a2 a3 a4 a5 a6 a7 : Nat → Int32} {f b n r y e : Nat} {N G : Nat → Bool} {L D : Nat → Nat}
    (hf : f < 2) (hb : qf_n b n) (h1 : a1 f = nI b) (hm : qf_m f n a3 a4 a5 a6 N G L D) (hr : r < 32) (hL : ∀ t, qf_oc N D t → L t < 32)
    (hrun : ∀ i, y + i < e → qf_oc N D (y + i)) (hg : ∀ t, y < t → t < e → G t = true) (hge : G e = false) (hye : y < e)
    (H : ∀ s, y ≤ s → s ≤ e → (∀ t, y ≤ t → t < s → L t < r) → (s < e → r ≤ L s) → wX_insert_146 post (nI f) (nI (64 * f)) x4 (nI r) x6 x7 (nI (s % n)) rc a1 a2 a3 a4 a5 a6 a7) :
    ∃ fu, wX_insert_104 post (nI f) (nI (64 * f)) x4 (nI r) x6 x7 rc a1 a2 a3 a4 a5 a6 a7 fu (nI (y % n)) (qf_b true) := by
  obtain ⟨k, k1, k2⟩ := pk_least (fun k => ¬ (y + k < e ∧ L (y + k) < r)) ⟨e - y, fun h => absurd h.1 (by omega)⟩
  have hk : ∀ j, j < k → y + j < e ∧ L (y + j) < r := fun j hj => Classical.byContradiction (k2 j hj)
  have hke : y + k ≤ e := by
    by_cases z : k = 0
    · omega
    · have := (hk (k - 1) (by omega)).1
      omega
  have hrun' : ∀ t, y ≤ t → t < e → qf_oc N D t := by
    intro t t1 t2
    have := hrun (t - y) (by omega)
    rwa [show y + (t - y) = t by omega] at this
  have hs := H (y + k) (by omega) hke (fun t t1 t2 => by have := (hk (t - y) (by omega)).2; rwa [show y + (t - y) = t by omega] at this) (fun h => Nat.le_of_not_lt (fun h' => k1 ⟨h, h'⟩))
  have hstop : y + k < e → r ≤ L (y + k) := fun h => Nat.le_of_not_lt (fun h' => k1 ⟨h, h'⟩)
  have main : ∀ d s, y < s → s + d = y + k → wX_insert_104 post (nI f) (nI (64 * f)) x4 (nI r) x6 x7 rc a1 a2 a3 a4 a5 a6 a7 (d + 1) (nI (s % n)) (qf_b (G s)) := by
    intro d
    induction d with
    | zero =>
      intro s s1 s2
      have e2 : s = y + k := by omega
      subst e2
      refine qw_ins_stop hf hb hm hr hL (fun g => ?_) hs
      have hlt : y + k < e := Nat.lt_of_le_of_ne hke (fun z => by rw [z, hge] at g; exact Bool.noConfusion g)
      exact ⟨hrun' _ (by omega) hlt, hstop hlt⟩
    | succ d ih =>
      intro s s1 s2
      obtain ⟨q1, q2⟩ := hk (s - y) (by omega)
      rw [show y + (s - y) = s by omega] at q1 q2
      exact qw_ins_go hf hb h1 hm hr (hg s s1 q1) (hrun' s (by omega) q1) q2 (ih (s + 1) (by omega) (by omega))
  by_cases z : k = 0
  · refine ⟨1, qw_ins_stop hf hb hm hr hL (fun _ => ⟨hrun' y (by omega) hye, ?_⟩) ?_⟩
    · rw [z] at hstop
      exact hstop hye
    · rw [z] at hs
      exact hs
  · obtain ⟨q1, q2⟩ := hk 0 (by omega)
    exact ⟨k - 1 + 1 + 1, qw_ins_go hf hb h1 hm hr rfl (hrun' y (by omega) hye) q2 (main (k - 1) (y + 1) (by omega) (by omega))⟩
/-- the tail: follows and away -/
theorem qw_ins_191 {post : St1 → Prop} {rc : Int32} {a1 a2 a3 a4 a5 a6 a7 : Nat → Int32} {f n r x s : Nat} {cg : Bool} (hn : 0 < n) (hn' : n ≤ 64) (hxs : x ≤ s) (hsn : s < x + n)
    (H : wpX_push post (rc, a1, a2, a3, a4, a5, a6, a7) (nI f) (nI (s % n)) (nI r) (qf_b cg) (qf_b (decide (s - x ≠ 0)))) :
    wX_insert_191 post (nI (x % n)) (nI (s % n)) (qf_b cg) (nI r) (nI (s % n)) (nI f) rc a1 a2 a3 a4 a5 a6 a7 := by
  have m1 := Nat.mod_lt x hn
  have m2 := Nat.mod_lt s hn
  unfold wX_insert_191
  by_cases e : s = x
  · subst e
    rw [decide_eq_false (by omega)] at H
    exact br_t rfl H
  · rw [decide_eq_true (by omega)] at H
    refine br_f (fun z => e ?_) H
    exact qf_mw x hxs hsn (Nat.le_refl _) (by omega) ((nI_eq (by omega) (by omega)).mp z)
/-- the arrays of one filter hold the list A of fingerprints -/
def qf_R (f b : Nat) (A : List Nat) (a1 a2 a3 a4 a5 a6 : Nat → Int32) : Prop :=
  a1 f = nI b ∧ a2 f = nI A.length ∧ A.length < 2 ^ b ∧ 3 ≤ b ∧ b ≤ 6 ∧
  ∃ (N G : Nat → Bool) (L D : Nat → Nat), qf_m f (2 ^ b) a3 a4 a5 a6 N G L D ∧ qf_V (2 ^ b) (2 ^ (8 - b)) N G L D ∧ (qf_ct (qf_ce (2 ^ b) (2 ^ (8 - b)) N L D) 0 (2 ^ b)).Perm A
theorem qf_free {n R : Nat} {N : Nat → Bool} {L D : Nat → Nat} {A : List Nat} (h : (qf_ct (qf_ce n R N L D) 0 n).Perm A) (hA : A.length < n) : ∃ z, ¬ qf_oc N D z := by
  obtain ⟨i, _, e⟩ := qf_ct_free (c := qf_ce n R N L D) (a := 0) (k := n) (by rw [h.length_eq]; exact hA)
  exact ⟨_, qf_ce_nf e⟩
theorem qf_m_nm {f n : Nat} {a3 a4 a5 a6 : Nat → Int32} {N G : Nat → Bool} {L D : Nat → Nat} {x : Nat} (hm : qf_m f n a3 a4 a5 a6 N G L D) (pN : qf_per n N) (pD : qf_per n D) (ho : qf_oc N D x) :
    qf_m f n a3 (upd a4 (64 * f + x % n) 1) a5 a6 (qf_up n x true N) G L D := by
  intro t
  obtain ⟨e4, e5, e6, e3⟩ := hm t
  refine ⟨?_, e5, e6, fun o => e3 ((qf_nm_oc pN pD ho t).mp o)⟩
  by_cases e : t % n = x % n
  · rw [qf_up_s e, e, pk_us]
    rfl
  · rw [qf_up_n e, pk_un (by omega)]
    exact e4
theorem qf_m_put {f n : Nat} {a3 a4 a5 a6 : Nat → Int32} {N G : Nat → Bool} {L D : Nat → Nat} {x r : Nat} (hm : qf_m f n a3 a4 a5 a6 N G L D) :
    qf_m f n (upd a3 (64 * f + x % n) (nI r)) (upd a4 (64 * f + x % n) 1) a5 a6 (qf_up n x true N) G (qf_up n x r L) D := by
  intro t
  obtain ⟨e4, e5, e6, e3⟩ := hm t
  by_cases e : t % n = x % n
  · refine ⟨?_, e5, e6, fun o => ?_⟩
    · rw [qf_up_s e, e, pk_us]
      rfl
    · rw [qf_up_s e, e, pk_us]
  · refine ⟨?_, e5, e6, fun o => ?_⟩
    · rw [qf_up_n e, pk_un (by omega)]
      exact e4
    · rw [qf_up_n e, pk_un (by omega)]
      refine e3 ?_
      unfold qf_oc at o
      rw [qf_up_n e] at o
      exact o
theorem qf_m_go {f n : Nat} {a3 a4 a5 a6 : Nat → Int32} {N G : Nat → Bool} {L D : Nat → Nat} {y : Nat} (hm : qf_m f n a3 a4 a5 a6 N G L D) :
    qf_m f n a3 a4 (upd a5 (64 * f + y % n) 1) a6 N (qf_up n y true G) L D := by
  intro t
  obtain ⟨e4, e5, e6, e3⟩ := hm t
  refine ⟨e4, ?_, e6, e3⟩
  by_cases e : t % n = y % n
  · rw [qf_up_s e, e, pk_us]
    rfl
  · rw [qf_up_n e, pk_un (by omega)]
    exact e5
theorem qw_insert {post : St1 → Prop} {rc : Int32} {a1 a2 a3 a4 a5 a6 a7 : Nat → Int32} {f b p : Nat} {A : List Nat} (hf : f < 2) (h : qf_R f b A a1 a2 a3 a4 a5 a6) (hA : A.length + 1 < 2 ^ b) (hp : p < 256)
    (H : ∀ a2' a3' a4' a5' a6' : Nat → Int32, qf_R f b (p :: A) a1 a2' a3' a4' a5' a6' → (∀ g, g ≠ f → a2' g = a2 g) → qf_fr f a3 a3' → qf_fr f a4 a4' → qf_fr f a5 a5' → qf_fr f a6 a6' → post (rc, a1, a2', a3', a4', a5', a6', a7)) :
    wpX_insert post (rc, a1, a2, a3, a4, a5, a6, a7) (nI f) (nI p) := by
  obtain ⟨h1, h2, h3, hb3, hb6, N, G, L, D, hm, hV, hC⟩ := h
  obtain ⟨n, hn⟩ : ∃ n, n = 2 ^ b := ⟨_, rfl⟩
  obtain ⟨R, hR⟩ : ∃ R, R = 2 ^ (8 - b) := ⟨_, rfl⟩
  have hb : qf_n b n := ⟨hb3, hb6, hn⟩
  have h8 := qf_n8 hb
  have hR32 := qf_R32 hb
  have hsl := qf_slot hb hp
  obtain ⟨z, hz⟩ := qf_free hC h3
  rw [← hR] at hR32 hsl
  rw [← hn] at hm hV hC h3 hA
  rw [← hR] at hV hC
  have hn0 : 0 < n := by omega
  have hr : p % R < R := Nat.mod_lt _ (by omega)
  have hpe : p / R * R + p % R = p := by
    have := Nat.div_add_mod p R
    rw [Nat.mul_comm] at this
    exact this
  obtain ⟨x, hx⟩ : ∃ x, x = p / R + n := ⟨_, rfl⟩
  rw [← hx] at hsl
  have hl := qf_lt hf hn0 (by omega) x
  have hi : vp_in (nI (64 * f + x % n)) 128 := vp_in_nI hl (by decide)
  have pN := hV.1.1
  have pD := hV.1.2.2.2.1
  have hL32 : ∀ t, qf_oc N D t → L t < 32 := fun t o => by have := hV.2.1 t o; omega
  have ha2 : ∀ g, g ≠ f → upd a2 f (nI (A.length + 1)) g = a2 g := fun g hg => pk_un hg
  have fin : ∀ (a3' a4' a5' a6' : Nat → Int32) (N' G' : Nat → Bool) (L' D' : Nat → Nat), qf_m f n a3' a4' a5' a6' N' G' L' D' → qf_V n R N' G' L' D' →
      (qf_ct (qf_ce n R N' L' D') 0 n).Perm (p :: qf_ct (qf_ce n R N L D) 0 n) → qf_R f b (p :: A) a1 (upd a2 f (nI (A.length + 1))) a3' a4' a5' a6' := by
    intro a3' a4' a5' a6' N' G' L' D' q1 q2 q3
    rw [hn] at q1 q2 q3 hC
    rw [hR] at q2 q3 hC
    exact ⟨h1, by rw [pk_us]; rfl, by rw [List.length_cons]; omega, hb3, hb6, N', G', L', D', q1, q2, q3.trans (hC.cons p)⟩
  unfold wpX_insert
  dsimp only
  refine qw_base (qw_slotOf hf hb h1 hp (qw_lowerOf hf hb h1 hp ?_))
  rw [nI_clamp (show f < 2 ^ 31 by omega), h2, qf_k_h1 A.length (by omega), ← hR, hsl]
  refine ⟨vp_in_nI hf (by decide), vp_in_nI hf (by decide), nm_e ?_⟩
  refine qw_isFree hf hn0 (by omega) hm (fun t g => Or.inr (hV.1.2.2.2.2.1 t g)) x (fun o => ?_) (fun o => ?_)
  · refine br_t rfl ?_
    rw [nI_add, nI_clamp (by omega), (hm x).1]
    refine ⟨hi, nm_e ⟨hi, nm_e ?_⟩⟩
    have hm' := qf_m_nm hm pN pD o
    have oc' := qf_nm_oc pN pD o
    have hz' : ¬ qf_oc (qf_up n x true N) D z := fun w => hz ((oc' z).mp w)
    have hce := qf_nm_ce (n := n) (R := R) (L := L) pN pD o
    have hW' := qf_nm_W hV.1 o
    have hnm' : ∀ s, (qf_up n x true N) s = true → s % n = x % n ∨ ∃ j, qf_oc (qf_up n x true N) D (s + j) ∧ D (s + j) = j := by
      intro s hs
      by_cases e : s % n = x % n
      · exact Or.inl e
      · rw [qf_up_n e] at hs
        obtain ⟨j, o1, o2⟩ := (hV.2.2 s).mp hs
        exact Or.inr ⟨j, (oc' _).mpr o1, o2⟩
    refine qw_runStart hf hb h1 hm' hW' (qf_nm_own hV o) (by omega) (qf_up_s rfl) hnm' hz' (fun y hrs hyn => ?_)
    have fin2 : ∀ (s : Nat) (cg : Bool) (G1 : Nat → Bool) (a5' : Nat → Int32), x ≤ s → s < x + n → qf_m f n a3 (upd a4 (64 * f + x % n) 1) a5' a6 (qf_up n x true N) G1 L D → qf_fr f a5 a5' → qf_J n R (qf_up n x true N) G1 L D s (p % R) cg (s - x) →
        wX_insert_191 post (nI (x % n)) (nI (s % n)) (qf_b cg) (nI (p % R)) (nI (s % n)) (nI f) rc a1 (upd a2 f (nI (A.length + 1))) a3 (upd a4 (64 * f + x % n) 1) a5' a6 a7 := by
      intro s cg G1 a5' s1 s2 hm1 hfr hJ
      refine qw_ins_191 hn0 (by omega) s1 s2 (qw_push hf hb h1 (by omega) hm1 hJ hz' ?_)
      intro a3' a5'' a6' G' L' D' q1 q2 q3 q4 q5 q6
      refine H _ _ _ _ _ (fin _ _ _ _ _ _ _ _ q1 q2 ?_) ha2 q4 (qf_fr_u x hn0 (by omega) (qf_fr_r f a4)) (qf_fr_t hfr q5) q6
      have e1 := qf_ow_at hn0 x (s - x)
      rw [show x + (s - x) = s by omega] at e1
      rw [e1, ← hsl, hpe, hce] at q3
      exact q3
    cases hNx : N x with
    | false =>
      obtain ⟨hJ, hxy⟩ := qf_J_B hV hNx o hr hrs
      refine ⟨1, qw_ins_stop hf hb hm' (by omega) (fun t w => hL32 t ((oc' t).mp w)) (fun w => Bool.noConfusion w) ?_⟩
      unfold wX_insert_146
      refine br_t rfl ?_
      unfold wX_insert_168
      refine br_t rfl ?_
      unfold wX_insert_190
      exact fin2 y false G a5 (by omega) hyn hm' (qf_fr_r f a5) hJ
    | true =>
      have hid := qf_nm_id pN hNx
      rw [hid] at hrs hm' fin2
      obtain ⟨j, o1, o2⟩ := (hV.2.2 x).mp hNx
      obtain ⟨oy, dy⟩ := qf_rs_run hV.1 hrs o1 o2
      obtain ⟨k0, _, hk0, _⟩ := qf_ff hn0 pN pD hz (y + 1)
      obtain ⟨k1, g1, g2⟩ := pk_least (fun k => G (y + 1 + k) = false) ⟨k0, Bool.eq_false_iff.mpr (fun g => hk0 (Or.inr (hV.1.2.2.2.2.1 _ g)))⟩
      have hg : ∀ t, y < t → t < y + 1 + k1 → G t = true := by
        intro t t1 t2
        have := g2 (t - (y + 1)) (by omega)
        rw [show y + 1 + (t - (y + 1)) = t by omega] at this
        exact eq_true_of_ne_false this
      have hrun := qf_run hV.1 oy dy hg
      have hen := qf_run_end hn0 hV hz hrs oy dy (by omega) hg
      refine qw_ins_scan hf hb h1 hm' (by omega) hL32 (fun i q => (hrun i q).1) hg g1 (by omega) (fun s s1 s2 s3 s4 => ?_)
      have hxy := hrs.1
      have m1 := Nat.mod_lt s hn0
      have m2 := Nat.mod_lt y hn0
      unfold wX_insert_146
      refine br_f (by decide) ?_
      by_cases e : s = y
      · subst e
        refine br_t rfl ?_
        have hl2 := qf_lt hf hn0 (by omega) s
        rw [nI_add, nI_clamp (by omega)]
        refine ⟨vp_in_nI hl2 (by decide), nm_e ?_⟩
        unfold wX_insert_168
        refine br_f (by decide) (br_t rfl ?_)
        unfold wX_insert_190
        exact fin2 s false (qf_up n s true G) _ hxy (by omega) (qf_m_go hm') (qf_fr_u s hn0 (by omega) (qf_fr_r f a5)) (qf_J_A1 hV hNx hr hrs oy dy (s4 (by omega)))
      · have hne : ¬ nI (s % n) = nI (y % n) := fun w => e (qf_mw x (by omega) (by omega) hxy (by omega) ((nI_eq (by omega) (by omega)).mp w))
        refine br_f hne ?_
        unfold wX_insert_168
        refine br_f (by decide) (br_f hne ?_)
        have q := hrun (s - 1 - y) (by omega)
        rw [show y + (s - 1 - y) = s - 1 by omega] at q
        refine fin2 s true G a5 (by omega) (by omega) hm' (qf_fr_r f a5) (qf_J_A2 hV hNx hr (by omega) q.1 q.2 (s3 (s - 1) (by omega) (by omega)) (fun g => s4 ?_))
        exact Nat.lt_of_le_of_ne s2 (fun w => by rw [w, g1] at g; exact Bool.noConfusion g)
  · refine br_f (by decide) ?_
    rw [nI_add, nI_clamp (by omega), qf_i8 (p % R) (by omega)]
    refine ⟨hi, nm_e ⟨hi, nm_e ?_⟩⟩
    refine H _ _ _ _ _ (fin _ _ _ _ _ _ _ _ (qf_m_put hm) (qf_put_V hV o hr) ?_) ha2 (qf_fr_u x hn0 (by omega) (qf_fr_r f a3)) (qf_fr_u x hn0 (by omega) (qf_fr_r f a4)) (qf_fr_r f a5) (qf_fr_r f a6)
    have q := qf_put_C (r := p % R) hn0 hV o
    rw [← hsl, hpe] at q
    exact q
end
section
/-! timesOf -/
theorem qw_t46 {post : Int32 → Prop} {rc : Int32} {a1 a2 a3 a4 a5 a6 a7 : Nat → Int32} {f b n w y m : Nat} {N G : Nat → Bool} {L D : Nat → Nat}
    (hf : f < 2) (hb : qf_n b n) (h1 : a1 f = nI b) (hm : qf_m f n a3 a4 a5 a6 N G L D) (hw : w < 32) (hL : ∀ t, qf_oc N D t → L t < 32)
    (hrun : ∀ i, i < m → qf_oc N D (y + i)) (hg : ∀ i, 0 < i → i < m → G (y + i) = true) (hge : G (y + m) = false)
    (H : post (nI (qf_cn (fun t => L t == w) y m))) :
    ∀ d i, i + d = m → wX_timesOf_46 post (nI f) (nI w) rc a1 a2 a3 a4 a5 a6 a7 (d + 1) (nI ((y + i) % n)) (nI (qf_cn (fun t => L t == w) y i)) (qf_b (decide (i < m))) := by
  have h8 := qf_n8 hb
  have hn0 : 0 < n := by omega
  intro d
  induction d with
  | zero =>
    intro i e
    have e2 : i = m := by omega
    subst e2
    rw [wX_timesOf_46]
    dsimp only
    exact br_t (by rw [decide_eq_false (by omega)]; rfl) H
  | succ d ih =>
    intro i e
    have hl := qf_lt hf hn0 (by omega) (y + i)
    have hl2 := qf_lt hf hn0 (by omega) (y + i + 1)
    have o := hrun i (by omega)
    have hL2 := hL _ o
    rw [wX_timesOf_46]
    dsimp only
    refine br_f (by rw [decide_eq_true (show i < m by omega)]; decide) ?_
    refine qw_base ?_
    rw [nI_add, nI_clamp (by omega), (hm (y + i)).2.2.2 o]
    refine ⟨vp_in_nI hl (by decide), ?_⟩
    have next := ih (i + 1) (by omega)
    have hgo : qf_b (G (y + i + 1)) = qf_b (decide (i + 1 < m)) := by
      by_cases c1 : i + 1 < m
      · rw [decide_eq_true c1, Nat.add_assoc, hg (i + 1) (by omega) c1]
      · rw [decide_eq_false c1, Nat.add_assoc, show i + 1 = m by omega, hge]
    have tail : ∀ v, v = qf_cn (fun t => L t == w) y (i + 1) → wX_timesOf_72 post (wX_timesOf_46 post (nI f) (nI w) rc a1 a2 a3 a4 a5 a6 a7 (d + 1)) (nI f) (nI w) (nI ((y + i) % n)) (nI v) rc a1 a2 a3 a4 a5 a6 a7 := by
      intro v hv
      unfold wX_timesOf_72
      refine qw_after hf hb h1 (qw_base ?_)
      rw [nI_add, nI_clamp (by omega), (hm (y + i + 1)).2.1, hgo, hv]
      exact ⟨vp_in_nI hl2 (by decide), nm_e next⟩
    refine br_c (fun q => ?_) (fun q => ?_)
    · refine nm_r (nI_1 _) (tail _ ?_)
      have : L (y + i) = w := (nI_eq (by omega) (by omega)).mp q
      rw [qf_cn, if_pos (by rw [this]; exact beq_self_eq_true w)]
    · refine tail _ ?_
      have : ¬ L (y + i) = w := fun z => q (by rw [z])
      rw [qf_cn, if_neg (by simpa using this)]
      rfl
theorem qw_timesOf {post : Int32 → Prop} {rc : Int32} {a1 a2 a3 a4 a5 a6 a7 : Nat → Int32} {f b p : Nat} {A : List Nat} (hf : f < 2) (h : qf_R f b A a1 a2 a3 a4 a5 a6) (hp : p < 256)
    (H : post (nI (A.count p))) : wpX_timesOf post (rc, a1, a2, a3, a4, a5, a6, a7) (nI f) (nI p) := by
  obtain ⟨h1, h2, h3, hb3, hb6, N, G, L, D, hm, hV, hC⟩ := h
  obtain ⟨n, hn⟩ : ∃ n, n = 2 ^ b := ⟨_, rfl⟩
  obtain ⟨R, hR⟩ : ∃ R, R = 2 ^ (8 - b) := ⟨_, rfl⟩
  have hb : qf_n b n := ⟨hb3, hb6, hn⟩
  have h8 := qf_n8 hb
  have hR32 := qf_R32 hb
  have hsl := qf_slot hb hp
  obtain ⟨z, hz⟩ := qf_free hC h3
  rw [← hR] at hR32 hsl
  rw [← hn] at hm hV hC h3
  rw [← hR] at hV hC
  have hn0 : 0 < n := by omega
  have hr : p % R < R := Nat.mod_lt _ (by omega)
  have hpe : p / R * R + p % R = p := by
    have := Nat.div_add_mod p R
    rw [Nat.mul_comm] at this
    exact this
  obtain ⟨x, hx⟩ : ∃ x, x = p / R + n := ⟨_, rfl⟩
  rw [← hx] at hsl
  have hl := qf_lt hf hn0 (by omega) x
  have pN := hV.1.1
  have pD := hV.1.2.2.2.1
  have hL32 : ∀ t, qf_oc N D t → L t < 32 := fun t o => by have := hV.2.1 t o; omega
  rw [← hC.count_eq] at H
  unfold wpX_timesOf
  dsimp only
  refine qw_slotOf hf hb h1 hp (qw_lowerOf hf hb h1 hp (qw_base ?_))
  rw [← hR, hsl, nI_add, nI_clamp (by omega), (hm x).1]
  refine ⟨vp_in_nI hl (by decide), br_c (fun q => ?_) (fun q => ?_)⟩
  · have e := qf_times_0 hn0 hV hz hr (qf_b0 q)
    rw [← hsl, hpe] at e
    rw [e] at H
    exact H
  · have hNx := qf_b1 q
    refine qw_runStart hf hb h1 hm hV.1 (qf_V_own hV) (by omega) hNx (fun s hs => Or.inr ((hV.2.2 s).mp hs)) hz (fun y hrs hyn => ?_)
    obtain ⟨j, o1, o2⟩ := (hV.2.2 x).mp hNx
    obtain ⟨oy, dy⟩ := qf_rs_run hV.1 hrs o1 o2
    obtain ⟨k0, _, hk0, _⟩ := qf_ff hn0 pN pD hz (y + 1)
    obtain ⟨k1, g1, g2⟩ := pk_least (fun k => G (y + 1 + k) = false) ⟨k0, Bool.eq_false_iff.mpr (fun g => hk0 (Or.inr (hV.1.2.2.2.2.1 _ g)))⟩
    have hg : ∀ t, y < t → t < y + 1 + k1 → G t = true := by
      intro t t1 t2
      have := g2 (t - (y + 1)) (by omega)
      rw [show y + 1 + (t - (y + 1)) = t by omega] at this
      exact eq_true_of_ne_false this
    have hrun := qf_run hV.1 oy dy hg
    have e := qf_times hn0 hV hz hr hrs oy dy (by omega) hg g1
    rw [← hsl, hpe, show y + 1 + k1 - y = k1 + 1 by omega] at e
    rw [e] at H
    have t := qw_t46 (post := post) (rc := rc) (a2 := a2) (a7 := a7) (w := p % R) (y := y) (m := k1 + 1) hf hb h1 hm (by omega) hL32 (fun i hi => (hrun i (by omega)).1) (fun i i1 i2 => hg _ (by omega) (by omega)) (by rw [show y + (k1 + 1) = y + 1 + k1 by omega]; exact g1) H (k1 + 1) 0 (by omega)
    rw [decide_eq_true (show 0 < k1 + 1 by omega)] at t
    exact ⟨_, t⟩
end
section
/-! readStretch and readAll -/
theorem qf_k_rd : ∀ b, b < 7 → ∀ p, p < 256 → (nI (p / 2 ^ (8 - b)) <<< ((8 - nI b) &&& 31) ||| nI (p % 2 ^ (8 - b))).toInt16.toInt32 = nI p := by decide +kernel
/-- the array holds the list -/
def qf_rd (a : Nat → Int32) (l : List Nat) : Prop := ∀ i v, l[i]? = some v → a i = nI v
theorem qf_rd_0 (a : Nat → Int32) : qf_rd a [] := by
  intro i v h
  exact absurd h (by simp)
theorem qf_rd_add {a : Nat → Int32} {l : List Nat} {v : Nat} (h : qf_rd a l) : qf_rd (upd a l.length (nI v)) (l ++ [v]) := by
  intro i w hw
  by_cases e : i = l.length
  · subst e
    rw [List.getElem?_append_right (Nat.le_refl _), Nat.sub_self] at hw
    rw [pk_us]
    exact congrArg nI (Option.some.inj hw)
  · rw [pk_un e]
    refine h i w ?_
    have hlt : i < (l ++ [v]).length := (List.getElem?_eq_some_iff.mp hw).1
    rw [List.length_append, List.length_singleton] at hlt
    rwa [List.getElem?_append_left (by omega)] at hw
theorem qf_ct_le {c : Nat → Option Nat} (a k : Nat) : (qf_ct c a k).length ≤ k := by
  induction k with
  | zero => exact Nat.le_refl _
  | succ k ih =>
    rw [qf_ct, List.length_append]
    have : (c (a + k)).toList.length ≤ 1 := by
      cases c (a + k) <;> simp
    omega
theorem qw_rs95 {post : Int32 → St1 → Prop} {J18 : Int32 → Int32 → Int32 → (Nat → Int32) → (Nat → Int32) → (Nat → Int32) → (Nat → Int32) → (Nat → Int32) → (Nat → Int32) → (Nat → Int32) → Prop}
    {a1 a2 a3 a4 a5 a6 a7 : Nat → Int32} {f b n s k : Nat} {N G : Nat → Bool} {L D : Nat → Nat}
    (hf : f < 2) (hb : qf_n b n) (h1 : a1 f = nI b) (hm : qf_m f n a3 a4 a5 a6 N G L D) (hV : qf_V n (2 ^ (8 - b)) N G L D) (o : qf_oc N D s) (hk : k < 64)
    (H : J18 (nI ((s + 1) % n)) (nI (qf_ow n s (D s))) (nI (k + 1)) a1 a2 a3 a4 a5 a6 (upd a7 k (nI (qf_ow n s (D s) * 2 ^ (8 - b) + L s)))) :
    wX_readStretch_95 post J18 (nI f) (nI (64 * f)) (nI (s % n)) (nI (qf_ow n s (D s))) (nI k) a1 a2 a3 a4 a5 a6 a7 := by
  have h8 := qf_n8 hb
  have hn0 : 0 < n := by omega
  have hl := qf_lt hf hn0 (by omega) s
  have hL := hV.2.1 s o
  have how := qf_ow_lt hn0 s (D s)
  obtain ⟨R, hR⟩ : ∃ R, R = 2 ^ (8 - b) := ⟨_, rfl⟩
  have hk1 := qf_k_rd b (by have := hb.2.1; omega) (qf_ow n s (D s) * 2 ^ (8 - b) + L s)
  rw [← hR] at hk1 hL h8 H
  have hlt : qf_ow n s (D s) * R + L s < 256 := by
    have h3 : (qf_ow n s (D s) + 1) * R ≤ n * R := Nat.mul_le_mul_right R how
    rw [Nat.add_mul, Nat.one_mul] at h3
    omega
  have hk2 := hk1 hlt
  have e1 : (qf_ow n s (D s) * R + L s) / R = qf_ow n s (D s) := by
    rw [Nat.mul_comm, Nat.mul_add_div (by omega), Nat.div_eq_of_lt hL, Nat.add_zero]
  have e2 : (qf_ow n s (D s) * R + L s) % R = L s := by
    rw [Nat.mul_comm, Nat.mul_add_mod, Nat.mod_eq_of_lt hL]
  rw [e1, e2] at hk2
  unfold wX_readStretch_95
  rw [nI_add, nI_clamp (show 64 * f + s % n < 2 ^ 31 by omega), nI_clamp (show f < 2 ^ 31 by omega), nI_clamp (show k < 2 ^ 31 by omega), h1, (hm s).2.2.2 o, hk2]
  refine ⟨vp_in_nI hf (by decide), vp_in_nI hl (by decide), vp_in_nI hk (by decide), nm_e (nm_r (nI_1 k) ?_)⟩
  exact qw_after hf hb h1 H
theorem qw_rs70 {post : Int32 → St1 → Prop} {J18 : Int32 → Int32 → Int32 → (Nat → Int32) → (Nat → Int32) → (Nat → Int32) → (Nat → Int32) → (Nat → Int32) → (Nat → Int32) → (Nat → Int32) → Prop}
    {x5 rc : Int32} {a1 a2 a3 a4 a5 a6 a7 : Nat → Int32} {f b n : Nat} {N G : Nat → Bool} {L D : Nat → Nat}
    (hf : f < 2) (hb : qf_n b n) (h1 : a1 f = nI b) (hm : qf_m f n a3 a4 a5 a6 N G L D) :
    ∀ k s, (∀ i, i < k → N (s + i) = false) → N (s + k) = true → wX_readStretch_95 post J18 (nI f) (nI (64 * f)) x5 (nI ((s + k) % n)) rc a1 a2 a3 a4 a5 a6 a7 →
      wX_readStretch_70 post J18 (nI f) (nI (64 * f)) x5 rc a1 a2 a3 a4 a5 a6 a7 (k + 1) (nI (s % n)) := by
  have h8 := qf_n8 hb
  intro k
  induction k with
  | zero =>
    intro s _ hg H
    have hl := qf_lt hf (show 0 < n by omega) (by omega) s
    rw [wX_readStretch_70]
    dsimp only
    rw [nI_add, nI_clamp (by omega), (hm s).1]
    exact ⟨vp_in_nI hl (by decide), br_f (by rw [Nat.add_zero] at hg; rw [hg]; decide) H⟩
  | succ k ih =>
    intro s hi hg H
    have hl := qf_lt hf (show 0 < n by omega) (by omega) s
    rw [wX_readStretch_70]
    dsimp only
    rw [nI_add, nI_clamp (by omega), (hm s).1]
    refine ⟨vp_in_nI hl (by decide), br_t (by have := hi 0 (by omega); rw [Nat.add_zero] at this; rw [this]; rfl) ?_⟩
    refine qw_after hf hb h1 (ih (s + 1) (fun i h => ?_) ?_ ?_)
    · rw [Nat.add_assoc, Nat.add_comm 1 i]
      exact hi (i + 1) (by omega)
    · rw [Nat.add_assoc, Nat.add_comm 1 k]
      exact hg
    · rw [Nat.add_assoc, Nat.add_comm 1 k]
      exact H
theorem qw_rs18 {post : Int32 → St1 → Prop} {a1 a2 a3 a4 a5 a6 : Nat → Int32} {f b n a m : Nat} {N G : Nat → Bool} {L D : Nat → Nat} {l : List Nat}
    (hf : f < 2) (hb : qf_n b n) (h1 : a1 f = nI b) (hm : qf_m f n a3 a4 a5 a6 N G L D) (hV : qf_V n (2 ^ (8 - b)) N G L D)
    (ha : 1 ≤ a) (hz : ¬ qf_oc N D (a - 1)) (hoc : ∀ i, i < m → qf_oc N D (a + i)) (he : ¬ qf_oc N D (a + m)) (hlen : l.length + m ≤ 64)
    (H : ∀ a7', qf_rd a7' (l ++ qf_ct (qf_ce n (2 ^ (8 - b)) N L D) a m) → post (nI ((a + m) % n)) (nI (l.length + m), a1, a2, a3, a4, a5, a6, a7')) :
    ∀ d i w a7, i + d = m → qf_rd a7 (l ++ qf_ct (qf_ce n (2 ^ (8 - b)) N L D) a i) → (0 < i → w = a + i - 1 - D (a + i - 1)) →
      wX_readStretch_18 post (nI f) (nI (64 * f)) (d + 1) (nI ((a + i) % n)) (nI (w % n)) (nI (l.length + i)) a1 a2 a3 a4 a5 a6 a7 := by
  have h8 := qf_n8 hb
  have hn0 : 0 < n := by omega
  intro d
  induction d with
  | zero =>
    intro i w a7 e hr hw
    have e2 : i = m := by omega
    subst e2
    rw [wX_readStretch_18]
    dsimp only
    exact qw_isFree hf hn0 (by omega) hm (fun t g => Or.inr (hV.1.2.2.2.2.1 t g)) (a + i) (fun o => absurd o he) (fun _ => br_f (by decide) (H a7 hr))
  | succ d ih =>
    intro i w a7 e hr hw
    have o := hoc i (by omega)
    have hl := qf_lt hf hn0 (by omega) (a + i)
    have hi : vp_in (nI (64 * f + (a + i) % n)) 128 := vp_in_nI hl (by decide)
    have hdi : D (a + i) ≤ i := by
      have := qf_fb hV.1 hz (t := a + i) (by omega)
      omega
    have hlc : (l ++ qf_ct (qf_ce n (2 ^ (8 - b)) N L D) a i).length = l.length + i := by
      rw [List.length_append, qf_ct_len (fun j hj => ?_)]
      rw [qf_ce_o (hoc j (by omega))]
      simp
    have how : qf_ow n (a + i) (D (a + i)) = (a + i - D (a + i)) % n := by
      have := qf_ow_at hn0 (a + i - D (a + i)) (D (a + i))
      rwa [show a + i - D (a + i) + D (a + i) = a + i by omega] at this
    have tail : wX_readStretch_95 post (wX_readStretch_18 post (nI f) (nI (64 * f)) (d + 1)) (nI f) (nI (64 * f)) (nI ((a + i) % n)) (nI ((a + i - D (a + i)) % n)) (nI (l.length + i)) a1 a2 a3 a4 a5 a6 a7 := by
      rw [← how]
      refine qw_rs95 hf hb h1 hm hV o (by omega) ?_
      rw [how, ← how]
      have nx := ih (i + 1) (a + i - D (a + i)) (upd a7 (l.length + i) (nI (qf_ow n (a + i) (D (a + i)) * 2 ^ (8 - b) + L (a + i)))) (by omega) (by
        rw [qf_ct, qf_ce_o o, ← List.append_assoc, ← hlc]
        exact qf_rd_add hr) (fun _ => rfl)
      rw [← how] at nx
      exact nx
    rw [wX_readStretch_18]
    dsimp only
    refine qw_isFree hf hn0 (by omega) hm (fun t g => Or.inr (hV.1.2.2.2.2.1 t g)) (a + i) (fun _ => br_t rfl ?_) (fun z => absurd o z)
    rw [nI_add, nI_clamp (by omega), (hm (a + i)).2.2.1, (hm (a + i)).2.1]
    refine ⟨hi, br_c (fun q => ?_) (fun q => ⟨hi, br_c (fun q2 => ?_) (fun q2 => ?_)⟩)⟩
    · have hd : D (a + i) = 0 := Classical.byContradiction (fun z => of_decide_eq_false (qf_b0 q) z)
      rw [hd, Nat.sub_zero] at tail
      exact tail
    · have hd : D (a + i) ≠ 0 := of_decide_eq_true (qf_b1 q)
      have hd1 : D (a + i - 1) ≤ a + i - 1 := by
        have := qf_fb hV.1 hz (t := a + i - 1) (by omega)
        omega
      obtain ⟨n1, n2, n3⟩ := qf_owner hV (s := a + i) (by omega) hd (by omega) hd1 (qf_b0 q2)
      rw [← hw (by omega)] at n1 n3
      refine qw_after hf hb h1 ⟨_, qw_rs70 hf hb h1 hm (a + i - D (a + i) - (w + 1)) (w + 1) (fun j hj => n3 _ (by omega) (by omega)) ?_ ?_⟩
      · rw [show w + 1 + (a + i - D (a + i) - (w + 1)) = a + i - D (a + i) by omega]
        exact n2
      · rw [show w + 1 + (a + i - D (a + i) - (w + 1)) = a + i - D (a + i) by omega]
        exact tail
    · have g := qf_b1 q2
      have hd : D (a + i) ≠ 0 := hV.1.2.2.2.2.1 _ g
      have hst := hV.1.2.2.2.2.2 (a + i - 1)
      unfold qf_st at hst
      rw [Nat.sub_add_cancel (show 1 ≤ a + i by omega)] at hst
      have h5 := ((hst hd).2.1 g).1
      have h6 := hw (by omega)
      rw [show a + i - D (a + i) = w by omega] at tail
      exact tail
theorem qw_readStretch {post : Int32 → St1 → Prop} {rc : Int32} {a1 a2 a3 a4 a5 a6 a7 : Nat → Int32} {f b n a m : Nat} {N G : Nat → Bool} {L D : Nat → Nat} {l : List Nat}
    (hf : f < 2) (hb : qf_n b n) (h1 : a1 f = nI b) (hm : qf_m f n a3 a4 a5 a6 N G L D) (hV : qf_V n (2 ^ (8 - b)) N G L D)
    (ha : 1 ≤ a) (hz : ¬ qf_oc N D (a - 1)) (hoc : ∀ i, i < m → qf_oc N D (a + i)) (he : ¬ qf_oc N D (a + m)) (hlen : l.length + m ≤ 64) (hr : qf_rd a7 l)
    (H : ∀ a7', qf_rd a7' (l ++ qf_ct (qf_ce n (2 ^ (8 - b)) N L D) a m) → post (nI ((a + m) % n)) (nI (l.length + m), a1, a2, a3, a4, a5, a6, a7')) :
    wpX_readStretch post (rc, a1, a2, a3, a4, a5, a6, a7) (nI f) (nI (a % n)) (nI l.length) := by
  unfold wpX_readStretch
  dsimp only
  refine qw_base ⟨m + 1, ?_⟩
  exact qw_rs18 hf hb h1 hm hV ha hz hoc he hlen H m 0 a a7 (by omega) (by rw [qf_ct, List.append_nil]; exact hr) (fun h => absurd h (by omega))
end
section
/-! readAll -/
theorem qw_ra29 {post : St1 → Prop} {a1 a2 a3 a4 a5 a6 : Nat → Int32} {f b n z : Nat} {N G : Nat → Bool} {L D : Nat → Nat}
    (hf : f < 2) (hb : qf_n b n) (h1 : a1 f = nI b) (hm : qf_m f n a3 a4 a5 a6 N G L D) (hV : qf_V n (2 ^ (8 - b)) N G L D) (hz : ¬ qf_oc N D z)
    (H : ∀ a7', qf_rd a7' (qf_ct (qf_ce n (2 ^ (8 - b)) N L D) (z + 1) (n - 1)) → post (nI (qf_ct (qf_ce n (2 ^ (8 - b)) N L D) (z + 1) (n - 1)).length, a1, a2, a3, a4, a5, a6, a7')) :
    ∀ d s a7, z + n - s ≤ d → z + 1 ≤ s → s ≤ z + n → (qf_oc N D s → ¬ qf_oc N D (s - 1)) → qf_rd a7 (qf_ct (qf_ce n (2 ^ (8 - b)) N L D) (z + 1) (s - z - 1)) →
      wX_readAll_29 post (nI f) (nI (z % n)) (d + 1) (nI (s % n)) (nI (qf_ct (qf_ce n (2 ^ (8 - b)) N L D) (z + 1) (s - z - 1)).length) a1 a2 a3 a4 a5 a6 a7 := by
  have h8 := qf_n8 hb
  have hn0 : 0 < n := by omega
  have pN := hV.1.1
  have pD := hV.1.2.2.2.1
  have hzn : ¬ qf_oc N D (z + n) := fun o => hz (qf_oc_per pN pD (Nat.add_mod_right z n) o)
  have fin : ∀ d a7, qf_rd a7 (qf_ct (qf_ce n (2 ^ (8 - b)) N L D) (z + 1) (n - 1)) → wX_readAll_29 post (nI f) (nI (z % n)) (d + 1) (nI ((z + n) % n)) (nI (qf_ct (qf_ce n (2 ^ (8 - b)) N L D) (z + 1) (n - 1)).length) a1 a2 a3 a4 a5 a6 a7 := by
    intro d a7 hr
    rw [wX_readAll_29]
    dsimp only
    exact br_t (by rw [Nat.add_mod_right]) (H a7 hr)
  intro d
  induction d with
  | zero =>
    intro s a7 s1 s2 s3 _ hr
    have e : s = z + n := by omega
    subst e
    rw [show z + n - z - 1 = n - 1 by omega] at hr ⊢
    exact fin 0 a7 hr
  | succ d ih =>
    intro s a7 s1 s2 s3 s4 hr
    by_cases e : s = z + n
    · subst e
      rw [show z + n - z - 1 = n - 1 by omega] at hr ⊢
      exact fin (d + 1) a7 hr
    · have m1 := Nat.mod_lt s hn0
      have m2 := Nat.mod_lt z hn0
      rw [wX_readAll_29]
      dsimp only
      refine br_f (fun q => ?_) ?_
      · have q2 : s % n = z % n := (nI_eq (by omega) (by omega)).mp q
        rw [← Nat.add_mod_right z n] at q2
        exact e (qf_mw (z + 1) s2 (by omega) (by omega) (by omega) q2)
      · refine qw_isFree hf hn0 (by omega) hm (fun t g => Or.inr (hV.1.2.2.2.2.1 t g)) s (fun o => br_t rfl ?_) (fun o => br_f (by decide) ?_)
        · obtain ⟨m, hmn, hfm, hom⟩ := qf_ff hn0 pN pD hz s
          have hsm : s + m ≤ z + n := by
            refine Nat.le_of_not_lt (fun hlt => hzn ?_)
            have := hom (z + n - s) (by omega)
            rwa [show s + (z + n - s) = z + n by omega] at this
          have hm0 : m ≠ 0 := fun q => hfm (by rw [q]; exact o)
          have hle := qf_ct_le (c := qf_ce n (2 ^ (8 - b)) N L D) (z + 1) (s - z - 1)
          refine qw_readStretch hf hb h1 hm hV (by omega) (s4 o) hom hfm (by omega) hr (fun a7' hr' => ?_)
          have hc := qf_ct_app (c := qf_ce n (2 ^ (8 - b)) N L D) (z + 1) (s - z - 1) m
          rw [show z + 1 + (s - z - 1) = s by omega, show s - z - 1 + m = s + m - z - 1 by omega] at hc
          have hlm : (qf_ct (qf_ce n (2 ^ (8 - b)) N L D) s m).length = m := qf_ct_len (fun j hj => by rw [qf_ce_o (hom j hj)]; simp)
          rw [← hc] at hr'
          have nx := ih (s + m) a7' (by omega) (by omega) hsm (fun o2 => absurd o2 hfm) hr'
          rw [hc, List.length_append, hlm] at nx
          exact nx
        · have hc : qf_ct (qf_ce n (2 ^ (8 - b)) N L D) (z + 1) (s + 1 - z - 1) = qf_ct (qf_ce n (2 ^ (8 - b)) N L D) (z + 1) (s - z - 1) := by
            rw [show s + 1 - z - 1 = s - z - 1 + 1 by omega, qf_ct, show z + 1 + (s - z - 1) = s by omega, qf_ce_f o]
            exact List.append_nil _
          have nx := ih (s + 1) a7 (by omega) (by omega) (by omega) (fun _ => by rw [Nat.add_sub_cancel]; exact o) (by rw [hc]; exact hr)
          rw [hc] at nx
          exact qw_after hf hb h1 nx
theorem qw_readAll {post : St1 → Prop} {rc : Int32} {a1 a2 a3 a4 a5 a6 a7 : Nat → Int32} {f b : Nat} {A : List Nat} (hf : f < 2) (h : qf_R f b A a1 a2 a3 a4 a5 a6)
    (H : ∀ (l : List Nat) (a7' : Nat → Int32), l.Perm A → qf_rd a7' l → post (nI l.length, a1, a2, a3, a4, a5, a6, a7')) : wpX_readAll post (rc, a1, a2, a3, a4, a5, a6, a7) (nI f) := by
  obtain ⟨h1, h2, h3, hb3, hb6, N, G, L, D, hm, hV, hC⟩ := h
  obtain ⟨n, hn⟩ : ∃ n, n = 2 ^ b := ⟨_, rfl⟩
  have hb : qf_n b n := ⟨hb3, hb6, hn⟩
  have h8 := qf_n8 hb
  obtain ⟨z0, hz0⟩ := qf_free hC h3
  rw [← hn] at hm hV hC h3
  have hn0 : 0 < n := by omega
  have pN := hV.1.1
  have pL := hV.1.2.2.1
  have pD := hV.1.2.2.2.1
  obtain ⟨z, zn, hz, hzo⟩ := qf_ff hn0 pN pD hz0 0
  rw [Nat.zero_add] at hz
  have hl : (qf_ct (qf_ce n (2 ^ (8 - b)) N L D) (z + 1) (n - 1)).Perm A := by
    refine List.Perm.trans ?_ hC
    refine List.Perm.trans ?_ (qf_ct_rot (qf_ce_per pN pL pD) z)
    have e := qf_ct_head (c := qf_ce n (2 ^ (8 - b)) N L D) z (n - 1)
    rw [show n - 1 + 1 = n by omega, qf_ce_f hz] at e
    rw [e]
    exact List.Perm.refl _
  have main : ∀ d k, k + d = z → wX_readAll_7 post (nI f) 0 a1 a2 a3 a4 a5 a6 a7 (d + 1) (nI k) := by
    intro d
    induction d with
    | zero =>
      intro k e
      have e2 : k = z := by omega
      subst e2
      have em : k % n = k := Nat.mod_eq_of_lt zn
      have t := qw_ra29 (post := post) (a2 := a2) hf hb h1 hm hV hz (fun a7' hr => H _ a7' hl hr) (n - 1) (k + 1) a7 (by omega) (by omega) (by omega) (fun _ => by rw [Nat.add_sub_cancel]; exact hz) (by
        rw [show k + 1 - k - 1 = 0 by omega]
        exact qf_rd_0 a7)
      rw [show k + 1 - k - 1 = 0 by omega, em] at t
      rw [wX_readAll_7]
      dsimp only
      have g := qw_isFree (post := fun r_1 => (r_1 = 0 → ∀ x2_31, x2_31 = nI k + 1 → wX_readAll_7 post (nI f) 0 a1 a2 a3 a4 a5 a6 a7 0 x2_31) ∧ (¬ r_1 = 0 → wpX_after (fun r_3 => ∃ fu29, wX_readAll_29 post (nI f) (nI k) fu29 r_3 0 a1 a2 a3 a4 a5 a6 a7) (0, a1, a2, a3, a4, a5, a6, a7) (nI f) (nI k))) (rc := 0) (a1 := a1) (a2 := a2) (a7 := a7) hf hn0 (by omega) hm (fun t g => Or.inr (hV.1.2.2.2.2.1 t g)) k (fun o => absurd o hz) (fun _ => br_f (by decide) (by
        have t2 := qw_after (post := fun r_3 => ∃ fu29, wX_readAll_29 post (nI f) (nI k) fu29 r_3 0 a1 a2 a3 a4 a5 a6 a7) (rc := 0) (a2 := a2) (a3 := a3) (a4 := a4) (a5 := a5) (a6 := a6) (a7 := a7) (t := k) hf hb h1 ⟨_, t⟩
        rw [em] at t2
        exact t2))
      rw [em] at g
      exact g
    | succ d ih =>
      intro k e
      have em : k % n = k := Nat.mod_eq_of_lt (by omega)
      have o : qf_oc N D k := by
        have := hzo k (by omega)
        rwa [Nat.zero_add] at this
      rw [wX_readAll_7]
      dsimp only
      have g := qw_isFree (post := fun r_1 => (r_1 = 0 → ∀ x2_31, x2_31 = nI k + 1 → wX_readAll_7 post (nI f) 0 a1 a2 a3 a4 a5 a6 a7 (d + 1) x2_31) ∧ (¬ r_1 = 0 → wpX_after (fun r_3 => ∃ fu29, wX_readAll_29 post (nI f) (nI k) fu29 r_3 0 a1 a2 a3 a4 a5 a6 a7) (0, a1, a2, a3, a4, a5, a6, a7) (nI f) (nI k))) (rc := 0) (a1 := a1) (a2 := a2) (a7 := a7) hf hn0 (by omega) hm (fun t g => Or.inr (hV.1.2.2.2.2.1 t g)) k (fun _ => br_t rfl (nm_r (nI_1 k) (ih (k + 1) (by omega)))) (fun o2 => absurd o o2)
      rw [em] at g
      exact g
  unfold wpX_readAll
  dsimp only
  exact ⟨z + 1, main z 0 (by omega)⟩
end
section
/-! free, empty, resize -/
/-- what a call on filter f leaves as it was -/
def qf_F (f : Nat) (a1 a2 a3 a4 a5 a6 b1 b2 b3 b4 b5 b6 : Nat → Int32) : Prop :=
  (∀ g, g ≠ f → b1 g = a1 g) ∧ (∀ g, g ≠ f → b2 g = a2 g) ∧ qf_fr f a3 b3 ∧ qf_fr f a4 b4 ∧ qf_fr f a5 b5 ∧ qf_fr f a6 b6
theorem qf_F_r (f : Nat) (a1 a2 a3 a4 a5 a6 : Nat → Int32) : qf_F f a1 a2 a3 a4 a5 a6 a1 a2 a3 a4 a5 a6 :=
  ⟨fun _ _ => rfl, fun _ _ => rfl, qf_fr_r f a3, qf_fr_r f a4, qf_fr_r f a5, qf_fr_r f a6⟩
theorem qf_F_t {f : Nat} {a1 a2 a3 a4 a5 a6 b1 b2 b3 b4 b5 b6 c1 c2 c3 c4 c5 c6 : Nat → Int32} (h : qf_F f a1 a2 a3 a4 a5 a6 b1 b2 b3 b4 b5 b6) (h' : qf_F f b1 b2 b3 b4 b5 b6 c1 c2 c3 c4 c5 c6) : qf_F f a1 a2 a3 a4 a5 a6 c1 c2 c3 c4 c5 c6 := by
  obtain ⟨h1, h2, h3, h4, h5, h6⟩ := h
  obtain ⟨k1, k2, k3, k4, k5, k6⟩ := h'
  exact ⟨fun g hg => (k1 g hg).trans (h1 g hg), fun g hg => (k2 g hg).trans (h2 g hg), qf_fr_t h3 k3, qf_fr_t h4 k4, qf_fr_t h5 k5, qf_fr_t h6 k6⟩
theorem qf_R_perm {f b : Nat} {A A' : List Nat} {a1 a2 a3 a4 a5 a6 : Nat → Int32} (h : qf_R f b A a1 a2 a3 a4 a5 a6) (p : A.Perm A') : qf_R f b A' a1 a2 a3 a4 a5 a6 := by
  obtain ⟨h1, h2, h3, hb3, hb6, N, G, L, D, hm, hV, hC⟩ := h
  exact ⟨h1, by rw [h2, p.length_eq], by rw [← p.length_eq]; exact h3, hb3, hb6, N, G, L, D, hm, hV, hC.trans p⟩
theorem qf_R_fr {f g b : Nat} {A : List Nat} {a1 a2 a3 a4 a5 a6 b1 b2 b3 b4 b5 b6 : Nat → Int32} (hf : f < 2) (hg : g < 2) (hgf : g ≠ f) (h : qf_R g b A a1 a2 a3 a4 a5 a6) (hF : qf_F f a1 a2 a3 a4 a5 a6 b1 b2 b3 b4 b5 b6) : qf_R g b A b1 b2 b3 b4 b5 b6 := by
  obtain ⟨h1, h2, h3, hb3, hb6, N, G, L, D, hm, hV, hC⟩ := h
  obtain ⟨k1, k2, k3, k4, k5, k6⟩ := hF
  refine ⟨by rw [k1 g hgf]; exact h1, by rw [k2 g hgf]; exact h2, h3, hb3, hb6, N, G, L, D, fun t => ?_, hV, hC⟩
  have h8 := qf_n8 (b := b) (n := 2 ^ b) ⟨hb3, hb6, rfl⟩
  have hlt := Nat.mod_lt t (show 0 < 2 ^ b by omega)
  have hk : 64 * g + t % 2 ^ b < 64 * f ∨ 64 * f + 64 ≤ 64 * g + t % 2 ^ b := by omega
  rw [k3 _ hk, k4 _ hk, k5 _ hk, k6 _ hk]
  exact hm t
theorem qf_fp_256 {b n w l : Nat} (hb : qf_n b n) (hw : w < n) (hl : l < 2 ^ (8 - b)) : w * 2 ^ (8 - b) + l < 256 := by
  have h8 := qf_n8 hb
  have h3 : (w + 1) * 2 ^ (8 - b) ≤ n * 2 ^ (8 - b) := Nat.mul_le_mul_right _ hw
  rw [Nat.add_mul, Nat.one_mul] at h3
  omega
theorem qf_R_256 {f b : Nat} {A : List Nat} {a1 a2 a3 a4 a5 a6 : Nat → Int32} (h : qf_R f b A a1 a2 a3 a4 a5 a6) : ∀ p, p ∈ A → p < 256 := by
  obtain ⟨h1, h2, h3, hb3, hb6, N, G, L, D, hm, hV, hC⟩ := h
  intro p hp
  have hb : qf_n b (2 ^ b) := ⟨hb3, hb6, rfl⟩
  have h8 := qf_n8 hb
  obtain ⟨i, hi, hc⟩ := qf_ct_mem.mp (hC.mem_iff.mpr hp)
  by_cases o : qf_oc N D (0 + i)
  · rw [qf_ce_o o] at hc
    rw [← Option.some.inj hc]
    exact qf_fp_256 hb (qf_ow_lt (by omega) _ _) (hV.2.1 _ o)
  · rw [qf_ce_f o] at hc
    exact absurd hc (by simp)
/-- nothing is held -/
theorem qf_R_nil {f b : Nat} {a1 a2 a3 a4 a5 a6 : Nat → Int32} (h1 : a1 f = nI b) (h2 : a2 f = 0) (hb3 : 3 ≤ b) (hb6 : b ≤ 6) (h4 : ∀ j, j < 64 → a4 (64 * f + j) = 0) (h5 : ∀ j, j < 64 → a5 (64 * f + j) = 0) (h6 : ∀ j, j < 64 → a6 (64 * f + j) = 0) : qf_R f b [] a1 a2 a3 a4 a5 a6 := by
  have h8 := qf_n8 (b := b) (n := 2 ^ b) ⟨hb3, hb6, rfl⟩
  have no : ∀ t, ¬ qf_oc (fun _ => false) (fun _ => 0) t := by
    intro t o
    rcases o with o | o
    · exact Bool.noConfusion o
    · exact o rfl
  refine ⟨h1, h2, by show 0 < 2 ^ b; omega, hb3, hb6, fun _ => false, fun _ => false, fun _ => 0, fun _ => 0, fun t => ?_, ⟨⟨fun _ _ _ => rfl, fun _ _ _ => rfl, fun _ _ _ => rfl, fun _ _ _ => rfl, fun _ g => Bool.noConfusion g, fun t hd => absurd rfl hd⟩, fun t o => absurd o (no t), fun s => ⟨fun q => Bool.noConfusion q, fun ⟨j, o, _⟩ => absurd o (no _)⟩⟩, ?_⟩
  · have hlt := Nat.mod_lt t (show 0 < 2 ^ b by omega)
    exact ⟨h4 _ (by omega), h5 _ (by omega), h6 _ (by omega), fun o => absurd o (no t)⟩
  · rw [qf_ct_nil (fun i hi => qf_ce_f (no _))]
theorem qw_free {post : St1 → Prop} {rc : Int32} {a1 a2 a3 a4 a5 a6 a7 : Nat → Int32} {f k : Nat} (hf : f < 2) (hk : k < 64)
    (H : post (rc, a1, a2, a3, upd a4 (64 * f + k) 0, upd a5 (64 * f + k) 0, upd a6 (64 * f + k) 0, a7)) : wpX_free post (rc, a1, a2, a3, a4, a5, a6, a7) (nI f) (nI k) := by
  unfold wpX_free
  dsimp only
  refine qw_base (nm_r (nI_add _ _) ?_)
  have hi : vp_in (nI (64 * f + k)) 128 := vp_in_nI (by omega) (by decide)
  rw [nI_clamp (by omega)]
  exact ⟨hi, nm_e ⟨hi, nm_e ⟨hi, nm_e H⟩⟩⟩
theorem qw_empty {post : St1 → Prop} {rc : Int32} {a1 a2 a3 a4 a5 a6 a7 : Nat → Int32} {f : Nat} (hf : f < 2)
    (H : ∀ a4' a5' a6' : Nat → Int32, (∀ j, j < 64 → a4' (64 * f + j) = 0) → (∀ j, j < 64 → a5' (64 * f + j) = 0) → (∀ j, j < 64 → a6' (64 * f + j) = 0) → qf_fr f a4 a4' → qf_fr f a5 a5' → qf_fr f a6 a6' → post (rc, a1, upd a2 f 0, a3, a4', a5', a6', a7)) :
    wpX_empty post (rc, a1, a2, a3, a4, a5, a6, a7) (nI f) := by
  have z1 : ∀ (i : Nat) (a : Nat → Int32), (∀ j, j < i → a (64 * f + j) = 0) → ∀ j, j < i + 1 → upd a (64 * f + i) 0 (64 * f + j) = 0 := by
    intro i a h j hj
    by_cases e : j = i
    · rw [e, pk_us]
    · rw [pk_un (by omega)]
      exact h j (by omega)
  have z2 : ∀ (i : Nat) (a a' : Nat → Int32), i < 64 → qf_fr f a a' → qf_fr f a (upd a' (64 * f + i) 0) := by
    intro i a a' hi h k hk
    rw [pk_un (by omega)]
    exact h k hk
  have main : ∀ d i (c4 c5 c6 : Nat → Int32), i + d = 64 → (∀ j, j < i → c4 (64 * f + j) = 0) → (∀ j, j < i → c5 (64 * f + j) = 0) → (∀ j, j < i → c6 (64 * f + j) = 0) → qf_fr f a4 c4 → qf_fr f a5 c5 → qf_fr f a6 c6 →
      wX_empty_9 post (nI f) (d + 1) (nI i) rc a1 (upd a2 f 0) a3 c4 c5 c6 a7 := by
    intro d
    induction d with
    | zero =>
      intro i c4 c5 c6 e q4 q5 q6 r4 r5 r6
      have e2 : i = 64 := by omega
      subst e2
      rw [wX_empty_9]
      dsimp only
      exact br_t (by decide) (H c4 c5 c6 q4 q5 q6 r4 r5 r6)
    | succ d ih =>
      intro i c4 c5 c6 e q4 q5 q6 r4 r5 r6
      rw [wX_empty_9]
      dsimp only
      refine br_f (nI_ge (b := 64) (by omega) (by decide)) (qw_free hf (by omega) (nm_r (nI_1 i) ?_))
      exact ih (i + 1) _ _ _ (by omega) (z1 i c4 q4) (z1 i c5 q5) (z1 i c6 q6) (z2 i a4 c4 (by omega) r4) (z2 i a5 c5 (by omega) r5) (z2 i a6 c6 (by omega) r6)
  unfold wpX_empty
  dsimp only
  refine ⟨vp_in_nI hf (by decide), nm_e ?_⟩
  rw [nI_clamp (by omega)]
  exact ⟨65, main 64 0 a4 a5 a6 (by omega) (fun j hj => absurd hj (by omega)) (fun j hj => absurd hj (by omega)) (fun j hj => absurd hj (by omega)) (qf_fr_r f a4) (qf_fr_r f a5) (qf_fr_r f a6)⟩
theorem qf_take_s {l : List Nat} {i v : Nat} (h : l[i]? = some v) : (v :: l.take i).Perm (l.take (i + 1)) := by
  rw [List.take_add_one, h]
  exact (List.perm_append_comm (l₁ := [v]) (l₂ := l.take i))
theorem qw_resize20 {post : St1 → Prop} {a1 a7 : Nat → Int32} {f b : Nat} {l : List Nat} (hf : f < 2) (hl : l.length < 2 ^ b) (h256 : ∀ p, p ∈ l → p < 256) (hr : qf_rd a7 l)
    (a2 a3 a4 a5 a6 : Nat → Int32)
    (H : ∀ a2' a3' a4' a5' a6' : Nat → Int32, qf_R f b l a1 a2' a3' a4' a5' a6' → qf_F f a1 a2 a3 a4 a5 a6 a1 a2' a3' a4' a5' a6' → post (nI l.length, a1, a2', a3', a4', a5', a6', a7)) :
    ∀ d i (c2 c3 c4 c5 c6 : Nat → Int32), i + d = l.length → qf_R f b (l.take i) a1 c2 c3 c4 c5 c6 → qf_F f a1 a2 a3 a4 a5 a6 a1 c2 c3 c4 c5 c6 →
      wX_resize_20 post (nI f) (d + 1) (nI i) (nI l.length) a1 c2 c3 c4 c5 c6 a7 := by
  intro d
  induction d with
  | zero =>
    intro i c2 c3 c4 c5 c6 e q F
    have hb := qf_n8 (b := b) (n := 2 ^ b) ⟨q.2.2.2.1, q.2.2.2.2.1, rfl⟩
    have e2 : i = l.length := by omega
    subst e2
    rw [List.take_length] at q
    rw [wX_resize_20]
    dsimp only
    exact br_t (nI_le (Nat.le_refl _) (by omega)) (H c2 c3 c4 c5 c6 q F)
  | succ d ih =>
    intro i c2 c3 c4 c5 c6 e q F
    have hb := qf_n8 (b := b) (n := 2 ^ b) ⟨q.2.2.2.1, q.2.2.2.2.1, rfl⟩
    have hi : l[i]? = some l[i] := List.getElem?_eq_getElem (by omega)
    have hv : l[i] < 256 := h256 _ (List.getElem_mem _)
    rw [wX_resize_20]
    dsimp only
    refine br_f (nI_ge (by omega) (by omega)) ⟨vp_in_nI (by omega) (by decide), ?_⟩
    rw [nI_clamp (by omega), hr i _ hi]
    refine qw_insert hf q (by rw [List.length_take]; omega) hv (fun e2 e3 e4 e5 e6 q' k2 k3 k4 k5 k6 => nm_r (nI_1 i) ?_)
    exact ih (i + 1) e2 e3 e4 e5 e6 (by omega) (qf_R_perm q' (qf_take_s hi)) (qf_F_t F ⟨fun _ _ => rfl, k2, k3, k4, k5, k6⟩)
theorem qw_resize {post : St1 → Prop} {rc : Int32} {a1 a2 a3 a4 a5 a6 a7 : Nat → Int32} {f b b' : Nat} {A : List Nat} (hf : f < 2) (h : qf_R f b A a1 a2 a3 a4 a5 a6) (hb3 : 3 ≤ b') (hb6 : b' ≤ 6) (hA : A.length < 2 ^ b')
    (H : ∀ (rc' : Int32) (a1' a2' a3' a4' a5' a6' a7' : Nat → Int32), qf_R f b' A a1' a2' a3' a4' a5' a6' → qf_F f a1 a2 a3 a4 a5 a6 a1' a2' a3' a4' a5' a6' → post (rc', a1', a2', a3', a4', a5', a6', a7')) :
    wpX_resize post (rc, a1, a2, a3, a4, a5, a6, a7) (nI f) (nI b') := by
  unfold wpX_resize
  dsimp only
  refine qw_readAll hf h (fun l a7' hl hr => ?_)
  refine qw_empty hf (fun c4 c5 c6 z4 z5 z6 r4 r5 r6 => ?_)
  refine ⟨vp_in_nI hf (by decide), nm_e ?_⟩
  rw [nI_clamp (by omega), qf_i8 b' (by omega)]
  refine ⟨l.length + 1, ?_⟩
  have F : qf_F f a1 a2 a3 a4 a5 a6 (upd a1 f (nI b')) (upd a2 f 0) a3 c4 c5 c6 := ⟨fun g hg => pk_un hg, fun g hg => pk_un hg, qf_fr_r f a3, r4, r5, r6⟩
  refine qw_resize20 hf (b := b') (by rw [hl.length_eq]; exact hA) (fun p hp => qf_R_256 h p (hl.mem_iff.mp hp)) hr (upd a2 f 0) a3 c4 c5 c6 (fun e2 e3 e4 e5 e6 q F2 => ?_) l.length 0 (upd a2 f 0) a3 c4 c5 c6 (by omega) ?_ (qf_F_r f _ _ _ _ _ _)
  · exact H _ _ _ _ _ _ _ _ (qf_R_perm q hl) (qf_F_t F F2)
  · exact qf_R_nil pk_us pk_us hb3 hb6 z4 z5 z6
end
section
/-! takeOut -/
theorem qf_in_s {n a i : Nat} (hn : 0 < n) (hi : i < n) (t : Nat) : qf_in n a (i + 1) t = true ↔ (t % n = (a + i) % n ∨ qf_in n a i t = true) := by
  obtain ⟨j, hj, e⟩ := qf_win hn t a
  rw [← qf_in_per _ _ e, ← qf_in_per _ _ e, qf_in_at hn hj, qf_in_at hn hj]
  constructor
  · intro h
    have h2 : j < i + 1 := of_decide_eq_true h
    by_cases z : j = i
    · exact Or.inl (by rw [← e, z])
    · exact Or.inr (decide_eq_true (by omega))
  · rintro (h | h)
    · have : a + j = a + i := qf_mw a (by omega) (by omega) (by omega) (by omega) (e.trans h)
      exact decide_eq_true (by omega)
    · have h2 : j < i := of_decide_eq_true h
      exact decide_eq_true (by omega)
/-- the first i cells of the stretch are cleared -/
def qf_cz (f n a i : Nat) (a4 c4 : Nat → Int32) : Prop := ∀ t, c4 (64 * f + t % n) = if qf_in n a i t = true then 0 else a4 (64 * f + t % n)
theorem qf_cz_s {f n a i : Nat} {a4 c4 : Nat → Int32} (hn : 0 < n) (hi : i < n) (h : qf_cz f n a i a4 c4) : qf_cz f n a (i + 1) a4 (upd c4 (64 * f + (a + i) % n) 0) := by
  intro t
  by_cases e : t % n = (a + i) % n
  · rw [if_pos ((qf_in_s hn hi t).mpr (Or.inl e)), e, pk_us]
  · rw [pk_un (by omega), h t]
    by_cases c : qf_in n a i t = true
    · rw [if_pos c, if_pos ((qf_in_s hn hi t).mpr (Or.inr c))]
    · rw [if_neg c, if_neg (fun w => ((qf_in_s hn hi t).mp w).elim e c)]
theorem qf_cz_m {f n a m : Nat} {a3 a4 a5 a6 c4 c5 c6 : Nat → Int32} {N G : Nat → Bool} {L D : Nat → Nat} (hm : qf_m f n a3 a4 a5 a6 N G L D) (h4 : qf_cz f n a m a4 c4) (h5 : qf_cz f n a m a5 c5) (h6 : qf_cz f n a m a6 c6) :
    qf_m f n a3 c4 c5 c6 (qf_clB n a m N) (qf_clB n a m G) L (qf_clD n a m D) := by
  intro t
  obtain ⟨e4, e5, e6, e3⟩ := hm t
  refine ⟨?_, ?_, ?_, fun o => e3 ((qf_cl_oc t).mp o).1⟩
  · rw [h4 t, e4]
    unfold qf_clB
    by_cases c : qf_in n a m t = true
    · rw [if_pos c, if_pos c]
      rfl
    · rw [if_neg c, if_neg c]
  · rw [h5 t, e5]
    unfold qf_clB
    by_cases c : qf_in n a m t = true
    · rw [if_pos c, if_pos c]
      rfl
    · rw [if_neg c, if_neg c]
  · rw [h6 t, e6]
    unfold qf_clD
    by_cases c : qf_in n a m t = true
    · rw [if_pos c, if_pos c]
      rfl
    · rw [if_neg c, if_neg c]
theorem qw_to101 {post : St1 → Prop} {a1 a7 : Nat → Int32} {f b p : Nat} {l B : List Nat} (hf : f < 2) (hlB : l.length + B.length < 2 ^ b) (hl64 : l.length < 64) (h256 : ∀ p, p ∈ l → p < 256) (hp : p < 256) (hr : qf_rd a7 l)
    (a2 a3 a4 a5 a6 : Nat → Int32)
    (H : ∀ a2' a3' a4' a5' a6' : Nat → Int32, qf_R f b (l.erase p ++ B) a1 a2' a3' a4' a5' a6' → qf_F f a1 a2 a3 a4 a5 a6 a1 a2' a3' a4' a5' a6' → post (nI l.length, a1, a2', a3', a4', a5', a6', a7)) :
    ∀ d i (c2 c3 c4 c5 c6 : Nat → Int32), i + d = l.length → qf_R f b ((l.take i).erase p ++ B) a1 c2 c3 c4 c5 c6 → qf_F f a1 a2 a3 a4 a5 a6 a1 c2 c3 c4 c5 c6 →
      wX_takeOut_101 post (nI f) (nI p) (d + 1) (qf_b (decide (p ∈ l.take i))) (nI i) (nI l.length) a1 c2 c3 c4 c5 c6 a7 := by
  intro d
  induction d with
  | zero =>
    intro i c2 c3 c4 c5 c6 e q F
    have e2 : i = l.length := by omega
    subst e2
    rw [List.take_length] at q
    rw [wX_takeOut_101]
    dsimp only
    exact br_t (nI_le (Nat.le_refl _) (by omega)) (H c2 c3 c4 c5 c6 q F)
  | succ d ih =>
    intro i c2 c3 c4 c5 c6 e q F
    have hi : l[i]? = some l[i] := List.getElem?_eq_getElem (by omega)
    have hv : l[i] < 256 := h256 _ (List.getElem_mem _)
    have ht : l.take (i + 1) = l.take i ++ [l[i]] := by
      rw [List.take_add_one, hi]
      rfl
    have hlen : (l.take i).length = i := by
      rw [List.length_take]
      omega
    have hi64 : vp_in (nI i) 64 := vp_in_nI (by omega) (by decide)
    have put : ((l.take i).erase p).length + B.length + 1 < 2 ^ b → (l.take (i + 1)).erase p = (l.take i).erase p ++ [l[i]] → decide (p ∈ l.take (i + 1)) = decide (p ∈ l.take i) →
        wX_takeOut_132 post (wX_takeOut_101 post (nI f) (nI p) (d + 1)) (nI f) (nI p) (qf_b (decide (p ∈ l.take i))) (nI i) (nI l.length) a1 c2 c3 c4 c5 c6 a7 := by
      intro h1 h2 h3
      unfold wX_takeOut_132
      refine ⟨hi64, ?_⟩
      rw [nI_clamp (by omega), hr i _ hi]
      refine qw_insert hf q (by rw [List.length_append]; omega) hv (fun e2 e3 e4 e5 e6 q' k2 k3 k4 k5 k6 => nm_r (nI_1 i) ?_)
      rw [← h3]
      refine ih (i + 1) e2 e3 e4 e5 e6 (by omega) (qf_R_perm q' ?_) (qf_F_t F ⟨fun _ _ => rfl, k2, k3, k4, k5, k6⟩)
      rw [h2]
      exact List.perm_iff_count.mpr (fun w => by simp only [List.count_append, List.count_cons, List.count_nil]; omega)
    rw [wX_takeOut_101]
    dsimp only
    refine br_f (nI_ge (by omega) (by omega)) (br_c (fun g => ?_) (fun g => ?_))
    · have hno : p ∉ l.take i := of_decide_eq_false (qf_b0 g)
      have he : (l.take i).erase p = l.take i := List.erase_of_not_mem hno
      refine ⟨hi64, ?_⟩
      rw [nI_clamp (by omega), hr i _ hi]
      refine br_c (fun w => ?_) (fun w => ?_)
      · have e3 : l[i] = p := (nI_eq (by omega) (by omega)).mp w
        refine nm_r (nI_1 i) ?_
        have h3 : decide (p ∈ l.take (i + 1)) = true := decide_eq_true (by rw [ht, e3]; simp)
        have nx := ih (i + 1) c2 c3 c4 c5 c6 (by omega) (by
          rw [ht, e3, List.erase_append_right _ hno]
          simp only [List.erase_cons_head, List.append_nil]
          rw [he] at q
          exact q) F
        rw [h3] at nx
        exact nx
      · have e3 : ¬ l[i] = p := fun z => w (by rw [z])
        refine put (by rw [he, hlen]; omega) ?_ ?_
        · rw [ht, he, List.erase_of_not_mem]
          simp only [List.mem_append, List.mem_singleton, not_or]
          exact ⟨hno, fun z => e3 z.symm⟩
        · rw [decide_eq_false hno]
          refine decide_eq_false ?_
          rw [ht]
          simp only [List.mem_append, List.mem_singleton, not_or]
          exact ⟨hno, fun z => e3 z.symm⟩
    · have hyes : p ∈ l.take i := of_decide_eq_true (qf_b1 g)
      have hel : ((l.take i).erase p).length = i - 1 := by rw [List.length_erase_of_mem hyes, hlen]
      have hi0 : 0 < i := by
        refine Nat.pos_of_ne_zero (fun z => ?_)
        rw [z] at hyes
        exact absurd hyes (by simp)
      refine put (by rw [hel]; omega) ?_ ?_
      · rw [ht, List.erase_append_left _ hyes]
      · rw [decide_eq_true hyes]
        refine decide_eq_true ?_
        rw [ht]
        exact List.mem_append_left _ hyes
theorem qw_takeOut {post : St1 → Prop} {rc : Int32} {a1 a2 a3 a4 a5 a6 a7 : Nat → Int32} {f b p : Nat} {A : List Nat} (hf : f < 2) (h : qf_R f b A a1 a2 a3 a4 a5 a6) (hp : p < 256) (hpA : p ∈ A)
    (H : ∀ (rc' : Int32) (a2' a3' a4' a5' a6' a7' : Nat → Int32), qf_R f b (A.erase p) a1 a2' a3' a4' a5' a6' → qf_F f a1 a2 a3 a4 a5 a6 a1 a2' a3' a4' a5' a6' → post (rc', a1, a2', a3', a4', a5', a6', a7')) :
    wpX_takeOut post (rc, a1, a2, a3, a4, a5, a6, a7) (nI f) (nI p) := by
  have h256 := qf_R_256 h
  obtain ⟨h1, h2, h3, hb3, hb6, N, G, L, D, hm, hV, hC⟩ := h
  obtain ⟨n, hn⟩ : ∃ n, n = 2 ^ b := ⟨_, rfl⟩
  have hb : qf_n b n := ⟨hb3, hb6, hn⟩
  have h8 := qf_n8 hb
  have hR32 := qf_R32 hb
  have hsl := qf_slot hb hp
  obtain ⟨z0, hz0⟩ := qf_free hC h3
  rw [← hn] at hm hV hC h3
  have hn0 : 0 < n := by omega
  have hr : p % 2 ^ (8 - b) < 2 ^ (8 - b) := Nat.mod_lt _ (by omega)
  have hpe : p / 2 ^ (8 - b) * 2 ^ (8 - b) + p % 2 ^ (8 - b) = p := by
    have := Nat.div_add_mod p (2 ^ (8 - b))
    rw [Nat.mul_comm] at this
    exact this
  obtain ⟨x, hx⟩ : ∃ x, x = p / 2 ^ (8 - b) + n := ⟨_, rfl⟩
  rw [← hx] at hsl
  have pN := hV.1.1
  have pL := hV.1.2.2.1
  have pD := hV.1.2.2.2.1
  have hG : ∀ t, G t = true → qf_oc N D t := fun t g => Or.inr (hV.1.2.2.2.2.1 t g)
  obtain ⟨c, hc⟩ : ∃ c, c = qf_ce n (2 ^ (8 - b)) N L D := ⟨_, rfl⟩
  -- an element of slot x
  have hel : ∃ j, j < n ∧ qf_oc N D (x + j) ∧ D (x + j) = j ∧ c (x + j) = some p := by
    have q := (qf_ct_rot (qf_ce_per (R := 2 ^ (8 - b)) pN pL pD) x).mem_iff.mpr (hC.mem_iff.mpr hpA)
    obtain ⟨j, hj, hcj⟩ := qf_ct_mem.mp q
    have hcj' := hcj
    rw [← hpe, hsl] at hcj'
    obtain ⟨o, dj, _⟩ := qf_ce_x hn0 hV hz0 hj hr hcj'
    exact ⟨j, hj, o, dj, by rw [hc]; exact hcj⟩
  obtain ⟨j, hjn, oj, dj, cj⟩ := hel
  have ox : qf_oc N D x := by
    have := (qf_chain hV.1 (x + j) j (by omega) (by omega) oj).1
    rwa [Nat.add_sub_cancel] at this
  obtain ⟨k, kn, hfk, hok⟩ := qf_fl hn0 pN pD hz0 x (by omega)
  have hk0 : k ≠ 0 := fun w => hfk (by rw [w]; exact ox)
  obtain ⟨a, ha⟩ : ∃ a, a = x - k + 1 := ⟨_, rfl⟩
  have hfa : ¬ qf_oc N D (a - 1) := by
    rw [ha, Nat.add_sub_cancel]
    exact hfk
  obtain ⟨m, mn0, hfm, hom⟩ := qf_ff hn0 pN pD hz0 a
  have hmn : m < n := mn0
  -- the element stands in the stretch
  have hxm : x + j < a + m := by
    refine Nat.lt_of_not_le (fun hle => hfm ?_)
    by_cases w : a + m ≤ x
    · have := hok (x - (a + m)) (by omega)
      rwa [show x - (x - (a + m)) = a + m by omega] at this
    · have := (qf_chain hV.1 (x + j) (x + j - (a + m)) (by omega) (by omega) oj).1
      rwa [show x + j - (x + j - (a + m)) = a + m by omega] at this
  obtain ⟨l, hl⟩ : ∃ l, l = qf_ct c a m := ⟨_, rfl⟩
  obtain ⟨B, hB⟩ : ∃ B, B = qf_ct (qf_ce n (2 ^ (8 - b)) (qf_clB n a m N) L (qf_clD n a m D)) 0 n := ⟨_, rfl⟩
  have hAB : A.Perm (l ++ B) := by
    rw [hl, hB, hc]
    exact hC.symm.trans (qf_cl_C hn0 hV hmn)
  have hll : l.length = m := by
    rw [hl, hc]
    exact qf_ct_len (fun i hi => by rw [qf_ce_o (hom i hi)]; simp)
  have hlen : A.length = m + B.length := by
    rw [hAB.length_eq, List.length_append, hll]
  have hpl : p ∈ l := by
    rw [hl]
    exact qf_ct_mem.mpr ⟨x + j - a, by omega, by rw [show a + (x + j - a) = x + j by omega]; exact cj⟩
  have hl256 : ∀ q, q ∈ l → q < 256 := fun q hq => h256 q (hAB.mem_iff.mpr (List.mem_append_left _ hq))
  have hV' := qf_cl_V hn0 hV (a := a) (m := m) (by omega) hmn hfa hfm
  -- the frees
  have loop : ∀ (a7' : Nat → Int32), qf_rd a7' l → ∀ d i (c4 c5 c6 : Nat → Int32), i + d = m → qf_cz f n a i a4 c4 → qf_cz f n a i a5 c5 → qf_cz f n a i a6 c6 → qf_fr f a4 c4 → qf_fr f a5 c5 → qf_fr f a6 c6 →
      wX_takeOut_55 post (nI f) (nI p) (nI ((a + m) % n)) (d + 1) (nI ((a + i) % n)) (nI l.length) a1 a2 a3 c4 c5 c6 a7' := by
    intro a7' hrd d
    induction d with
    | zero =>
      intro i c4 c5 c6 e q4 q5 q6 r4 r5 r6
      have e2 : i = m := by omega
      subst e2
      rw [wX_takeOut_55]
      dsimp only
      refine br_t rfl ⟨vp_in_nI hf (by decide), vp_in_nI hf (by decide), nm_e ?_⟩
      rw [nI_clamp (by omega), h2, pk_sub (by omega), qf_i8 _ (by omega)]
      have F : qf_F f a1 a2 a3 a4 a5 a6 a1 (upd a2 f (nI (A.length - l.length))) a3 c4 c5 c6 := ⟨fun _ _ => rfl, fun g hg => pk_un hg, qf_fr_r f a3, r4, r5, r6⟩
      have hmR := qf_cz_m hm q4 q5 q6
      have hRB : qf_R f b B a1 (upd a2 f (nI (A.length - l.length))) a3 c4 c5 c6 := by
        rw [hn] at hmR hV' hB
        refine ⟨h1, by rw [pk_us]; congr 1; omega, by omega, hb3, hb6, _, _, _, _, hmR, hV', ?_⟩
        rw [hB]
      have t := qw_to101 (post := post) (p := p) hf (b := b) (l := l) (B := B) (by omega) (by omega) hl256 hp hrd (upd a2 f (nI (A.length - l.length))) a3 c4 c5 c6 (fun e2 e3 e4 e5 e6 q F2 => by
        refine H _ _ _ _ _ _ _ (qf_R_perm q ?_) (qf_F_t F F2)
        rw [← List.erase_append_left _ hpl]
        exact (hAB.erase p).symm) l.length 0 (upd a2 f (nI (A.length - l.length))) a3 c4 c5 c6 (by omega) hRB (qf_F_r f _ _ _ _ _ _)
      exact ⟨_, t⟩
    | succ d ih =>
      intro i c4 c5 c6 e q4 q5 q6 r4 r5 r6
      have m1 := Nat.mod_lt (a + i) hn0
      have m2 := Nat.mod_lt (a + m) hn0
      rw [wX_takeOut_55]
      dsimp only
      refine br_f (fun w => ?_) ?_
      · have := qf_mw a (by omega) (by omega) (by omega) (by omega) ((nI_eq (by omega) (by omega)).mp w)
        omega
      · refine qw_free hf (by omega) (qw_after hf hb h1 ?_)
        exact ih (i + 1) _ _ _ (by omega) (qf_cz_s hn0 (by omega) q4) (qf_cz_s hn0 (by omega) q5) (qf_cz_s hn0 (by omega) q6) (qf_fr_u (a + i) hn0 (by omega) r4) (qf_fr_u (a + i) hn0 (by omega) r5) (qf_fr_u (a + i) hn0 (by omega) r6)
  have cz0 : ∀ a4 : Nat → Int32, qf_cz f n a 0 a4 a4 := by
    intro a4 t
    have : qf_in n a 0 t = false := decide_eq_false (by omega)
    rw [this]
    rfl
  have back : ∀ d s, s = x - k + d → s ≤ x → wX_takeOut_10 post (nI f) (nI p) rc a1 a2 a3 a4 a5 a6 a7 (d + 1) (nI (s % n)) := by
    intro d
    induction d with
    | zero =>
      intro s e _
      rw [wX_takeOut_10]
      dsimp only
      have e2 : s = x - k := by omega
      subst e2
      refine qw_isFree hf hn0 (by omega) hm hG (x - k) (fun o => absurd o hfk) (fun _ => br_f (by decide) (qw_after hf hb h1 ?_))
      rw [← ha]
      have t := qw_readStretch (post := fun r_5 u => match u with | (f0_readCount_6, am461_9, am462_12, am463_15, am464_18, am465_21, am466_24, am467_27) => ∃ fu55, wX_takeOut_55 post (nI f) (nI p) r_5 fu55 (nI (a % n)) f0_readCount_6 am461_9 am462_12 am463_15 am464_18 am465_21 am466_24 am467_27) (rc := rc) (a1 := a1) (a2 := a2) (a7 := a7) (l := []) hf hb h1 hm hV (by omega) hfa hom hfm (by show 0 + m ≤ 64; omega) (qf_rd_0 a7) (fun a7' hrd => by
        rw [List.nil_append, ← hc, ← hl] at hrd
        have t2 := loop a7' hrd m 0 a4 a5 a6 (by omega) (cz0 a4) (cz0 a5) (cz0 a6) (qf_fr_r f a4) (qf_fr_r f a5) (qf_fr_r f a6)
        rw [hll] at t2
        show ∃ fu55, wX_takeOut_55 post (nI f) (nI p) (nI ((a + m) % n)) fu55 (nI (a % n)) (nI (0 + m)) a1 a2 a3 a4 a5 a6 a7'
        rw [Nat.zero_add]
        exact ⟨_, t2⟩)
      exact t
    | succ d ih =>
      intro s e hs
      rw [wX_takeOut_10]
      dsimp only
      have o : qf_oc N D s := by
        have := hok (x - s) (by omega)
        rwa [show x - (x - s) = s by omega] at this
      refine qw_isFree hf hn0 (by omega) hm hG s (fun _ => br_t rfl ?_) (fun w => absurd o w)
      rw [show s = s - 1 + 1 by omega]
      exact qw_before hf hb h1 (ih (s - 1) (by omega) (by omega))
  unfold wpX_takeOut
  dsimp only
  refine qw_slotOf hf hb h1 hp ?_
  rw [hsl]
  exact ⟨_, back k x (by omega) (Nat.le_refl _)⟩
end
section
/-! the calls, over the picture of both filters -/
def qf_uB {α : Type} (B : Nat → α) (f : Nat) (v : α) : Nat → α := fun g => if g = f then v else B g
theorem qf_uB_s {α : Type} {B : Nat → α} {f : Nat} {v : α} : qf_uB B f v f = v := if_pos rfl
theorem qf_uB_n {α : Type} {B : Nat → α} {f g : Nat} {v : α} (h : g ≠ f) : qf_uB B f v g = B g := if_neg h
theorem qf_uB_id {α : Type} {B : Nat → α} {f : Nat} : qf_uB B f (B f) = B := by
  funext g
  by_cases e : g = f
  · rw [e, qf_uB_s]
  · rw [qf_uB_n e]
theorem qf_uB_uB {α : Type} {B : Nat → α} {f : Nat} {v w : α} : qf_uB (qf_uB B f v) f w = qf_uB B f w := by
  funext g
  by_cases e : g = f
  · rw [e, qf_uB_s, qf_uB_s]
  · rw [qf_uB_n e, qf_uB_n e, qf_uB_n e]
/-- both filters: bits B, fingerprints A -/
def qf_S (B : Nat → Nat) (A : Nat → List Nat) (u : St1) : Prop :=
  ∀ f, f < 2 → qf_R f (B f) (A f) u.2.1 u.2.2.1 u.2.2.2.1 u.2.2.2.2.1 u.2.2.2.2.2.1 u.2.2.2.2.2.2.1
theorem qf_S_up {B : Nat → Nat} {A : Nat → List Nat} {rc : Int32} {a1 a2 a3 a4 a5 a6 a7 : Nat → Int32} {rc' : Int32} {b1 b2 b3 b4 b5 b6 b7 : Nat → Int32} {f b' : Nat} {A' : List Nat} (hf : f < 2) (h : qf_S B A (rc, a1, a2, a3, a4, a5, a6, a7))
    (hR : qf_R f b' A' b1 b2 b3 b4 b5 b6) (hF : qf_F f a1 a2 a3 a4 a5 a6 b1 b2 b3 b4 b5 b6) : qf_S (qf_uB B f b') (qf_uB A f A') (rc', b1, b2, b3, b4, b5, b6, b7) := by
  intro g hg
  by_cases e : g = f
  · subst e
    rw [qf_uB_s, qf_uB_s]
    exact hR
  · rw [qf_uB_n e, qf_uB_n e]
    exact qf_R_fr hf hg e (h g hg) hF
theorem qf_S_upA {B : Nat → Nat} {A : Nat → List Nat} {rc : Int32} {a1 a2 a3 a4 a5 a6 a7 : Nat → Int32} {rc' : Int32} {b1 b2 b3 b4 b5 b6 b7 : Nat → Int32} {f : Nat} {A' : List Nat} (hf : f < 2) (h : qf_S B A (rc, a1, a2, a3, a4, a5, a6, a7))
    (hR : qf_R f (B f) A' b1 b2 b3 b4 b5 b6) (hF : qf_F f a1 a2 a3 a4 a5 a6 b1 b2 b3 b4 b5 b6) : qf_S B (qf_uB A f A') (rc', b1, b2, b3, b4, b5, b6, b7) := by
  have t := qf_S_up (rc' := rc') (b7 := b7) hf h hR hF
  rw [qf_uB_id] at t
  exact t
theorem qf_S_upB {B : Nat → Nat} {A : Nat → List Nat} {rc : Int32} {a1 a2 a3 a4 a5 a6 a7 : Nat → Int32} {rc' : Int32} {b1 b2 b3 b4 b5 b6 b7 : Nat → Int32} {f b' : Nat} (hf : f < 2) (h : qf_S B A (rc, a1, a2, a3, a4, a5, a6, a7))
    (hR : qf_R f b' (A f) b1 b2 b3 b4 b5 b6) (hF : qf_F f a1 a2 a3 a4 a5 a6 b1 b2 b3 b4 b5 b6) : qf_S (qf_uB B f b') A (rc', b1, b2, b3, b4, b5, b6, b7) := by
  have t := qf_S_up (rc' := rc') (b7 := b7) hf h hR hF
  rw [qf_uB_id] at t
  exact t
theorem qf_S_perm {B : Nat → Nat} {A : Nat → List Nat} {u : St1} {f : Nat} {A' : List Nat} (h : qf_S B A u) (hp : (A f).Perm A') : qf_S B (qf_uB A f A') u := by
  intro g hg
  by_cases e : g = f
  · subst e
    rw [qf_uB_s]
    exact qf_R_perm (h g hg) hp
  · rw [qf_uB_n e]
    exact h g hg
theorem qf_n1 {n : Nat} (h : 0 < n) : nI n - 1 = nI (n - 1) := by
  have := nI_pred (n - 1)
  rwa [Nat.sub_add_cancel h] at this
def qf_bad (p0 : Int32) : Prop := ¬ p0 = 0 ∧ ¬ p0 = 1
theorem qf_f01 {f : Nat} (hf : f < 2) : f = 0 ∨ f = 1 := by omega
theorem qw_isF {post : Int32 → Prop} {u : St1} {f : Nat} (hf : f < 2) (H : post 1) : wpX_isFilter post u (nI f) := by
  obtain ⟨rc, a1, a2, a3, a4, a5, a6, a7⟩ := u
  unfold wpX_isFilter
  dsimp only
  rcases qf_f01 hf with e | e
  · subst e
    exact br_t rfl H
  · subst e
    exact br_f (by decide) (br_t rfl H)
theorem qw_isF_bad {post : Int32 → Prop} {u : St1} {p0 : Int32} (hf : qf_bad p0) (H : post 0) : wpX_isFilter post u p0 := by
  obtain ⟨rc, a1, a2, a3, a4, a5, a6, a7⟩ := u
  unfold wpX_isFilter
  dsimp only
  exact br_f hf.1 (br_f hf.2 H)
theorem qf_arg (p0 : Int32) : qf_bad p0 ∨ ∃ f, f < 2 ∧ p0 = nI f := by
  by_cases h0 : p0 = 0
  · exact Or.inr ⟨0, by omega, h0⟩
  · by_cases h1 : p0 = 1
    · exact Or.inr ⟨1, by omega, h1⟩
    · exact Or.inl ⟨h0, h1⟩
/-- x has the fingerprint p -/
def qf_po (x : Int32) (p : Nat) : Prop := p < 256 ∧ ((x * (-1640531535)).toUInt32 >>> ((24 : Int32).toUInt32 &&& Int32.toUInt32 31)).toInt32 = nI p
theorem qf_po_ex (x : Int32) : ∃ p, qf_po x p := by
  obtain ⟨m, hm, e⟩ : ∃ m, m < 2 ^ 32 ∧ x * (-1640531535) = nI m := ⟨(x * (-1640531535)).toBitVec.toNat, (x * (-1640531535)).toBitVec.isLt, by
    apply Int32.toBitVec_inj.mp
    apply BitVec.eq_of_toNat_eq
    rw [pk_tn (x * (-1640531535)).toBitVec.isLt]⟩
  refine ⟨m / 2 ^ 24, by omega, ?_⟩
  rw [e]
  exact pk_ushrN hm 24 24 (by decide)
theorem qw_printOf {post : Int32 → Prop} {u : St1} {x : Int32} {p : Nat} (h : qf_po x p) (H : post (nI p)) : wpX_printOf post u x := by
  obtain ⟨rc, a1, a2, a3, a4, a5, a6, a7⟩ := u
  unfold wpX_printOf
  dsimp only
  rw [h.2]
  exact H
theorem qf_S_b {B : Nat → Nat} {A : Nat → List Nat} {u : St1} {f : Nat} (h : qf_S B A u) (hf : f < 2) : qf_n (B f) (2 ^ B f) ∧ (A f).length < 2 ^ B f :=
  ⟨⟨(h f hf).2.2.2.1, (h f hf).2.2.2.2.1, rfl⟩, (h f hf).2.2.1⟩
theorem qw_count {post : Int32 → Prop} {B : Nat → Nat} {A : Nat → List Nat} {u : St1} {f : Nat} (hf : f < 2) (h : qf_S B A u) (H : post (nI (A f).length)) : wpX_count post u (nI f) := by
  obtain ⟨rc, a1, a2, a3, a4, a5, a6, a7⟩ := u
  unfold wpX_count
  dsimp only
  refine qw_isF hf (br_f (by decide) ⟨vp_in_nI hf (by decide), ?_⟩)
  have h2 : a2 f = nI (A f).length := (h f hf).2.1
  rw [nI_clamp (by omega), h2]
  exact H
theorem qw_count_bad {post : Int32 → Prop} {u : St1} {p0 : Int32} (hf : qf_bad p0) (H : post (-1)) : wpX_count post u p0 := by
  obtain ⟨rc, a1, a2, a3, a4, a5, a6, a7⟩ := u
  unfold wpX_count
  dsimp only
  exact qw_isF_bad hf (br_t rfl H)
theorem qw_size {post : Int32 → Prop} {B : Nat → Nat} {A : Nat → List Nat} {u : St1} {f : Nat} (hf : f < 2) (h : qf_S B A u) (H : post (nI (2 ^ B f))) : wpX_size post u (nI f) := by
  obtain ⟨rc, a1, a2, a3, a4, a5, a6, a7⟩ := u
  unfold wpX_size
  dsimp only
  exact qw_isF hf (br_f (by decide) (qw_slots hf (qf_S_b h hf).1 (h f hf).1 H))
theorem qw_size_bad {post : Int32 → Prop} {u : St1} {p0 : Int32} (hf : qf_bad p0) (H : post (-1)) : wpX_size post u p0 := by
  obtain ⟨rc, a1, a2, a3, a4, a5, a6, a7⟩ := u
  unfold wpX_size
  dsimp only
  exact qw_isF_bad hf (br_t rfl H)
theorem qw_times {post : Int32 → Prop} {B : Nat → Nat} {A : Nat → List Nat} {u : St1} {f p : Nat} (hf : f < 2) (h : qf_S B A u) (hp : p < 256) (H : post (nI ((A f).count p))) : wpX_times post u (nI f) (nI p) := by
  obtain ⟨rc, a1, a2, a3, a4, a5, a6, a7⟩ := u
  unfold wpX_times
  dsimp only
  refine qw_isF hf (br_f (by decide) (br_f (nI_pos (by omega)) (br_t (nI_le (b := 255) (by omega) (by decide)) ?_)))
  exact qw_timesOf hf (h f hf) hp H
theorem qw_times_bad {post : Int32 → Prop} {u : St1} {p0 p1 : Int32} (hf : qf_bad p0) (H : post (-1)) : wpX_times post u p0 p1 := by
  obtain ⟨rc, a1, a2, a3, a4, a5, a6, a7⟩ := u
  unfold wpX_times
  dsimp only
  exact qw_isF_bad hf (br_t rfl H)
theorem qw_add_bad {post : Int32 → St1 → Prop} {u : St1} {p0 p1 : Int32} (hf : qf_bad p0) (H : post (-1) u) : wpX_add post u p0 p1 := by
  obtain ⟨rc, a1, a2, a3, a4, a5, a6, a7⟩ := u
  unfold wpX_add
  dsimp only
  exact qw_isF_bad hf (br_t rfl H)
theorem qw_add_full {post : Int32 → St1 → Prop} {B : Nat → Nat} {A : Nat → List Nat} {u : St1} {f : Nat} {p1 : Int32} (hf : f < 2) (h : qf_S B A u) (hA : ¬ (A f).length + 1 < 2 ^ B f) (H : post (-2) u) : wpX_add post u (nI f) p1 := by
  obtain ⟨rc, a1, a2, a3, a4, a5, a6, a7⟩ := u
  obtain ⟨hb, hl⟩ := qf_S_b h hf
  have h8 := qf_n8 hb
  have h2 : a2 f = nI (A f).length := (h f hf).2.1
  unfold wpX_add
  dsimp only
  refine qw_isF hf (br_f (by decide) ⟨vp_in_nI hf (by decide), qw_slots hf hb (h f hf).1 ?_⟩)
  rw [nI_clamp (by omega), h2, qf_n1 (by omega)]
  exact br_f (nI_nlt (by omega) (by omega)) H
theorem qw_add {post : Int32 → St1 → Prop} {B : Nat → Nat} {A : Nat → List Nat} {u : St1} {f p : Nat} {p1 : Int32} (hf : f < 2) (h : qf_S B A u) (hp : qf_po p1 p) (hA : (A f).length + 1 < 2 ^ B f)
    (H : ∀ u', qf_S B (qf_uB A f (p :: A f)) u' → post (nI ((A f).count p + 1)) u') : wpX_add post u (nI f) p1 := by
  obtain ⟨rc, a1, a2, a3, a4, a5, a6, a7⟩ := u
  obtain ⟨hb, hl⟩ := qf_S_b h hf
  have h8 := qf_n8 hb
  have h2 : a2 f = nI (A f).length := (h f hf).2.1
  unfold wpX_add
  dsimp only
  refine qw_isF hf (br_f (by decide) ⟨vp_in_nI hf (by decide), qw_slots hf hb (h f hf).1 ?_⟩)
  rw [nI_clamp (by omega), h2, qf_n1 (by omega)]
  refine br_t (nI_lt (by omega) (by omega)) (qw_printOf hp (qw_insert hf (h f hf) hA hp.1 (fun c2 c3 c4 c5 c6 q k2 k3 k4 k5 k6 => ?_)))
  refine qw_timesOf hf q hp.1 ?_
  rw [List.count_cons_self]
  exact H _ (qf_S_upA hf h q ⟨fun _ _ => rfl, k2, k3, k4, k5, k6⟩)
theorem qw_remove_bad {post : Int32 → St1 → Prop} {u : St1} {p0 p1 : Int32} (hf : qf_bad p0) (H : post (-1) u) : wpX_remove post u p0 p1 := by
  obtain ⟨rc, a1, a2, a3, a4, a5, a6, a7⟩ := u
  unfold wpX_remove
  dsimp only
  exact qw_isF_bad hf (br_t rfl H)
theorem qw_remove_none {post : Int32 → St1 → Prop} {B : Nat → Nat} {A : Nat → List Nat} {u : St1} {f p : Nat} {p1 : Int32} (hf : f < 2) (h : qf_S B A u) (hp : qf_po p1 p) (hA : (A f).count p = 0) (H : post (-3) u) : wpX_remove post u (nI f) p1 := by
  obtain ⟨rc, a1, a2, a3, a4, a5, a6, a7⟩ := u
  unfold wpX_remove
  dsimp only
  refine qw_isF hf (br_f (by decide) (qw_printOf hp (qw_timesOf hf (h f hf) hp.1 ?_)))
  rw [hA]
  exact br_t rfl H
theorem qw_remove {post : Int32 → St1 → Prop} {B : Nat → Nat} {A : Nat → List Nat} {u : St1} {f p : Nat} {p1 : Int32} (hf : f < 2) (h : qf_S B A u) (hp : qf_po p1 p) (hA : (A f).count p ≠ 0)
    (H : ∀ u', qf_S B (qf_uB A f ((A f).erase p)) u' → post (nI ((A f).count p - 1)) u') : wpX_remove post u (nI f) p1 := by
  obtain ⟨rc, a1, a2, a3, a4, a5, a6, a7⟩ := u
  obtain ⟨hb, hl⟩ := qf_S_b h hf
  have h8 := qf_n8 hb
  have hc : (A f).count p ≤ (A f).length := List.count_le_length
  unfold wpX_remove
  dsimp only
  refine qw_isF hf (br_f (by decide) (qw_printOf hp (qw_timesOf hf (h f hf) hp.1 ?_)))
  refine br_f (nI_ne0 (by omega) (by omega)) ?_
  refine qw_takeOut hf (h f hf) hp.1 (List.count_pos_iff.mp (by omega)) (fun rc' c2 c3 c4 c5 c6 c7 q F => ?_)
  rw [qf_n1 (by omega)]
  exact H _ (qf_S_upA hf h q F)
theorem qw_grow_bad {post : Int32 → St1 → Prop} {u : St1} {p0 : Int32} (hf : qf_bad p0) (H : post (-1) u) : wpX_grow post u p0 := by
  obtain ⟨rc, a1, a2, a3, a4, a5, a6, a7⟩ := u
  unfold wpX_grow
  dsimp only
  exact qw_isF_bad hf (br_t rfl H)
theorem qw_grow_full {post : Int32 → St1 → Prop} {B : Nat → Nat} {A : Nat → List Nat} {u : St1} {f : Nat} (hf : f < 2) (h : qf_S B A u) (hB : B f = 6) (H : post (-2) u) : wpX_grow post u (nI f) := by
  obtain ⟨rc, a1, a2, a3, a4, a5, a6, a7⟩ := u
  have h1 : a1 f = nI (B f) := (h f hf).1
  unfold wpX_grow
  dsimp only
  refine qw_isF hf (br_f (by decide) ⟨vp_in_nI hf (by decide), ?_⟩)
  rw [nI_clamp (by omega), h1, hB]
  exact br_t rfl H
theorem qw_grow {post : Int32 → St1 → Prop} {B : Nat → Nat} {A : Nat → List Nat} {u : St1} {f : Nat} (hf : f < 2) (h : qf_S B A u) (hB : B f ≠ 6)
    (H : ∀ u', qf_S (qf_uB B f (B f + 1)) A u' → post (nI (2 ^ (B f + 1))) u') : wpX_grow post u (nI f) := by
  obtain ⟨rc, a1, a2, a3, a4, a5, a6, a7⟩ := u
  obtain ⟨hb, hl⟩ := qf_S_b h hf
  have h3 := hb.1
  have h6 := hb.2.1
  have h1 : a1 f = nI (B f) := (h f hf).1
  have hlt : (A f).length < 2 ^ (B f + 1) := by rw [Nat.pow_succ]; omega
  unfold wpX_grow
  dsimp only
  refine qw_isF hf (br_f (by decide) ⟨vp_in_nI hf (by decide), ?_⟩)
  rw [nI_clamp (by omega), h1, nI_1]
  refine br_f (fun w => hB ((nI_eq (b := 6) (by omega) (by decide)).mp w)) ⟨vp_in_nI hf (by decide), ?_⟩
  refine qw_resize hf (h f hf) (by omega) (by omega) hlt (fun rc' c1 c2 c3 c4 c5 c6 c7 q F => ?_)
  exact qw_slots hf ⟨by omega, by omega, rfl⟩ q.1 (H _ (qf_S_upB hf h q F))
theorem qw_shrink_bad {post : Int32 → St1 → Prop} {u : St1} {p0 : Int32} (hf : qf_bad p0) (H : post (-1) u) : wpX_shrink post u p0 := by
  obtain ⟨rc, a1, a2, a3, a4, a5, a6, a7⟩ := u
  unfold wpX_shrink
  dsimp only
  exact qw_isF_bad hf (br_t rfl H)
theorem qf_half {b n : Nat} (hb : qf_n b n) (h3 : b ≠ 3) : n / 2 = 2 ^ (b - 1) ∧ 8 ≤ 2 ^ (b - 1) := by
  obtain ⟨h1, h2, h4⟩ := hb
  have : b = 4 ∨ b = 5 ∨ b = 6 := by omega
  rcases this with e | e | e <;> subst e <;> subst h4 <;> decide
theorem qw_shrink_none {post : Int32 → St1 → Prop} {B : Nat → Nat} {A : Nat → List Nat} {u : St1} {f : Nat} (hf : f < 2) (h : qf_S B A u) (hB : B f = 3 ∨ ¬ (A f).length < 2 ^ (B f - 1)) (H : post (-3) u) : wpX_shrink post u (nI f) := by
  obtain ⟨rc, a1, a2, a3, a4, a5, a6, a7⟩ := u
  obtain ⟨hb, hl⟩ := qf_S_b h hf
  have h3 := hb.1
  have h6 := hb.2.1
  have h8 := qf_n8 hb
  have h1 : a1 f = nI (B f) := (h f hf).1
  have h2 : a2 f = nI (A f).length := (h f hf).2.1
  unfold wpX_shrink
  dsimp only
  refine qw_isF hf (br_f (by decide) ⟨vp_in_nI hf (by decide), ?_⟩)
  rw [nI_clamp (by omega), h1, h2]
  by_cases e : B f = 3
  · exact br_t (by rw [e]; rfl) H
  · obtain ⟨hh, h9⟩ := qf_half hb e
    have hB2 := hB.resolve_left e
    refine br_f (fun w => e ((nI_eq (b := 3) (by omega) (by decide)).mp w)) ⟨vp_in_nI hf (by decide), ?_⟩
    refine qw_slots hf hb h1 ⟨by decide, ?_⟩
    have ed : nI (2 ^ B f) / 2 = nI (2 ^ B f / 2) := pk_div (d := 2) (by omega) (by decide) (by decide)
    rw [ed, hh, qf_n1 (by omega)]
    exact br_f (nI_ge (by omega) (by omega)) H
theorem qw_shrink {post : Int32 → St1 → Prop} {B : Nat → Nat} {A : Nat → List Nat} {u : St1} {f : Nat} (hf : f < 2) (h : qf_S B A u) (hB : B f ≠ 3) (hA : (A f).length < 2 ^ (B f - 1))
    (H : ∀ u', qf_S (qf_uB B f (B f - 1)) A u' → post (nI (2 ^ (B f - 1))) u') : wpX_shrink post u (nI f) := by
  obtain ⟨rc, a1, a2, a3, a4, a5, a6, a7⟩ := u
  obtain ⟨hb, hl⟩ := qf_S_b h hf
  have h3 := hb.1
  have h6 := hb.2.1
  have h8 := qf_n8 hb
  have h1 : a1 f = nI (B f) := (h f hf).1
  have h2 : a2 f = nI (A f).length := (h f hf).2.1
  obtain ⟨hh, h9⟩ := qf_half hb hB
  unfold wpX_shrink
  dsimp only
  refine qw_isF hf (br_f (by decide) ⟨vp_in_nI hf (by decide), ?_⟩)
  rw [nI_clamp (by omega), h1, h2]
  refine br_f (fun w => hB ((nI_eq (b := 3) (by omega) (by decide)).mp w)) ⟨vp_in_nI hf (by decide), ?_⟩
  refine qw_slots hf hb h1 ⟨by decide, ?_⟩
  have ed : nI (2 ^ B f) / 2 = nI (2 ^ B f / 2) := pk_div (d := 2) (by omega) (by decide) (by decide)
  rw [ed, hh, qf_n1 (by omega), qf_n1 (by omega)]
  refine br_t (nI_le (by omega) (by omega)) ⟨vp_in_nI hf (by decide), ?_⟩
  refine qw_resize hf (h f hf) (by omega) (by omega) hA (fun rc' c1 c2 c3 c4 c5 c6 c7 q F => ?_)
  exact qw_slots hf ⟨by omega, by omega, rfl⟩ q.1 (H _ (qf_S_upB hf h q F))
theorem qw_clear_bad {post : Int32 → St1 → Prop} {u : St1} {p0 : Int32} (hf : qf_bad p0) (H : post (-1) u) : wpX_clear post u p0 := by
  obtain ⟨rc, a1, a2, a3, a4, a5, a6, a7⟩ := u
  unfold wpX_clear
  dsimp only
  exact qw_isF_bad hf (br_t rfl H)
theorem qw_clear {post : Int32 → St1 → Prop} {B : Nat → Nat} {A : Nat → List Nat} {u : St1} {f : Nat} (hf : f < 2) (h : qf_S B A u) (H : ∀ u', qf_S B (qf_uB A f []) u' → post (nI (A f).length) u') : wpX_clear post u (nI f) := by
  obtain ⟨rc, a1, a2, a3, a4, a5, a6, a7⟩ := u
  obtain ⟨hb, hl⟩ := qf_S_b h hf
  have h1 : a1 f = nI (B f) := (h f hf).1
  have h2 : a2 f = nI (A f).length := (h f hf).2.1
  unfold wpX_clear
  dsimp only
  refine qw_isF hf (br_f (by decide) ⟨vp_in_nI hf (by decide), nm_e ?_⟩)
  rw [nI_clamp (by omega), h2]
  refine qw_empty hf (fun c4 c5 c6 z4 z5 z6 r4 r5 r6 => ?_)
  exact H _ (qf_S_upA hf h (qf_R_nil h1 pk_us hb.1 hb.2.1 z4 z5 z6) ⟨fun _ _ => rfl, fun g hg => pk_un hg, qf_fr_r f a3, r4, r5, r6⟩)
end
section
/-! pour -/
theorem qw_pour81 {post : Int32 → St1 → Prop} {a1 a7 : Nat → Int32} {f b : Nat} {l A : List Nat} (hf : f < 2) (hl : l.length + A.length < 2 ^ b) (hl64 : l.length < 64) (h256 : ∀ p, p ∈ l → p < 256) (hr : qf_rd a7 l)
    (a2 a3 a4 a5 a6 : Nat → Int32)
    (H : ∀ a2' a3' a4' a5' a6' : Nat → Int32, qf_R f b (l ++ A) a1 a2' a3' a4' a5' a6' → qf_F f a1 a2 a3 a4 a5 a6 a1 a2' a3' a4' a5' a6' → post (nI (l.length + A.length)) (nI l.length, a1, a2', a3', a4', a5', a6', a7)) :
    ∀ d i (c2 c3 c4 c5 c6 : Nat → Int32), i + d = l.length → qf_R f b (l.take i ++ A) a1 c2 c3 c4 c5 c6 → qf_F f a1 a2 a3 a4 a5 a6 a1 c2 c3 c4 c5 c6 →
      wX_pour_81 post (nI f) (d + 1) (nI i) (nI l.length) a1 c2 c3 c4 c5 c6 a7 := by
  intro d
  induction d with
  | zero =>
    intro i c2 c3 c4 c5 c6 e q F
    have e2 : i = l.length := by omega
    subst e2
    rw [List.take_length] at q
    have h2 := q.2.1
    rw [List.length_append] at h2
    rw [wX_pour_81]
    dsimp only
    refine br_t (nI_le (Nat.le_refl _) (by omega)) ⟨vp_in_nI hf (by decide), ?_⟩
    rw [nI_clamp (by omega), h2]
    exact H c2 c3 c4 c5 c6 q F
  | succ d ih =>
    intro i c2 c3 c4 c5 c6 e q F
    have hi : l[i]? = some l[i] := List.getElem?_eq_getElem (by omega)
    have hv : l[i] < 256 := h256 _ (List.getElem_mem _)
    rw [wX_pour_81]
    dsimp only
    refine br_f (nI_ge (by omega) (by omega)) ⟨vp_in_nI (by omega) (by decide), ?_⟩
    rw [nI_clamp (by omega), hr i _ hi]
    refine qw_insert hf q (by rw [List.length_append, List.length_take]; omega) hv (fun e2 e3 e4 e5 e6 q' k2 k3 k4 k5 k6 => nm_r (nI_1 i) ?_)
    exact ih (i + 1) e2 e3 e4 e5 e6 (by omega) (qf_R_perm q' ((qf_take_s hi).append_right A)) (qf_F_t F ⟨fun _ _ => rfl, k2, k3, k4, k5, k6⟩)
theorem qw_pour71 {post : Int32 → St1 → Prop} {B : Nat → Nat} {A : Nat → List Nat} {rc : Int32} {a1 a2 a3 a4 a5 a6 a7 : Nat → Int32} {f : Nat} (hf : f < 2) (h : qf_S B A (rc, a1, a2, a3, a4, a5, a6, a7)) (hT : (A (1 - f)).length + (A f).length < 2 ^ B f)
    (H : ∀ u', qf_S B (qf_uB A f (A (1 - f) ++ A f)) u' → post (nI ((A (1 - f)).length + (A f).length)) u') : wX_pour_71 post (nI f) rc a1 a2 a3 a4 a5 a6 a7 := by
  have hg : 1 - f < 2 := by omega
  obtain ⟨hb, hl⟩ := qf_S_b h hg
  have h8 := qf_n8 hb
  have e1 : 1 - nI f = nI (1 - f) := pk_sub (a := 1) (by omega)
  unfold wX_pour_71
  rw [e1]
  refine qw_readAll hg (h (1 - f) hg) (fun l a7' hp hr => ?_)
  have hR := h f hf
  refine ⟨_, qw_pour81 hf (b := B f) (by rw [hp.length_eq]; exact hT) (by rw [hp.length_eq]; omega) (fun p hq => qf_R_256 (h (1 - f) hg) p (hp.mem_iff.mp hq)) hr a2 a3 a4 a5 a6 (fun c2 c3 c4 c5 c6 q F => ?_) l.length 0 a2 a3 a4 a5 a6 (by omega) hR (qf_F_r f _ _ _ _ _ _)⟩
  rw [hp.length_eq]
  exact H _ (qf_S_upA hf h (qf_R_perm q (hp.append_right _)) F)
theorem qw_pour_bad {post : Int32 → St1 → Prop} {u : St1} {p0 : Int32} (hf : qf_bad p0) (H : post (-1) u) : wpX_pour post u p0 := by
  obtain ⟨rc, a1, a2, a3, a4, a5, a6, a7⟩ := u
  unfold wpX_pour
  dsimp only
  exact qw_isF_bad hf (br_t rfl H)
theorem qf_sum01 {f : Nat} (A : Nat → List Nat) (hf : f < 2) : (A 0).length + (A 1).length = (A (1 - f)).length + (A f).length := by
  rcases qf_f01 hf with e | e <;> subst e
  · exact Nat.add_comm _ _
  · rfl
theorem qw_pour_full {post : Int32 → St1 → Prop} {B : Nat → Nat} {A : Nat → List Nat} {u : St1} {f : Nat} (hf : f < 2) (h : qf_S B A u) (hT : ¬ (A (1 - f)).length + (A f).length ≤ 63) (H : post (-2) u) : wpX_pour post u (nI f) := by
  obtain ⟨rc, a1, a2, a3, a4, a5, a6, a7⟩ := u
  have g0 : a2 0 = nI (A 0).length := (h 0 (by omega)).2.1
  have g1 : a2 1 = nI (A 1).length := (h 1 (by omega)).2.1
  have h80 := qf_n8 (qf_S_b h (f := 0) (by omega)).1
  have h81 := qf_n8 (qf_S_b h (f := 1) (by omega)).1
  have l0 := (qf_S_b h (f := 0) (by omega)).2
  have l1 := (qf_S_b h (f := 1) (by omega)).2
  rw [← qf_sum01 A hf] at hT
  unfold wpX_pour
  dsimp only
  refine qw_isF hf (br_f (by decide) ?_)
  rw [g0, g1, nI_add]
  exact nm_e (br_f (nI_ge (a := 63) (by omega) (by omega)) H)
theorem qw_pour {post : Int32 → St1 → Prop} {B : Nat → Nat} {A : Nat → List Nat} {u : St1} {f b' : Nat} (hf : f < 2) (h : qf_S B A u) (hT : (A (1 - f)).length + (A f).length ≤ 63)
    (hb1 : B f ≤ b') (hb2 : (A (1 - f)).length + (A f).length < 2 ^ b') (hb3 : ∀ c, B f ≤ c → c < b' → 2 ^ c ≤ (A (1 - f)).length + (A f).length)
    (H : ∀ u', qf_S (qf_uB B f b') (qf_uB A f (A (1 - f) ++ A f)) u' → post (nI ((A (1 - f)).length + (A f).length)) u') : wpX_pour post u (nI f) := by
  obtain ⟨rc, a1, a2, a3, a4, a5, a6, a7⟩ := u
  have g0 : a2 0 = nI (A 0).length := (h 0 (by omega)).2.1
  have g1 : a2 1 = nI (A 1).length := (h 1 (by omega)).2.1
  obtain ⟨hb, hl⟩ := qf_S_b h hf
  have h8 := qf_n8 hb
  have h1 : a1 f = nI (B f) := (h f hf).1
  have h36 := hb.1
  have h66 := hb.2.1
  have hb6 : b' ≤ 6 := by
    refine Nat.le_of_not_lt (fun hlt => ?_)
    have := hb3 6 h66 hlt
    omega
  obtain ⟨T, hTe⟩ : ∃ T, T = (A (1 - f)).length + (A f).length := ⟨_, rfl⟩
  have hfit : ∀ c, c < 7 → 0 < 2 ^ c ∧ 2 ^ c ≤ 64 := by decide
  have fin : ∀ (B' : Nat → Nat) (rc' : Int32) (c1 c2 c3 c4 c5 c6 c7 : Nat → Int32), B' = qf_uB B f b' → qf_S B' A (rc', c1, c2, c3, c4, c5, c6, c7) → wX_pour_71 post (nI f) rc' c1 c2 c3 c4 c5 c6 c7 := by
    intro B' rc' c1 c2 c3 c4 c5 c6 c7 eB q
    refine qw_pour71 hf q (by rw [eB, qf_uB_s]; exact hb2) (fun u' q' => H u' ?_)
    rw [eB] at q'
    exact q'
  have loop : ∀ d c, c + d = b' → B f ≤ c → wX_pour_40 post (nI f) (nI T) rc a1 a2 a3 a4 a5 a6 a7 (d + 1) (nI c) := by
    intro d
    induction d with
    | zero =>
      intro c e hc
      have e2 : c = b' := by omega
      subst e2
      have hp := hfit c (by omega)
      rw [wX_pour_40]
      dsimp only
      rw [qf_k_sl c (by omega), qf_n1 (by omega)]
      refine br_t (nI_le (by omega) (by omega)) ⟨vp_in_nI hf (by decide), ?_⟩
      rw [nI_clamp (by omega), h1]
      by_cases e3 : c = B f
      · refine br_t (nI_le (by omega) (by omega)) (fin B _ _ _ _ _ _ _ _ ?_ h)
        rw [e3, qf_uB_id]
      · refine br_f (nI_ge (by omega) (by omega)) ?_
        refine qw_resize hf (h f hf) (by omega) (by omega) (by omega) (fun rc' c1 c2 c3 c4 c5 c6 c7 q F => ?_)
        exact fin _ _ _ _ _ _ _ _ _ rfl (qf_S_upB hf h q F)
    | succ d ih =>
      intro c e hc
      have hp := hfit c (by omega)
      have h3 := hb3 c hc (by omega)
      rw [wX_pour_40]
      dsimp only
      rw [qf_k_sl c (by omega), qf_n1 (by omega)]
      exact br_f (nI_ge (by omega) (by omega)) (nm_r (nI_1 c) (ih (c + 1) (by omega) (by omega)))
  unfold wpX_pour
  dsimp only
  refine qw_isF hf (br_f (by decide) ?_)
  rw [g0, g1, nI_add, qf_sum01 A hf, ← hTe]
  refine nm_e (br_t (nI_le (b := 63) (by omega) (by decide)) ⟨vp_in_nI hf (by decide), ?_⟩)
  rw [nI_clamp (by omega), h1]
  exact nm_e ⟨_, loop (b' - B f) (B f) (by omega) (Nat.le_refl _)⟩
end
section
/-! print: the k-th fingerprint -/
def qf_kt (l : List Nat) (k v : Nat) : Prop := l.countP (fun w => decide (w < v)) ≤ k ∧ k < l.countP (fun w => decide (w < v)) + l.count v
def qf_pk (l : List Nat) (k : Nat) (r : Int32) : Prop := (∃ v, v ∈ l ∧ qf_kt l k v ∧ r = nI v) ∨ (r = -3 ∧ ∀ v, v ∈ l → ¬ qf_kt l k v)
theorem qf_kt_perm {l l' : List Nat} {k v : Nat} (hp : l.Perm l') (h : qf_kt l k v) : qf_kt l' k v := by
  unfold qf_kt at *
  rw [← hp.countP_eq, ← hp.count_eq]
  exact h
theorem qf_pk_perm {l l' : List Nat} {k : Nat} {r : Int32} (hp : l.Perm l') (h : qf_pk l k r) : qf_pk l' k r := by
  rcases h with ⟨v, h1, h2, h3⟩ | ⟨h1, h2⟩
  · exact Or.inl ⟨v, hp.mem_iff.mp h1, qf_kt_perm hp h2, h3⟩
  · exact Or.inr ⟨h1, fun v hv hk => h2 v (hp.mem_iff.mpr hv) (qf_kt_perm hp.symm hk)⟩
theorem qf_kt_le {v v' : Nat} (h : v < v') (l : List Nat) : l.countP (fun w => decide (w < v)) + l.count v ≤ l.countP (fun w => decide (w < v')) := by
  induction l with
  | nil => exact Nat.le_refl _
  | cons a l ih =>
    rw [List.countP_cons, List.countP_cons, List.count_cons]
    by_cases h1 : a < v
    · have h2 : a < v' := by omega
      have h3 : ¬ (a == v) = true := by
        rw [beq_iff_eq]
        omega
      rw [if_pos (decide_eq_true h1), if_pos (decide_eq_true h2), if_neg h3]
      omega
    · rw [if_neg (fun z => h1 (of_decide_eq_true z))]
      by_cases h3 : (a == v) = true
      · have h4 : a = v := by rwa [beq_iff_eq] at h3
        rw [if_pos h3, if_pos (decide_eq_true (by omega))]
        omega
      · rw [if_neg h3]
        omega
theorem qf_kt_u {l : List Nat} {k v v' : Nat} (h : qf_kt l k v) (h' : qf_kt l k v') : v = v' := by
  obtain ⟨h1, h2⟩ := h
  obtain ⟨h3, h4⟩ := h'
  rcases Nat.lt_trichotomy v v' with c | c | c
  · have := qf_kt_le c l
    omega
  · exact c
  · have := qf_kt_le c l
    omega
theorem qf_pk_u {l : List Nat} {k : Nat} {r r' : Int32} (h : qf_pk l k r) (h' : qf_pk l k r') : r = r' := by
  rcases h with ⟨v, h1, h2, h3⟩ | ⟨h1, h2⟩
  · rcases h' with ⟨v', h1', h2', h3'⟩ | ⟨h1', h2'⟩
    · rw [h3, h3', qf_kt_u h2 h2']
    · exact absurd h2 (h2' v h1)
  · rcases h' with ⟨v', h1', h2', h3'⟩ | ⟨h1', h2'⟩
    · exact absurd h2' (h2 v' h1')
    · rw [h1, h1']
theorem qf_take_cP {l : List Nat} {i v : Nat} (q : Nat → Bool) (h : l[i]? = some v) : (l.take (i + 1)).countP q = (l.take i).countP q + (if q v = true then 1 else 0) := by
  rw [List.take_add_one, h, List.countP_append]
  show _ + [v].countP q = _
  rw [List.countP_cons, List.countP_nil, Nat.zero_add]
theorem qf_take_ct {l : List Nat} {i v : Nat} (w : Nat) (h : l[i]? = some v) : (l.take (i + 1)).count w = (l.take i).count w + (if (v == w) = true then 1 else 0) := by
  rw [List.take_add_one, h, List.count_append]
  show _ + [v].count w = _
  rw [List.count_cons, List.count_nil, Nat.zero_add]
theorem qw_p51 {post : Int32 → St1 → Prop} {J34 : Int32 → Prop} {a1 a2 a3 a4 a5 a6 a7 : Nat → Int32} {l : List Nat} {i k v : Nat} (hl : l.length < 64) (hk : k < 64) (h256 : ∀ p, p ∈ l → p < 256) (hr : qf_rd a7 l) (hi : l[i]? = some v)
    (H1 : qf_kt l k v → post (nI v) (nI l.length, a1, a2, a3, a4, a5, a6, a7)) (H2 : ¬ qf_kt l k v → J34 (nI (i + 1))) :
    ∀ d j, j + d = l.length → wX_print_51 post J34 (nI k) (nI i) (nI l.length) a1 a2 a3 a4 a5 a6 a7 (d + 1) (nI ((l.take j).countP (fun w => decide (w < v)))) (nI ((l.take j).count v)) (nI j) := by
  have hil : i < l.length := (List.getElem?_eq_some_iff.mp hi).1
  have hv : v < 256 := h256 v (List.mem_of_getElem? hi)
  have hi64 : vp_in (nI i) 64 := vp_in_nI (by omega) (by decide)
  have cP : ∀ j, (l.take j).countP (fun w => decide (w < v)) ≤ l.length := fun j => Nat.le_trans List.countP_le_length (by rw [List.length_take]; omega)
  have cc : ∀ j, (l.take j).count v ≤ l.length := fun j => Nat.le_trans List.count_le_length (by rw [List.length_take]; omega)
  intro d
  induction d with
  | zero =>
    intro j e
    have e2 : j = l.length := by omega
    subst e2
    have c1 := cP l.length
    have c2 := cc l.length
    rw [List.take_length] at c1 c2
    rw [wX_print_51]
    dsimp only
    rw [List.take_length]
    refine br_t (nI_le (Nat.le_refl _) (by omega)) ?_
    by_cases h1 : k < l.countP (fun w => decide (w < v))
    · exact br_t (nI_lt h1 (by omega)) (nm_r (nI_1 i) (H2 (fun z => by have := z.1; omega)))
    · refine br_f (nI_nlt (by omega) (by omega)) ?_
      rw [nI_add]
      by_cases h2 : l.countP (fun w => decide (w < v)) + l.count v ≤ k
      · exact br_t (nI_le h2 (by omega)) (nm_r (nI_1 i) (H2 (fun z => by have := z.2; omega)))
      · refine br_f (nI_ge (by omega) (by omega)) ⟨hi64, ?_⟩
        rw [nI_clamp (by omega), hr i v hi]
        exact H1 ⟨by omega, by omega⟩
  | succ d ih =>
    intro j e
    have hj : l[j]? = some l[j] := List.getElem?_eq_getElem (by omega)
    have hw : l[j] < 256 := h256 _ (List.getElem_mem _)
    have hj64 : vp_in (nI j) 64 := vp_in_nI (by omega) (by decide)
    have nx := ih (j + 1) (by omega)
    rw [qf_take_cP _ hj, qf_take_ct v hj] at nx
    have tail : ∀ c, c = (l.take j).countP (fun w => decide (w < v)) + (if decide (l[j] < v) = true then 1 else 0) → wX_print_79 post J34 (wX_print_51 post J34 (nI k) (nI i) (nI l.length) a1 a2 a3 a4 a5 a6 a7 (d + 1)) (nI k) (nI i) (nI c) (nI ((l.take j).count v)) (nI j) (nI l.length) a1 a2 a3 a4 a5 a6 a7 := by
      intro c hc
      rw [← hc] at nx
      unfold wX_print_79
      rw [nI_clamp (show j < 2 ^ 31 by omega), nI_clamp (show i < 2 ^ 31 by omega), hr i v hi, hr j _ hj]
      refine ⟨hj64, hi64, br_c (fun z => ?_) (fun z => ?_)⟩
      · have e3 : l[j] = v := (nI_eq (by omega) (by omega)).mp z
        rw [if_pos (by rw [e3]; exact beq_self_eq_true v)] at nx
        exact nm_r (nI_1 _) (nm_r (nI_1 j) nx)
      · have e3 : ¬ (l[j] == v) = true := by
          rw [beq_iff_eq]
          exact fun y => z (by rw [y])
        rw [if_neg e3] at nx
        exact nm_r (nI_1 j) nx
    rw [wX_print_51]
    dsimp only
    rw [nI_clamp (show j < 2 ^ 31 by omega), nI_clamp (show i < 2 ^ 31 by omega), hr i v hi, hr j _ hj]
    refine br_f (nI_ge (by omega) (by omega)) ⟨hj64, hi64, ?_⟩
    by_cases h1 : l[j] < v
    · refine br_f (nI_ge h1 (by omega)) (nm_r (nI_1 _) (tail _ ?_))
      rw [if_pos (decide_eq_true h1)]
    · refine br_t (nI_le (by omega) (by omega)) (tail _ ?_)
      rw [if_neg (fun z => h1 (of_decide_eq_true z))]
      rfl
theorem qw_p34 {post : Int32 → St1 → Prop} {a1 a2 a3 a4 a5 a6 a7 : Nat → Int32} {l : List Nat} {k : Nat} (hl : l.length < 64) (hk : k < 64) (h256 : ∀ p, p ∈ l → p < 256) (hr : qf_rd a7 l)
    (H : ∀ r, qf_pk l k r → post r (nI l.length, a1, a2, a3, a4, a5, a6, a7)) :
    ∀ d i, i + d = l.length → (∀ t v, t < i → l[t]? = some v → ¬ qf_kt l k v) → wX_print_34 post (nI k) (nI l.length) a1 a2 a3 a4 a5 a6 a7 (d + 1) (nI i) := by
  intro d
  induction d with
  | zero =>
    intro i e hno
    have e2 : i = l.length := by omega
    subst e2
    rw [wX_print_34]
    dsimp only
    refine br_t (nI_le (Nat.le_refl _) (by omega)) (H _ (Or.inr ⟨rfl, fun v hv => ?_⟩))
    obtain ⟨t, ht⟩ := List.mem_iff_getElem?.mp hv
    exact hno t v (List.getElem?_eq_some_iff.mp ht).1 ht
  | succ d ih =>
    intro i e hno
    have hi : l[i]? = some l[i] := List.getElem?_eq_getElem (by omega)
    rw [wX_print_34]
    dsimp only
    refine br_f (nI_ge (by omega) (by omega)) ⟨_, qw_p51 hl hk h256 hr hi (fun z => H _ (Or.inl ⟨_, List.getElem_mem _, z, rfl⟩)) (fun z => ih (i + 1) (by omega) (fun t v t1 t2 => ?_)) l.length 0 (by omega)⟩
    by_cases e2 : t = i
    · subst e2
      rw [hi] at t2
      rw [← Option.some.inj t2]
      exact z
    · exact hno t v (by omega) t2
theorem qw_print {post : Int32 → St1 → Prop} {B : Nat → Nat} {A : Nat → List Nat} {u : St1} {f k : Nat} (hf : f < 2) (h : qf_S B A u) (hk : k < (A f).length)
    (H : ∀ r u', qf_S B A u' → qf_pk (A f) k r → post r u') : wpX_print post u (nI f) (nI k) := by
  obtain ⟨rc, a1, a2, a3, a4, a5, a6, a7⟩ := u
  obtain ⟨hb, hl⟩ := qf_S_b h hf
  have h8 := qf_n8 hb
  have h2 : a2 f = nI (A f).length := (h f hf).2.1
  unfold wpX_print
  dsimp only
  refine qw_isF hf (br_f (by decide) (br_f (nI_pos (by omega)) ⟨vp_in_nI hf (by decide), ?_⟩))
  rw [nI_clamp (by omega), h2]
  refine br_t (nI_lt hk (by omega)) (qw_readAll hf (h f hf) (fun l a7' hp hr => ?_))
  refine ⟨_, qw_p34 (by rw [hp.length_eq]; omega) (by omega) (fun p hq => qf_R_256 (h f hf) p (hp.mem_iff.mp hq)) hr (fun r q => H r _ h (qf_pk_perm hp q)) l.length 0 (by omega) (fun t v t1 => absurd t1 (by omega))⟩
end
section
/-! aside: calls that leave the picture as it was -/
theorem qf_S_back {B : Nat → Nat} {A : Nat → List Nat} {u : St1} {f : Nat} {X : List Nat} (h : qf_S B (qf_uB A f X) u) (hp : X.Perm (A f)) : qf_S B A u := by
  have t := qf_S_perm (f := f) (A' := A f) h (by rw [qf_uB_s]; exact hp)
  rwa [qf_uB_uB, qf_uB_id] at t
theorem qw_a178 {post : Int32 → St1 → Prop} {B : Nat → Nat} {A : Nat → List Nat} {rc : Int32} {a1 a2 a3 a4 a5 a6 a7 : Nat → Int32} {f p : Nat} (hf : f < 2) (hp : p < 256) (h : qf_S B A (rc, a1, a2, a3, a4, a5, a6, a7))
    (H : ∀ u', qf_S B A u' → post 1 u') : wL_aside_178 post (nI f) (nI (A f).length) (nI p) (nI ((A f).count p)) rc a1 a2 a3 a4 a5 a6 a7 := by
  unfold wL_aside_178
  exact qw_count hf h (br_t rfl (qw_times hf h hp (br_t rfl (H _ h))))
theorem qw_a145 {post : Int32 → St1 → Prop} {B : Nat → Nat} {A : Nat → List Nat} {rc : Int32} {a1 a2 a3 a4 a5 a6 a7 : Nat → Int32} {f p : Nat} (hf : f < 2) (hp : p < 256) (h : qf_S B A (rc, a1, a2, a3, a4, a5, a6, a7))
    (H : ∀ u', qf_S B A u' → post 1 u') : wL_aside_145 post (nI f) (nI (A f).length) (nI p) (nI ((A f).count p)) (nI (2 ^ B f)) rc a1 a2 a3 a4 a5 a6 a7 := by
  obtain ⟨hb, hl⟩ := qf_S_b h hf
  have h3 := hb.1
  have h6 := hb.2.1
  unfold wL_aside_145
  by_cases e : B f = 6
  · exact qw_grow_full hf h e (br_t (by decide) (qw_a178 hf hp h H))
  · refine qw_grow hf h e (fun u' q => ?_)
    obtain ⟨rc', c1, c2, c3, c4, c5, c6, c7⟩ := u'
    dsimp only
    have h8 : 0 < 2 ^ (B f + 1) ∧ 2 ^ (B f + 1) < 2 ^ 31 := by
      have : B f = 3 ∨ B f = 4 ∨ B f = 5 := by omega
      rcases this with e | e | e <;> rw [e] <;> decide
    refine br_f (nI_nle h8.1 h8.2) (qw_count hf q (br_t rfl ?_))
    refine qw_shrink hf q (by rw [qf_uB_s]; omega) (by rw [qf_uB_s, Nat.add_sub_cancel]; exact hl) (fun v' q' => ?_)
    obtain ⟨rc'', d1, d2, d3, d4, d5, d6, d7⟩ := v'
    dsimp only
    rw [qf_uB_s, Nat.add_sub_cancel] at q' ⊢
    rw [qf_uB_uB, qf_uB_id] at q'
    exact br_t rfl (qw_a178 hf hp q' H)
theorem qw_a103 {post : Int32 → St1 → Prop} {B : Nat → Nat} {A : Nat → List Nat} {rc : Int32} {a1 a2 a3 a4 a5 a6 a7 : Nat → Int32} {f p : Nat} {x2 : Int32} (hf : f < 2) (hp : qf_po x2 p) (h : qf_S B A (rc, a1, a2, a3, a4, a5, a6, a7))
    (H : ∀ u', qf_S B A u' → post 1 u') : wL_aside_103 post (nI f) x2 (nI (A f).length) (nI p) (nI ((A f).count p)) (nI (2 ^ B f)) rc a1 a2 a3 a4 a5 a6 a7 := by
  obtain ⟨hb, hl⟩ := qf_S_b h hf
  have h8 := qf_n8 hb
  have hc : (A f).count p ≤ (A f).length := List.count_le_length
  unfold wL_aside_103
  by_cases e : (A f).count p = 0
  · exact br_t (by rw [e]; decide) (qw_a145 hf hp.1 h H)
  · have hmem : p ∈ A f := List.count_pos_iff.mp (by omega)
    have hel : ((A f).erase p).length = (A f).length - 1 := List.length_erase_of_mem hmem
    have hec : ((A f).erase p).count p = (A f).count p - 1 := List.count_erase_self
    refine br_f (nI_nle (by omega) (by omega)) (qw_remove hf h hp e (fun u' q => ?_))
    obtain ⟨rc', c1, c2, c3, c4, c5, c6, c7⟩ := u'
    dsimp only
    refine br_t (by rw [qf_n1 (by omega)]) (qw_count hf q (br_t (by rw [qf_uB_s, hel, qf_n1 (by omega)]) ?_))
    refine qw_add hf q hp (by rw [qf_uB_s, hel]; omega) (fun v' q' => ?_)
    obtain ⟨rc'', d1, d2, d3, d4, d5, d6, d7⟩ := v'
    dsimp only
    rw [qf_uB_s, qf_uB_uB] at q'
    have q2 := qf_S_back q' (List.perm_cons_erase hmem).symm
    refine br_t ?_ (qw_a145 hf hp.1 q2 H)
    rw [qf_uB_s, hec, show (A f).count p - 1 + 1 = (A f).count p by omega]
theorem qw_a43 {post : Int32 → St1 → Prop} {B : Nat → Nat} {A : Nat → List Nat} {rc : Int32} {a1 a2 a3 a4 a5 a6 a7 : Nat → Int32} {f p : Nat} {x2 : Int32} (hf : f < 2) (hp : qf_po x2 p) (h : qf_S B A (rc, a1, a2, a3, a4, a5, a6, a7))
    (H : ∀ u', qf_S B A u' → post 1 u') : wL_aside_43 post (nI f) x2 (nI (A f).length) (nI p) (nI ((A f).count p)) (nI (2 ^ B f)) 1 rc a1 a2 a3 a4 a5 a6 a7 := by
  obtain ⟨hb, hl⟩ := qf_S_b h hf
  have h8 := qf_n8 hb
  have hc : (A f).count p ≤ (A f).length := List.count_le_length
  unfold wL_aside_43
  by_cases e : (A f).length + 1 < 2 ^ B f
  · refine qw_add hf h hp e (fun u' q => ?_)
    obtain ⟨rc', c1, c2, c3, c4, c5, c6, c7⟩ := u'
    dsimp only
    refine br_f (nI_nle (by omega) (by omega)) (br_t (nI_1 _).symm ?_)
    refine qw_remove hf q hp (by rw [qf_uB_s, List.count_cons_self]; omega) (fun v' q' => ?_)
    obtain ⟨rc'', d1, d2, d3, d4, d5, d6, d7⟩ := v'
    dsimp only
    rw [qf_uB_s, qf_uB_uB, List.erase_cons_head, qf_uB_id] at q'
    refine br_t (by rw [qf_uB_s, List.count_cons_self, Nat.add_sub_cancel]) ?_
    unfold wL_aside_80
    exact br_t (nI_lt (a := 0) (by omega) (by omega)) (qw_a103 hf hp q' H)
  · refine qw_add_full hf h e (br_t (by decide) ?_)
    unfold wL_aside_80
    refine br_f (by decide) (br_f (by decide) ?_)
    unfold wL_aside_98
    exact br_t rfl (qw_a103 hf hp h H)
theorem qw_aside {post : Int32 → St1 → Prop} {B : Nat → Nat} {A : Nat → List Nat} {u : St1} (p1 p2 : Int32) (h : qf_S B A u) (H : ∀ u', qf_S B A u' → post 1 u') : wpL_aside post u p1 p2 := by
  obtain ⟨rc, a1, a2, a3, a4, a5, a6, a7⟩ := u
  obtain ⟨p, hp⟩ := qf_po_ex p2
  unfold wpL_aside
  dsimp only
  rcases qf_arg p1 with hbad | ⟨f, hf, e⟩
  · refine qw_count_bad hbad (qw_printOf hp (qw_times_bad hbad (qw_size_bad hbad (br_f hbad.1 (br_f hbad.2 ?_)))))
    unfold wL_aside_43
    refine qw_add_bad hbad (br_t (by decide) ?_)
    unfold wL_aside_80
    refine br_f (by decide) (br_t rfl ?_)
    unfold wL_aside_98
    refine br_t rfl ?_
    unfold wL_aside_103
    refine br_t (by decide) ?_
    unfold wL_aside_145
    refine qw_grow_bad hbad (br_t (by decide) ?_)
    unfold wL_aside_178
    exact qw_count_bad hbad (br_t rfl (qw_times_bad hbad (br_t rfl (H _ h))))
  · subst e
    have t := qw_a43 hf hp h H
    refine qw_count hf h (qw_printOf hp (qw_times hf h hp.1 (qw_size hf h ?_)))
    rcases qf_f01 hf with e | e
    · subst e
      refine br_t rfl ?_
      unfold wL_aside_38
      exact t
    · subst e
      refine br_f (by decide) (br_t rfl ?_)
      unfold wL_aside_38
      exact t
end
section
/-! same: two states of one picture -/
theorem qw_same40 {post : Int32 → St2 → Prop} {J2 : Int32 → Int32 → (Nat → Int32) → (Nat → Int32) → (Nat → Int32) → (Nat → Int32) → (Nat → Int32) → (Nat → Int32) → (Nat → Int32) → Int32 → (Nat → Int32) → (Nat → Int32) → (Nat → Int32) → (Nat → Int32) → (Nat → Int32) → (Nat → Int32) → (Nat → Int32) → Prop}
    {B : Nat → Nat} {A : Nat → List Nat} {f : Nat} (hf : f < 2)
    (HJ : ∀ (rc : Int32) (a1 a2 a3 a4 a5 a6 a7 : Nat → Int32) (sc : Int32) (b1 b2 b3 b4 b5 b6 b7 : Nat → Int32), qf_S B A (rc, a1, a2, a3, a4, a5, a6, a7) → qf_S B A (sc, b1, b2, b3, b4, b5, b6, b7) → J2 (nI (f + 1)) rc a1 a2 a3 a4 a5 a6 a7 sc b1 b2 b3 b4 b5 b6 b7) :
    ∀ d k (rc : Int32) (a1 a2 a3 a4 a5 a6 a7 : Nat → Int32) (sc : Int32) (b1 b2 b3 b4 b5 b6 b7 : Nat → Int32), k + d = (A f).length → qf_S B A (rc, a1, a2, a3, a4, a5, a6, a7) → qf_S B A (sc, b1, b2, b3, b4, b5, b6, b7) →
      wL_same_40 post J2 (nI f) (nI (A f).length) (d + 1) (nI k) rc a1 a2 a3 a4 a5 a6 a7 sc b1 b2 b3 b4 b5 b6 b7 := by
  intro d
  induction d with
  | zero =>
    intro k rc a1 a2 a3 a4 a5 a6 a7 sc b1 b2 b3 b4 b5 b6 b7 e hx hy
    obtain ⟨hb, hl⟩ := qf_S_b hx hf
    have h8 := qf_n8 hb
    rw [wL_same_40]
    dsimp only
    exact br_t (nI_le (by omega) (by omega)) (nm_r (nI_1 f) (HJ _ _ _ _ _ _ _ _ _ _ _ _ _ _ _ _ hx hy))
  | succ d ih =>
    intro k rc a1 a2 a3 a4 a5 a6 a7 sc b1 b2 b3 b4 b5 b6 b7 e hx hy
    obtain ⟨hb, hl⟩ := qf_S_b hx hf
    have h8 := qf_n8 hb
    rw [wL_same_40]
    dsimp only
    refine br_f (nI_ge (by omega) (by omega)) (qw_print hf hx (by omega) (fun r u' qx kx => ?_))
    obtain ⟨rc', c1, c2, c3, c4, c5, c6, c7⟩ := u'
    dsimp only
    refine qw_print hf hy (by omega) (fun r' v' qy ky => ?_)
    obtain ⟨sc', d1, d2, d3, d4, d5, d6, d7⟩ := v'
    dsimp only
    exact br_t (qf_pk_u kx ky) (nm_r (nI_1 k) (ih (k + 1) _ _ _ _ _ _ _ _ _ _ _ _ _ _ _ _ (by omega) qx qy))
theorem qw_same2 {post : Int32 → St2 → Prop} {B : Nat → Nat} {A : Nat → List Nat}
    (H : ∀ (rc : Int32) (a1 a2 a3 a4 a5 a6 a7 : Nat → Int32) (sc : Int32) (b1 b2 b3 b4 b5 b6 b7 : Nat → Int32), qf_S B A (rc, a1, a2, a3, a4, a5, a6, a7) → qf_S B A (sc, b1, b2, b3, b4, b5, b6, b7) → post 1 (rc, a1, a2, a3, a4, a5, a6, a7, sc, b1, b2, b3, b4, b5, b6, b7)) :
    ∀ d f (rc : Int32) (a1 a2 a3 a4 a5 a6 a7 : Nat → Int32) (sc : Int32) (b1 b2 b3 b4 b5 b6 b7 : Nat → Int32), f + d = 2 → qf_S B A (rc, a1, a2, a3, a4, a5, a6, a7) → qf_S B A (sc, b1, b2, b3, b4, b5, b6, b7) →
      wL_same_2 post (d + 1) (nI f) rc a1 a2 a3 a4 a5 a6 a7 sc b1 b2 b3 b4 b5 b6 b7 := by
  intro d
  induction d with
  | zero =>
    intro f rc a1 a2 a3 a4 a5 a6 a7 sc b1 b2 b3 b4 b5 b6 b7 e hx hy
    have e2 : f = 2 := by omega
    subst e2
    rw [wL_same_2]
    dsimp only
    exact br_t (by decide) (H _ _ _ _ _ _ _ _ _ _ _ _ _ _ _ _ hx hy)
  | succ d ih =>
    intro f rc a1 a2 a3 a4 a5 a6 a7 sc b1 b2 b3 b4 b5 b6 b7 e hx hy
    have hf : f < 2 := by omega
    rw [wL_same_2]
    dsimp only
    refine br_f (nI_ge (b := 2) (by omega) (by decide)) (qw_count hf hx (qw_count hf hy (br_t rfl (qw_size hf hx (qw_size hf hy (br_t rfl ?_))))))
    exact ⟨_, qw_same40 hf (fun rc a1 a2 a3 a4 a5 a6 a7 sc b1 b2 b3 b4 b5 b6 b7 qx qy => ih (f + 1) rc a1 a2 a3 a4 a5 a6 a7 sc b1 b2 b3 b4 b5 b6 b7 (by omega) qx qy) (A f).length 0 _ _ _ _ _ _ _ _ _ _ _ _ _ _ _ _ (by omega) hx hy⟩
theorem qw_same {post : Int32 → St2 → Prop} {B : Nat → Nat} {A : Nat → List Nat} {rc : Int32} {a1 a2 a3 a4 a5 a6 a7 : Nat → Int32} {sc : Int32} {b1 b2 b3 b4 b5 b6 b7 : Nat → Int32} (hx : qf_S B A (rc, a1, a2, a3, a4, a5, a6, a7)) (hy : qf_S B A (sc, b1, b2, b3, b4, b5, b6, b7))
    (H : ∀ (rc : Int32) (a1 a2 a3 a4 a5 a6 a7 : Nat → Int32) (sc : Int32) (b1 b2 b3 b4 b5 b6 b7 : Nat → Int32), qf_S B A (rc, a1, a2, a3, a4, a5, a6, a7) → qf_S B A (sc, b1, b2, b3, b4, b5, b6, b7) → post 1 (rc, a1, a2, a3, a4, a5, a6, a7, sc, b1, b2, b3, b4, b5, b6, b7)) :
    wpL_same post (rc, a1, a2, a3, a4, a5, a6, a7, sc, b1, b2, b3, b4, b5, b6, b7) := by
  unfold wpL_same
  dsimp only
  exact ⟨_, qw_same2 H 2 0 _ _ _ _ _ _ _ _ _ _ _ _ _ _ _ _ (by omega) hx hy⟩
/-- a call whose answer and new picture follow from the picture -/
def qf_dt (W : (Int32 → St1 → Prop) → St1 → Prop) (B : Nat → Nat) (A : Nat → List Nat) : Prop :=
  ∃ (r : Int32) (B' : Nat → Nat) (A' : Nat → List Nat), ∀ (post : Int32 → St1 → Prop) (u : St1), qf_S B A u → (∀ u', qf_S B' A' u' → post r u') → W post u
theorem qf_dt_add (B : Nat → Nat) (A : Nat → List Nat) (p0 p1 : Int32) : qf_dt (fun post u => wpX_add post u p0 p1) B A := by
  obtain ⟨p, hp⟩ := qf_po_ex p1
  rcases qf_arg p0 with hbad | ⟨f, hf, e⟩
  · exact ⟨-1, B, A, fun post u h H => qw_add_bad hbad (H _ h)⟩
  · subst e
    by_cases c : (A f).length + 1 < 2 ^ B f
    · exact ⟨_, _, _, fun post u h H => qw_add hf h hp c H⟩
    · exact ⟨-2, B, A, fun post u h H => qw_add_full hf h c (H _ h)⟩
theorem qf_dt_remove (B : Nat → Nat) (A : Nat → List Nat) (p0 p1 : Int32) : qf_dt (fun post u => wpX_remove post u p0 p1) B A := by
  obtain ⟨p, hp⟩ := qf_po_ex p1
  rcases qf_arg p0 with hbad | ⟨f, hf, e⟩
  · exact ⟨-1, B, A, fun post u h H => qw_remove_bad hbad (H _ h)⟩
  · subst e
    by_cases c : (A f).count p = 0
    · exact ⟨-3, B, A, fun post u h H => qw_remove_none hf h hp c (H _ h)⟩
    · exact ⟨_, _, _, fun post u h H => qw_remove hf h hp c H⟩
theorem qf_dt_grow (B : Nat → Nat) (A : Nat → List Nat) (p0 : Int32) : qf_dt (fun post u => wpX_grow post u p0) B A := by
  rcases qf_arg p0 with hbad | ⟨f, hf, e⟩
  · exact ⟨-1, B, A, fun post u h H => qw_grow_bad hbad (H _ h)⟩
  · subst e
    by_cases c : B f = 6
    · exact ⟨-2, B, A, fun post u h H => qw_grow_full hf h c (H _ h)⟩
    · exact ⟨_, _, _, fun post u h H => qw_grow hf h c H⟩
theorem qf_dt_shrink (B : Nat → Nat) (A : Nat → List Nat) (p0 : Int32) : qf_dt (fun post u => wpX_shrink post u p0) B A := by
  rcases qf_arg p0 with hbad | ⟨f, hf, e⟩
  · exact ⟨-1, B, A, fun post u h H => qw_shrink_bad hbad (H _ h)⟩
  · subst e
    by_cases c : B f = 3 ∨ ¬ (A f).length < 2 ^ (B f - 1)
    · exact ⟨-3, B, A, fun post u h H => qw_shrink_none hf h c (H _ h)⟩
    · exact ⟨_, _, _, fun post u h H => qw_shrink hf h (fun z => c (Or.inl z)) (Classical.byContradiction (fun z => c (Or.inr z))) H⟩
theorem qf_dt_clear (B : Nat → Nat) (A : Nat → List Nat) (p0 : Int32) : qf_dt (fun post u => wpX_clear post u p0) B A := by
  rcases qf_arg p0 with hbad | ⟨f, hf, e⟩
  · exact ⟨-1, B, A, fun post u h H => qw_clear_bad hbad (H _ h)⟩
  · subst e
    exact ⟨_, _, _, fun post u h H => qw_clear hf h H⟩
theorem qf_dt_pour (B : Nat → Nat) (A : Nat → List Nat) (p0 : Int32) : qf_dt (fun post u => wpX_pour post u p0) B A := by
  rcases qf_arg p0 with hbad | ⟨f, hf, e⟩
  · exact ⟨-1, B, A, fun post u h H => qw_pour_bad hbad (H _ h)⟩
  · subst e
    by_cases c : (A (1 - f)).length + (A f).length ≤ 63
    · obtain ⟨k, k1, k2⟩ := pk_least (fun k => (A (1 - f)).length + (A f).length < 2 ^ (B f + k)) ⟨6, by rw [Nat.pow_add]; have := Nat.two_pow_pos (B f); omega⟩
      refine ⟨_, _, _, fun post u h H => qw_pour (b' := B f + k) hf h c (by omega) k1 (fun d d1 d2 => ?_) H⟩
      have := k2 (d - B f) (by omega)
      rw [show B f + (d - B f) = d by omega] at this
      omega
    · exact ⟨-2, B, A, fun post u h H => qw_pour_full hf h c (H _ h)⟩
end
section
/-! the law -/
def qf_X (rc : Int32) (a1 a2 a3 a4 a5 a6 a7 : Nat → Int32) (sc : Int32) (b1 b2 b3 b4 b5 b6 b7 : Nat → Int32) : Prop :=
  ∃ (B : Nat → Nat) (A : Nat → List Nat), qf_S B A (rc, a1, a2, a3, a4, a5, a6, a7) ∧ qf_S B A (sc, b1, b2, b3, b4, b5, b6, b7)
theorem qw_419 {post : Int32 → Prop} {L : Nat} {xs : Nat → Int32} {J18 : Int32 → Int32 → (Nat → Int32) → (Nat → Int32) → (Nat → Int32) → (Nat → Int32) → (Nat → Int32) → (Nat → Int32) → (Nat → Int32) → Int32 → (Nat → Int32) → (Nat → Int32) → (Nat → Int32) → (Nat → Int32) → (Nat → Int32) → (Nat → Int32) → (Nat → Int32) → Prop}
    {i kc ks : Nat} {B : Nat → Nat} {A : Nat → List Nat} {rc : Int32} {a1 a2 a3 a4 a5 a6 a7 : Nat → Int32} {sc : Int32} {b1 b2 b3 b4 b5 b6 b7 : Nat → Int32}
    (HJ : ∀ (rc : Int32) (a1 a2 a3 a4 a5 a6 a7 : Nat → Int32) (sc : Int32) (b1 b2 b3 b4 b5 b6 b7 : Nat → Int32), qf_X rc a1 a2 a3 a4 a5 a6 a7 sc b1 b2 b3 b4 b5 b6 b7 → J18 (nI (i + 3)) rc a1 a2 a3 a4 a5 a6 a7 sc b1 b2 b3 b4 b5 b6 b7)
    (hx : qf_S B A (rc, a1, a2, a3, a4, a5, a6, a7)) (hy : qf_S B A (sc, b1, b2, b3, b4, b5, b6, b7)) :
    wL_law_419 post L xs J18 (nI i) 1 kc ks rc a1 a2 a3 a4 a5 a6 a7 sc b1 b2 b3 b4 b5 b6 b7 := by
  unfold wL_law_419
  refine br_f (by decide) (qw_same hx hy (fun rc a1 a2 a3 a4 a5 a6 a7 sc b1 b2 b3 b4 b5 b6 b7 qx qy => ?_))
  dsimp only
  exact br_f (by decide) (nm_r (nI_add i 3) (HJ _ _ _ _ _ _ _ _ _ _ _ _ _ _ _ _ ⟨B, A, qx, qy⟩))
theorem qw_382 {post : Int32 → Prop} {L : Nat} {xs : Nat → Int32} {J18 : Int32 → Int32 → (Nat → Int32) → (Nat → Int32) → (Nat → Int32) → (Nat → Int32) → (Nat → Int32) → (Nat → Int32) → (Nat → Int32) → Int32 → (Nat → Int32) → (Nat → Int32) → (Nat → Int32) → (Nat → Int32) → (Nat → Int32) → (Nat → Int32) → (Nat → Int32) → Prop}
    {i kc ks : Nat} {x5 x6 : Int32} {B : Nat → Nat} {A : Nat → List Nat} {rc : Int32} {a1 a2 a3 a4 a5 a6 a7 : Nat → Int32} {sc : Int32} {b1 b2 b3 b4 b5 b6 b7 : Nat → Int32}
    (HJ : ∀ (rc : Int32) (a1 a2 a3 a4 a5 a6 a7 : Nat → Int32) (sc : Int32) (b1 b2 b3 b4 b5 b6 b7 : Nat → Int32), qf_X rc a1 a2 a3 a4 a5 a6 a7 sc b1 b2 b3 b4 b5 b6 b7 → J18 (nI (i + 3)) rc a1 a2 a3 a4 a5 a6 a7 sc b1 b2 b3 b4 b5 b6 b7)
    (hx : qf_S B A (rc, a1, a2, a3, a4, a5, a6, a7)) (hy : qf_S B A (sc, b1, b2, b3, b4, b5, b6, b7)) :
    ((x5 &&& 16) = 0 → wL_law_382 post L xs J18 (nI i) x5 x6 x5 x6 kc ks rc a1 a2 a3 a4 a5 a6 a7 sc b1 b2 b3 b4 b5 b6 b7) ∧ (¬ (x5 &&& 16) = 0 → wL_law_382 post L xs J18 (nI i) x5 x6 (x5 &&& 15) x6 kc ks rc a1 a2 a3 a4 a5 a6 a7 sc b1 b2 b3 b4 b5 b6 b7) := by
  refine br_c (fun z => ?_) (fun z => ?_)
  · obtain ⟨r, B', A', hd⟩ := qf_dt_add B A x6 x5
    unfold wL_law_382
    refine hd _ _ hx (fun u' qx => ?_)
    obtain ⟨rc', c1, c2, c3, c4, c5, c6, c7⟩ := u'
    dsimp only
    refine br_t z ?_
    unfold wL_law_406
    refine hd _ _ hy (fun v' qy => ?_)
    obtain ⟨sc', d1, d2, d3, d4, d5, d6, d7⟩ := v'
    dsimp only
    refine br_t rfl ?_
    unfold wL_law_417
    exact qw_419 HJ qx qy
  · obtain ⟨r, B', A', hd⟩ := qf_dt_add B A x6 (x5 &&& 15)
    unfold wL_law_382
    refine hd _ _ hx (fun u' qx => ?_)
    obtain ⟨rc', c1, c2, c3, c4, c5, c6, c7⟩ := u'
    dsimp only
    refine br_f z ?_
    unfold wL_law_406
    refine hd _ _ hy (fun v' qy => ?_)
    obtain ⟨sc', d1, d2, d3, d4, d5, d6, d7⟩ := v'
    dsimp only
    refine br_t rfl ?_
    unfold wL_law_417
    exact qw_419 HJ qx qy
theorem qf_cnt {L i : Nat} (hL : L ≤ 260) (hi : i ≤ 300) : (Int32.ofNat L - 3 < nI i) ↔ L < i + 3 := by
  have e : (nI L - nI 3).toInt = (L : Int) - (3 : Nat) := pk_sub_toInt (by omega) (by omega)
  have e2 : (nI i).toInt = (i : Int) := nI_toInt (by omega)
  rw [Int32.lt_iff_toInt_lt]
  show (nI L - nI 3).toInt < _ ↔ _
  rw [e, e2]
  omega
theorem qw_18 {L : Nat} {xs : Nat → Int32} {kc ks : Nat} (hL : L ≤ 260) :
    ∀ d i (rc : Int32) (a1 a2 a3 a4 a5 a6 a7 : Nat → Int32) (sc : Int32) (b1 b2 b3 b4 b5 b6 b7 : Nat → Int32), L < i + d → i ≤ 280 → qf_X rc a1 a2 a3 a4 a5 a6 a7 sc b1 b2 b3 b4 b5 b6 b7 →
      wL_law_18 (fun r => r = 1) L xs kc ks (d + 1) (nI i) rc a1 a2 a3 a4 a5 a6 a7 sc b1 b2 b3 b4 b5 b6 b7 := by
  intro d
  induction d with
  | zero =>
    intro i rc a1 a2 a3 a4 a5 a6 a7 sc b1 b2 b3 b4 b5 b6 b7 hd hi hX
    obtain ⟨B, A, hx, hy⟩ := hX
    rw [wL_law_18]
    dsimp only
    refine br_t ((qf_cnt hL (by omega)).mpr (by omega)) ?_
    obtain ⟨r, B', A', hd⟩ := qf_dt_pour B A 0
    refine hd _ _ hx (fun u' qx => ?_)
    obtain ⟨rc', c1, c2, c3, c4, c5, c6, c7⟩ := u'
    dsimp only
    refine hd _ _ hy (fun v' qy => ?_)
    obtain ⟨sc', d1, d2, d3, d4, d5, d6, d7⟩ := v'
    dsimp only
    refine br_t rfl (qw_same qx qy (fun rc a1 a2 a3 a4 a5 a6 a7 sc b1 b2 b3 b4 b5 b6 b7 _ _ => ?_))
    exact br_f (by decide) rfl
  | succ d ih =>
    intro i rc a1 a2 a3 a4 a5 a6 a7 sc b1 b2 b3 b4 b5 b6 b7 hd hi hX
    obtain ⟨B, A, hx, hy⟩ := hX
    rw [wL_law_18]
    dsimp only
    by_cases hend : L < i + 3
    · refine br_t ((qf_cnt hL (by omega)).mpr hend) ?_
      obtain ⟨r, B', A', hd⟩ := qf_dt_pour B A 0
      refine hd _ _ hx (fun u' qx => ?_)
      obtain ⟨rc', c1, c2, c3, c4, c5, c6, c7⟩ := u'
      dsimp only
      refine hd _ _ hy (fun v' qy => ?_)
      obtain ⟨sc', d1, d2, d3, d4, d5, d6, d7⟩ := v'
      dsimp only
      refine br_t rfl (qw_same qx qy (fun rc a1 a2 a3 a4 a5 a6 a7 sc b1 b2 b3 b4 b5 b6 b7 _ _ => ?_))
      exact br_f (by decide) rfl
    · have HJ : ∀ (rc : Int32) (a1 a2 a3 a4 a5 a6 a7 : Nat → Int32) (sc : Int32) (b1 b2 b3 b4 b5 b6 b7 : Nat → Int32), qf_X rc a1 a2 a3 a4 a5 a6 a7 sc b1 b2 b3 b4 b5 b6 b7 → wL_law_18 (fun r => r = 1) L xs kc ks (d + 1) (nI (i + 3)) rc a1 a2 a3 a4 a5 a6 a7 sc b1 b2 b3 b4 b5 b6 b7 :=
        fun rc a1 a2 a3 a4 a5 a6 a7 sc b1 b2 b3 b4 b5 b6 b7 q => ih (i + 3) rc a1 a2 a3 a4 a5 a6 a7 sc b1 b2 b3 b4 b5 b6 b7 (by omega) (by omega) q
      refine br_f (fun z => hend ((qf_cnt hL (by omega)).mp z)) ?_
      refine ⟨by rw [nI_1]; exact vp_in_nI (by omega) (by omega), nm_e ⟨by rw [show nI i + 2 = nI (i + 2) from nI_add i 2]; exact vp_in_nI (by omega) (by omega), nm_e (nm_e ?_)⟩⟩
      generalize xs (nI i + 1).toNatClampNeg = x4
      generalize xs (nI i + 2).toNatClampNeg = x5
      generalize x4 &&& 1 = x6
      refine qw_aside x6 x4 hy (fun u1 q1 => ?_)
      obtain ⟨s1, e1, e2, e3, e4, e5, e6, e7⟩ := u1
      dsimp only
      refine br_f (by decide) (qw_aside x4 x5 q1 (fun u2 q2 => ?_))
      obtain ⟨s2, g1, g2, g3, g4, g5, g6, g7⟩ := u2
      dsimp only
      refine br_f (by decide) (qw_aside (1 - x6) x5 q2 (fun u3 q3 => ?_))
      obtain ⟨s3, h1, h2, h3, h4, h5, h6, h7⟩ := u3
      dsimp only
      refine br_f (by decide) ⟨vp_in_nI (by omega) (by omega), nm_e ?_⟩
      obtain ⟨k, hk, ek⟩ := pk_andE (xs (nI i).toNatClampNeg) (m := 15) 4 (by decide)
      rw [ek]
      refine br_f (nI_pos (by omega)) (br_c (fun _ => qw_382 HJ hx q3) (fun z7 => ?_))
      refine br_c (fun _ => ?_) (fun z0 => br_c (fun _ => ?_) (fun z1 => br_c (fun _ => ?_) (fun z2 => br_c (fun _ => ?_) (fun z3 => br_c (fun _ => br_c (fun _ => ?_) (fun _ => ?_)) (fun z4 => br_c (fun _ => ?_) (fun z5 => br_c (fun _ => ?_) (fun z6 => br_c (fun _ => ?_) (fun z8 => trivial))))))))
      · obtain ⟨r, B', A', hd⟩ := qf_dt_grow B A x4
        refine hd _ _ hx (fun u' qx => ?_)
        obtain ⟨rc', c1, c2, c3, c4, c5, c6, c7⟩ := u'
        dsimp only
        refine hd _ _ q3 (fun v' qy => ?_)
        obtain ⟨sc', d1, d2, d3, d4, d5, d6, d7⟩ := v'
        dsimp only
        refine br_t rfl ?_
        unfold wL_law_156
        exact qw_419 HJ qx qy
      · obtain ⟨r, B', A', hd⟩ := qf_dt_grow B A x6
        refine hd _ _ hx (fun u' qx => ?_)
        obtain ⟨rc', c1, c2, c3, c4, c5, c6, c7⟩ := u'
        dsimp only
        refine hd _ _ q3 (fun v' qy => ?_)
        obtain ⟨sc', d1, d2, d3, d4, d5, d6, d7⟩ := v'
        dsimp only
        refine br_t rfl ?_
        unfold wL_law_181
        exact qw_419 HJ qx qy
      · obtain ⟨r, B', A', hd⟩ := qf_dt_shrink B A x6
        refine hd _ _ hx (fun u' qx => ?_)
        obtain ⟨rc', c1, c2, c3, c4, c5, c6, c7⟩ := u'
        dsimp only
        refine hd _ _ q3 (fun v' qy => ?_)
        obtain ⟨sc', d1, d2, d3, d4, d5, d6, d7⟩ := v'
        dsimp only
        refine br_t rfl ?_
        unfold wL_law_206
        exact qw_419 HJ qx qy
      · obtain ⟨r, B', A', hd⟩ := qf_dt_pour B A x6
        refine hd _ _ hx (fun u' qx => ?_)
        obtain ⟨rc', c1, c2, c3, c4, c5, c6, c7⟩ := u'
        dsimp only
        refine hd _ _ q3 (fun v' qy => ?_)
        obtain ⟨sc', d1, d2, d3, d4, d5, d6, d7⟩ := v'
        dsimp only
        refine br_t rfl ?_
        unfold wL_law_231
        exact qw_419 HJ qx qy
      · obtain ⟨r, B', A', hd⟩ := qf_dt_clear B A x6
        refine hd _ _ hx (fun u' qx => ?_)
        obtain ⟨rc', c1, c2, c3, c4, c5, c6, c7⟩ := u'
        dsimp only
        refine hd _ _ q3 (fun v' qy => ?_)
        obtain ⟨sc', d1, d2, d3, d4, d5, d6, d7⟩ := v'
        dsimp only
        refine br_t rfl ?_
        unfold wL_law_258 wL_law_263
        exact qw_419 HJ qx qy
      · unfold wL_law_258 wL_law_263
        exact qw_419 HJ hx q3
      · obtain ⟨r, B', A', hd⟩ := qf_dt_remove B A x4 x5
        refine hd _ _ hx (fun u' qx => ?_)
        obtain ⟨rc', c1, c2, c3, c4, c5, c6, c7⟩ := u'
        dsimp only
        refine hd _ _ q3 (fun v' qy => ?_)
        obtain ⟨sc', d1, d2, d3, d4, d5, d6, d7⟩ := v'
        dsimp only
        refine br_t rfl ?_
        unfold wL_law_292
        exact qw_419 HJ qx qy
      · obtain ⟨r, B', A', hd⟩ := qf_dt_remove B A x6 (x5 &&& 15)
        refine hd _ _ hx (fun u' qx => ?_)
        obtain ⟨rc', c1, c2, c3, c4, c5, c6, c7⟩ := u'
        dsimp only
        refine hd _ _ q3 (fun v' qy => ?_)
        obtain ⟨sc', d1, d2, d3, d4, d5, d6, d7⟩ := v'
        dsimp only
        refine br_t rfl ?_
        unfold wL_law_327
        exact qw_419 HJ qx qy
      · obtain ⟨r, B', A', hd⟩ := qf_dt_add B A x4 x5
        refine hd _ _ hx (fun u' qx => ?_)
        obtain ⟨rc', c1, c2, c3, c4, c5, c6, c7⟩ := u'
        dsimp only
        refine hd _ _ q3 (fun v' qy => ?_)
        obtain ⟨sc', d1, d2, d3, d4, d5, d6, d7⟩ := v'
        dsimp only
        refine br_t rfl ?_
        unfold wL_law_356
        exact qw_419 HJ qx qy
/-- a new filter -/
theorem qf_S_new (rc : Int32) : qf_S (fun _ => 3) (fun _ => []) (rc, upd (upd (fun _ => 0) 0 3) 1 3, (fun _ => 0), (fun _ => 0), (fun _ => 0), (fun _ => 0), (fun _ => 0), (fun _ => 0)) := by
  intro f hf
  refine qf_R_nil ?_ rfl (show 3 ≤ 3 by decide) (show 3 ≤ 6 by decide) (fun _ _ => rfl) (fun _ _ => rfl) (fun _ _ => rfl)
  rcases qf_f01 hf with e | e
  · subst e
    rfl
  · subst e
    rfl
theorem qw_init {post : St1 → Prop} (H : ∀ u, qf_S (fun _ => 3) (fun _ => []) u → post u) : wpX_init post 7 580 0 := by
  unfold wpX_init
  refine ⟨by decide, by decide, by decide, by decide, by decide, by decide, by decide, by decide, by decide, by decide, by decide, by decide, by decide, by decide, nm_e (nm_e ?_)⟩
  exact H _ (qf_S_new 0)
theorem i_vc (xs : Nat → Int32) (L : Nat) (hL : L ≤ 260) : wpL_law (fun r => r = 1) L xs := by
  unfold wpL_law
  refine ⟨7, 580, by decide, by decide, qw_init (fun u hx => ?_)⟩
  obtain ⟨rc, a1, a2, a3, a4, a5, a6, a7⟩ := u
  dsimp only
  refine ⟨by decide, by decide, 7, 580, by decide, by decide, qw_init (fun v hy => ?_)⟩
  obtain ⟨sc, b1, b2, b3, b4, b5, b6, b7⟩ := v
  dsimp only
  exact ⟨_, qw_18 hL (L + 1) 0 _ _ _ _ _ _ _ _ _ _ _ _ _ _ _ _ (by omega) (by omega) ⟨_, _, hx, hy⟩⟩
end
