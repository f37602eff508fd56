section
/-! the unrolled ring: places are naturals, a slot is a place modulo m; E x is 0 for a free place, else 1 + the distance to the place that owns what stands there -/
def qf_ix (f m x : Nat) : Nat := 64 * f + x % m
theorem qf_ix_per (f m x : Nat) : qf_ix f m (x + m) = qf_ix f m x := by
  unfold qf_ix
  rw [Nat.add_mod_right]
theorem qf_ix_e {f m x y : Nat} (h : x % m = y % m) : qf_ix f m x = qf_ix f m y := by
  unfold qf_ix
  rw [h]
theorem qf_ix_i {f m x y : Nat} (h : qf_ix f m x = qf_ix f m y) : x % m = y % m := by
  unfold qf_ix at h
  omega
theorem qf_md1 {m x y a : Nat} (hx : a ≤ x) (hx' : x < a + m) (hy : a ≤ y) (hy' : y < a + m) (h : x % m = y % m) : x = y := by
  have key : ∀ u v : Nat, u ≤ v → v < u + m → v % m = u % m → u = v := by
    intro u v h1 h2 h3
    have h4 := Nat.sub_mod_eq_zero_of_mod_eq h3
    rw [Nat.mod_eq_of_lt (by omega)] at h4
    omega
  rcases Nat.le_total x y with z | z
  · exact key x y z (by omega) h.symm
  · exact (key y x z (by omega) h).symm
theorem qf_off {m : Nat} (a i : Nat) (hm : 0 < m) : (a + i + (a * m - a)) % m = i % m := by
  have h : a ≤ a * m := Nat.le_mul_of_pos_right a hm
  rw [show a + i + (a * m - a) = i + a * m by omega, Nat.add_mul_mod_self_right]
theorem qf_mc {m a b c : Nat} (hm : 0 < m) (h : (a + c) % m = (b + c) % m) : a % m = b % m := by
  have h1 := qf_off c a hm
  have h2 := qf_off c b hm
  rw [Nat.add_comm c a, Nat.add_mod, h, ← Nat.add_mod] at h1
  rw [Nat.add_comm c b] at h2
  rw [← h1, ← h2]
theorem qf_ma {m a b : Nat} (c : Nat) (h : a % m = b % m) : (a + c) % m = (b + c) % m := by
  rw [Nat.add_mod, h, ← Nat.add_mod]
theorem qf_rep {m : Nat} (a x : Nat) (hm : 0 < m) : ∃ i, i < m ∧ (a + i) % m = x % m := by
  refine ⟨(x + (a * m - a)) % m, Nat.mod_lt _ hm, ?_⟩
  have h : a ≤ a * m := Nat.le_mul_of_pos_right a hm
  rw [Nat.add_mod_mod, show a + (x + (a * m - a)) = x + a * m by omega, Nat.add_mul_mod_self_right]
theorem qf_per {α : Sort _} {g : Nat → α} {m : Nat} (h : ∀ x, g (x + m) = g x) {x y : Nat} (e : x % m = y % m) : g x = g y := by
  have h1 : ∀ k x, g (x + m * k) = g x := by
    intro k
    induction k with
    | zero => intro x; rfl
    | succ k ih =>
      intro x
      rw [Nat.mul_succ, ← Nat.add_assoc, h, ih]
  have h2 : ∀ x, g x = g (x % m) := by
    intro x
    have h3 := h1 (x / m) (x % m)
    rw [Nat.mod_add_div] at h3
    exact h3
  rw [h2 x, h2 y, e]
theorem qf_all {P : Nat → Prop} {m : Nat} (hm : 0 < m) (hp : ∀ x, P (x + m) = P x) (a : Nat) (h : ∀ i, i < m → P (a + i)) : ∀ x, P x := by
  intro x
  obtain ⟨i, hi, e⟩ := qf_rep a x hm
  have h1 := qf_per hp e
  rw [← h1]
  exact h i hi
/-- a flag -/
def qf_is (v : Int32) (p : Prop) : Prop := (p → v = 1) ∧ (¬ p → v = 0)
theorem qf_is0 {v : Int32} {p : Prop} (h : qf_is v p) : v = 0 ↔ ¬ p := by
  constructor
  · intro e z
    rw [h.1 z] at e
    exact absurd e (by decide)
  · exact h.2
theorem qf_is1 {v : Int32} {p : Prop} (h : qf_is v p) : ¬ v = 0 ↔ p := by
  rw [qf_is0 h]
  exact Classical.not_not
theorem qf_is_t {p : Prop} (h : p) : qf_is 1 p := ⟨fun _ => rfl, fun z => absurd h z⟩
theorem qf_is_f {p : Prop} (h : ¬ p) : qf_is 0 p := ⟨fun z => absurd z h, fun _ => rfl⟩
theorem qf_is_c {v : Int32} {p q : Prop} (h : qf_is v p) (e : p ↔ q) : qf_is v q := ⟨fun z => h.1 (e.mpr z), fun z => h.2 (fun t => z (e.mp t))⟩
theorem qf_is_nar {v : Int32} {p : Prop} (h : qf_is v p) : vp_nar .boolean v = v := by
  rcases Classical.em p with z | z
  · rw [h.1 z]; rfl
  · rw [h.2 z]; rfl
def qf_E (m : Nat) (E : Nat → Nat) : Prop := 0 < m ∧ (∀ x, E (x + m) = E x) ∧ (∀ x, E (x + 1) ≤ E x + 1) ∧ ∃ z, E z = 0
section
variable {m : Nat} {E : Nat → Nat}
theorem qf_up (h : qf_E m E) (x j : Nat) : E (x + j) ≤ E x + j := by
  induction j with
  | zero => exact Nat.le_refl _
  | succ j ih =>
    have h1 := h.2.2.1 (x + j)
    rw [← Nat.add_assoc]
    omega
theorem qf_lo (h : qf_E m E) {x y : Nat} (hy : x ≤ y) : E y ≤ E x + (y - x) := by
  have h1 := qf_up h x (y - x)
  rw [show x + (y - x) = y by omega] at h1
  exact h1
theorem qf_mod (h : qf_E m E) {x y : Nat} (e : x % m = y % m) : E x = E y := qf_per h.2.1 e
theorem qf_zf (h : qf_E m E) (t : Nat) : ∃ k, k < m ∧ E (t + k) = 0 ∧ ∀ i, i < k → E (t + i) ≠ 0 := by
  obtain ⟨z, hz⟩ := h.2.2.2
  obtain ⟨i, hi, e⟩ := qf_rep t z h.1
  have h1 : E (t + i) = 0 := by rw [qf_mod h e, hz]
  obtain ⟨k, hk, hl⟩ := pk_least (fun k => E (t + k) = 0) ⟨i, h1⟩
  refine ⟨k, ?_, hk, hl⟩
  rcases Nat.lt_or_ge i k with z | z
  · exact absurd h1 (hl i z)
  · omega
theorem qf_zb (h : qf_E m E) {t : Nat} (ht : m ≤ t) : ∃ z, z ≤ t ∧ t < z + m ∧ E z = 0 ∧ ∀ y, z < y → y ≤ t → E y ≠ 0 := by
  have hm := h.1
  obtain ⟨k0, hk0, e0, _⟩ := qf_zf h (t + 1 - m)
  obtain ⟨k, hk, hl⟩ := pk_least (fun k => k ≤ t ∧ E (t - k) = 0) ⟨t - (t + 1 - m + k0), by omega, by rw [show t - (t - (t + 1 - m + k0)) = t + 1 - m + k0 by omega]; exact e0⟩
  have hk1 : k ≤ t - (t + 1 - m + k0) := by
    rcases Nat.lt_or_ge (t - (t + 1 - m + k0)) k with z | z
    · exact absurd ⟨by omega, by rw [show t - (t - (t + 1 - m + k0)) = t + 1 - m + k0 by omega]; exact e0⟩ (hl _ z)
    · exact z
  refine ⟨t - k, by omega, by omega, hk.2, fun y h1 h2 e => ?_⟩
  refine hl (t - y) (by omega) ⟨by omega, ?_⟩
  rw [show t - (t - y) = y by omega]
  exact e
theorem qf_lt (h : qf_E m E) (x : Nat) : E x < m := by
  obtain ⟨z, h1, h2, h3, _⟩ := qf_zb h (t := x + m) (by omega)
  have h4 := qf_lo h h1
  rw [h.2.1, h3] at h4
  omega
/-- the first place at or behind t that isn't held by an owner ahead of t -/
def qf_RS (E : Nat → Nat) (t u : Nat) : Prop := E (t + u) ≤ u + 1 ∧ ∀ i, i < u → i + 1 < E (t + i)
theorem qf_rs (h : qf_E m E) (t : Nat) : ∃ u, u < m ∧ qf_RS E t u := by
  obtain ⟨k, hk, e, _⟩ := qf_zf h t
  obtain ⟨u, hu, hl⟩ := pk_least (fun u => E (t + u) ≤ u + 1) ⟨k, by omega⟩
  refine ⟨u, ?_, hu, fun i hi => ?_⟩
  · rcases Nat.lt_or_ge k u with z | z
    · exact absurd (show E (t + k) ≤ k + 1 by omega) (hl k z)
    · omega
  · have := hl i hi
    omega
theorem qf_rs_run (h : qf_E m E) {t u : Nat} (hr : qf_RS E t u) (hn : ∃ j, E (t + j) = j + 1) : E (t + u) = u + 1 := by
  obtain ⟨j, hj⟩ := hn
  have h1 := hr.1
  rcases Nat.lt_or_ge j u with z | z
  · have := hr.2 j z
    omega
  · have h2 := qf_lo h (show t + u ≤ t + j by omega)
    omega
theorem qf_named (h : qf_E m E) {t : Nat} (hn : ∃ j, E (t + j) = j + 1) : E t ≠ 0 := by
  obtain ⟨j, hj⟩ := hn
  have := qf_up h t j
  omega
/-- the owner of what stands at y is named -/
theorem qf_own (h : qf_E m E) {x y : Nat} (hy : E y ≠ 0) (hx : x + E y = y + 1) : ∃ j, E (x + j) = j + 1 :=
  ⟨E y - 1, by rw [show x + (E y - 1) = y by omega]; omega⟩
/-- from run to run: the run of B begins at B + u and has k places more, c: the next named slot -/
theorem qf_rs_step (h : qf_E m E) {B t u k c : Nat} (hr : qf_RS E B u) (he : E (B + u) = u + 1) (hk : ∀ i, i ≤ k → E (B + u + i) = u + 1 + i)
    (hk' : E (B + u + k + 1) ≤ u + 1 + k) (hc : ∀ i, i < c → ¬ ∃ j, E (B + 1 + i + j) = j + 1) (ht : B + 1 + c ≤ t) (ho : ∀ y, B ≤ y → y ≤ t → E y ≠ 0) :
    ∃ v, B + 1 + c + v = B + u + k + 1 ∧ qf_RS E (B + 1 + c) v := by
  have key : ∀ x, B < x → x < B + 1 + c → E (B + u + k + 1) ≠ 0 → x + E (B + u + k + 1) = B + u + k + 1 + 1 → False := by
    intro x h1 h2 h3 h4
    refine hc (x - B - 1) (by omega) ?_
    rw [show B + 1 + (x - B - 1) = x by omega]
    exact qf_own h h3 h4
  have h1 : B + 1 + c ≤ B + u + k + 1 := by
    rcases Nat.lt_or_ge (B + u + k + 1) (B + 1 + c) with z | z
    · have h2 := ho (B + u + k + 1) (by omega) (by omega)
      exact (key (B + u + k + 1 + 1 - E (B + u + k + 1)) (by omega) (by omega) h2 (by omega)).elim
    · exact z
  refine ⟨u + k - c, by omega, ?_, fun i hi => ?_⟩
  · rw [show B + 1 + c + (u + k - c) = B + u + k + 1 by omega]
    rcases Nat.lt_or_ge (u + k - c + 1) (E (B + u + k + 1)) with z | z
    · exact (key (B + u + k + 1 + 1 - E (B + u + k + 1)) (by omega) (by omega) (by omega) (by omega)).elim
    · exact z
  · rcases Nat.lt_or_ge (c + 1 + i) u with z | z
    · have h2 := hr.2 (c + 1 + i) z
      rw [show B + 1 + c + i = B + (c + 1 + i) by omega]
      omega
    · have h2 := hk (c + 1 + i - u) (by omega)
      rw [show B + 1 + c + i = B + u + (c + 1 + i - u) by omega, h2]
      omega
end
end
section
/-! what stands in n places from a on, in their order -/
def qf_win (E V : Nat → Nat) (a : Nat) : Nat → List Nat
  | 0 => []
  | n + 1 => qf_win E V a n ++ (if E (a + n) = 0 then [] else [V (a + n)])
section
variable {m : Nat} {E V E' V' : Nat → Nat}
theorem qf_win_s (E V : Nat → Nat) (a n : Nat) : qf_win E V a (n + 1) = qf_win E V a n ++ (if E (a + n) = 0 then [] else [V (a + n)]) := rfl
theorem qf_win_add (E V : Nat → Nat) (a n k : Nat) : qf_win E V a (n + k) = qf_win E V a n ++ qf_win E V (a + n) k := by
  induction k with
  | zero => simp [qf_win]
  | succ k ih =>
    rw [← Nat.add_assoc]
    rw [qf_win_s, qf_win_s, ih, List.append_assoc, Nat.add_assoc a n k]
theorem qf_win_c {a b n : Nat} (h : ∀ i, i < n → (E (a + i) = 0 ↔ E' (b + i) = 0) ∧ (E (a + i) ≠ 0 → V (a + i) = V' (b + i))) : qf_win E V a n = qf_win E' V' b n := by
  induction n with
  | zero => rfl
  | succ n ih =>
    rw [qf_win_s, qf_win_s, ih (fun i hi => h i (by omega))]
    have h1 := h n (by omega)
    by_cases e : E (a + n) = 0
    · rw [if_pos e, if_pos (h1.1.mp e)]
    · rw [if_neg e, if_neg (fun z => e (h1.1.mpr z)), h1.2 e]
theorem qf_win_1 (E V : Nat → Nat) (a : Nat) : qf_win E V a 1 = if E a = 0 then [] else [V a] := by
  simp [qf_win]
theorem qf_win_none {a n : Nat} (h : ∀ i, i < n → E (a + i) = 0) : qf_win E V a n = [] := by
  induction n with
  | zero => rfl
  | succ n ih =>
    rw [qf_win_s, ih (fun i hi => h i (by omega)), if_pos (h n (by omega))]
    rfl
theorem qf_win_full {a n : Nat} (h : ∀ i, i < n → E (a + i) ≠ 0) : (qf_win E V a n).length = n := by
  induction n with
  | zero => rfl
  | succ n ih =>
    rw [qf_win_s, List.length_append, ih (fun i hi => h i (by omega)), if_neg (h n (by omega))]
    rfl
theorem qf_win_le (E V : Nat → Nat) (a n : Nat) : (qf_win E V a n).length ≤ n := by
  induction n with
  | zero => exact Nat.le_refl _
  | succ n ih =>
    rw [qf_win_s, List.length_append]
    by_cases e : E (a + n) = 0
    · rw [if_pos e]
      have : ([] : List Nat).length = 0 := rfl
      omega
    · rw [if_neg e]
      have : [V (a + n)].length = 1 := rfl
      omega
theorem qf_win_mem {a n v : Nat} (h : v ∈ qf_win E V a n) : ∃ i, i < n ∧ E (a + i) ≠ 0 ∧ V (a + i) = v := by
  induction n with
  | zero => exact absurd h (by simp [qf_win])
  | succ n ih =>
    rw [qf_win_s] at h
    rcases List.mem_append.mp h with z | z
    · obtain ⟨i, hi, h1⟩ := ih z
      exact ⟨i, by omega, h1⟩
    · by_cases e : E (a + n) = 0
      · rw [if_pos e] at z
        exact absurd z (by simp)
      · rw [if_neg e] at z
        exact ⟨n, by omega, e, (List.mem_singleton.mp z).symm⟩
theorem qf_win_rot (hE : qf_E m E) (hV : ∀ x, V (x + m) = V x) (a : Nat) : (qf_win E V a m).Perm (qf_win E V 0 m) := by
  induction a with
  | zero => exact List.Perm.refl _
  | succ a ih =>
    refine List.Perm.trans ?_ ih
    have hm := hE.1
    obtain ⟨k, rfl⟩ : ∃ k, m = k + 1 := ⟨m - 1, by omega⟩
    rw [qf_win_add E V (a + 1) k 1, Nat.add_comm k 1, qf_win_add E V a 1 k, qf_win_1, qf_win_1]
    rw [show a + 1 + k = a + (k + 1) by omega, hE.2.1, hV]
    exact List.perm_append_comm
/-- a function over one turn of the ring, from p on, and its periodic continuation -/
def qf_pz (m p : Nat) (T : Nat → Nat) (x : Nat) : Nat := T ((x + (p * m - p)) % m)
theorem qf_pz_per (m p : Nat) (T : Nat → Nat) (x : Nat) : qf_pz m p T (x + m) = qf_pz m p T x := by
  unfold qf_pz
  rw [show x + m + (p * m - p) = x + (p * m - p) + m by omega, Nat.add_mod_right]
theorem qf_pz_at {p i : Nat} (T : Nat → Nat) (hi : i < m) : qf_pz m p T (p + i) = T i := by
  unfold qf_pz
  rw [qf_off p i (by omega), Nat.mod_eq_of_lt hi]
/-- a free place apart from F, where fewer than m - 1 are held -/
theorem qf_two (hE : qf_E m E) (hV : ∀ x, V (x + m) = V x) (hn : (qf_win E V 0 m).length + 2 ≤ m) {p k : Nat} (hk : k < m) (he : E (p + k) = 0) (hl : ∀ i, i < k → E (p + i) ≠ 0) :
    ∃ i, k < i ∧ i < m ∧ E (p + i) = 0 := by
  rcases Classical.em (∃ i, k < i ∧ i < m ∧ E (p + i) = 0) with z | z
  · exact z
  · exfalso
    have h1 := (qf_win_rot hE hV p).length_eq
    obtain ⟨r, hr⟩ : ∃ r, m = k + 1 + r := ⟨m - k - 1, by omega⟩
    have h2 : (qf_win E V p m).length = k + r := by
      rw [hr, qf_win_add, qf_win_add, List.length_append, List.length_append, qf_win_full hl, qf_win_full (a := p + (k + 1)) (fun i hi e => z ⟨k + 1 + i, by omega, by omega, by rw [← Nat.add_assoc]; exact e⟩), qf_win_none (a := p + k) (n := 1) (fun i hi => by rw [show i = 0 by omega]; exact he)]
      simp
    omega
end
end
section
/-! the picture: the arrays hold what E and V say -/
def qf_A (f m : Nat) (E : Nat → Nat) (a4 a5 a6 : Nat → Int32) : Prop :=
  (∀ x, qf_is (a4 (qf_ix f m x)) (∃ j, E (x + j) = j + 1)) ∧ (∀ x, qf_is (a5 (qf_ix f m (x + 1))) (E x ≠ 0 ∧ E (x + 1) = E x + 1)) ∧ (∀ x, qf_is (a6 (qf_ix f m x)) (2 ≤ E x))
/-- r: how many lower bits -/
def qf_L (f m r : Nat) (E V : Nat → Nat) (a3 : Nat → Int32) : Prop :=
  ∀ x, E x ≠ 0 → V x / 2 ^ r < m ∧ (V x / 2 ^ r + E x) % m = (x + 1) % m ∧ a3 (qf_ix f m x) = nI (V x % 2 ^ r)
def qf_Q (f m r : Nat) (l : List Nat) (a3 a4 a5 a6 : Nat → Int32) : Prop :=
  ∃ E V : Nat → Nat, qf_E m E ∧ (∀ x, V (x + m) = V x) ∧ qf_A f m E a4 a5 a6 ∧ qf_L f m r E V a3 ∧ (qf_win E V 0 m).Perm l
section
variable {f m r : Nat} {E V : Nat → Nat} {a3 a4 a5 a6 : Nat → Int32}
/-- what is pushed along: the arrays behind it -/
def qf_P (f m p k : Nat) (a3 a5 a6 b3 b5 b6 : Nat → Int32) : Prop :=
  (∀ i, i < k → b3 (qf_ix f m (p + i + 1)) = a3 (qf_ix f m (p + i)) ∧ b5 (qf_ix f m (p + i + 1)) = a5 (qf_ix f m (p + i)) ∧ b6 (qf_ix f m (p + i + 1)) = 1) ∧
  (∀ j, (∀ i, i ≤ k → j ≠ qf_ix f m (p + i)) → b3 j = a3 j ∧ b5 j = a5 j ∧ b6 j = a6 j)
theorem qf_P_out {p k i : Nat} {b3 b5 b6 : Nat → Int32} (h : qf_P f m p k a3 a5 a6 b3 b5 b6) (hk : k < i) (hi : i < m) :
    b3 (qf_ix f m (p + i)) = a3 (qf_ix f m (p + i)) ∧ b5 (qf_ix f m (p + i)) = a5 (qf_ix f m (p + i)) ∧ b6 (qf_ix f m (p + i)) = a6 (qf_ix f m (p + i)) := by
  refine h.2 _ (fun j hj e => ?_)
  have h1 := qf_md1 (a := p) (by omega) (by omega) (by omega) (by omega) (qf_ix_i e)
  omega
theorem qf_ins {l : List Nat} {p t w k v : Nat} {g5 b3 b5 b6 : Nat → Int32} (hE : qf_E m E) (hV : ∀ x, V (x + m) = V x) (hA : qf_A f m E a4 a5 a6) (hL : qf_L f m r E V a3) (hl : (qf_win E V 0 m).Perm l) (hn : l.length + 2 ≤ m)
    (hp : p = t + w) (h0 : 0 < p) (hw : w ≤ E (p - 1)) (hw' : E p ≤ w + 1) (hk : k < m) (hk0 : E (p + k) = 0) (hk1 : ∀ i, i < k → E (p + i) ≠ 0)
    (hv : v / 2 ^ r < m) (hvt : v / 2 ^ r = t % m)
    (hP : qf_P f m p k a3 g5 a6 b3 b5 b6)
    (h3 : b3 (qf_ix f m p) = nI (v % 2 ^ r)) (h5 : qf_is (b5 (qf_ix f m p)) (E (p - 1) ≠ 0 ∧ E (p - 1) = w)) (h6 : qf_is (b6 (qf_ix f m p)) (w ≠ 0))
    (hg : ∀ j, j ≠ qf_ix f m p → g5 j = a5 j) (hg' : E p ≠ 0 → qf_is (g5 (qf_ix f m p)) (E p = w + 1)) :
    qf_Q f m r (v :: l) b3 (upd a4 (qf_ix f m t) 1) b5 b6 := by
  have hm := hE.1
  obtain ⟨z, hz, hzm, hz0⟩ := qf_two hE hV (by rw [hl.length_eq]; exact hn) hk hk0 hk1
  let T : Nat → Nat := fun i => if i = 0 then w + 1 else if i ≤ k then E (p + i - 1) + 1 else E (p + i)
  let U : Nat → Nat := fun i => if i = 0 then v else if i ≤ k then V (p + i - 1) else V (p + i)
  let E' := qf_pz m p T
  let V' := qf_pz m p U
  have eP : ∀ x, E' (x + m) = E' x := qf_pz_per m p T
  have vP : ∀ x, V' (x + m) = V' x := qf_pz_per m p U
  have e0 : E' p = w + 1 := by
    have := qf_pz_at (m := m) (p := p) (i := 0) T hm
    exact this
  have e1 : ∀ i, i < k → E' (p + i + 1) = E (p + i) + 1 := by
    intro i hi
    have := qf_pz_at (m := m) (p := p) (i := i + 1) T (by omega)
    rw [Nat.add_assoc]
    refine this.trans ?_
    show (if i + 1 = 0 then w + 1 else if i + 1 ≤ k then E (p + (i + 1) - 1) + 1 else E (p + (i + 1))) = _
    rw [if_neg (by omega), if_pos (by omega)]
    rfl
  have e2 : ∀ i, k < i → i < m → E' (p + i) = E (p + i) := by
    intro i hi hi'
    refine (qf_pz_at (m := m) (p := p) (i := i) T hi').trans ?_
    show (if i = 0 then w + 1 else if i ≤ k then E (p + i - 1) + 1 else E (p + i)) = _
    rw [if_neg (by omega), if_neg (by omega)]
  have v0 : V' p = v := by
    have := qf_pz_at (m := m) (p := p) (i := 0) U hm
    exact this
  have v1 : ∀ i, i < k → V' (p + i + 1) = V (p + i) := by
    intro i hi
    have := qf_pz_at (m := m) (p := p) (i := i + 1) U (by omega)
    rw [Nat.add_assoc]
    refine this.trans ?_
    show (if i + 1 = 0 then v else if i + 1 ≤ k then V (p + (i + 1) - 1) else V (p + (i + 1))) = _
    rw [if_neg (by omega), if_pos (by omega)]
    rfl
  have v2 : ∀ i, k < i → i < m → V' (p + i) = V (p + i) := by
    intro i hi hi'
    refine (qf_pz_at (m := m) (p := p) (i := i) U hi').trans ?_
    show (if i = 0 then v else if i ≤ k then V (p + i - 1) else V (p + i)) = _
    rw [if_neg (by omega), if_neg (by omega)]
  have eW : E (p + (m - 1)) = E (p - 1) := by
    rw [show p + (m - 1) = p - 1 + m by omega]
    exact hE.2.1 _
  -- three kinds of place
  have cases3 : ∀ i, i < m → i = 0 ∨ (∃ j, j < k ∧ i = j + 1) ∨ (k < i ∧ i < m) := by
    intro i hi
    rcases Nat.eq_zero_or_pos i with z | z
    · exact Or.inl z
    · rcases Nat.lt_or_ge k i with y | y
      · exact Or.inr (Or.inr ⟨y, hi⟩)
      · exact Or.inr (Or.inl ⟨i - 1, by omega, by omega⟩)
  have hE' : qf_E m E' := by
    refine ⟨hm, eP, ?_, p + z, by rw [e2 z hz hzm]; exact hz0⟩
    refine qf_all hm (fun x => ?_) p (fun i hi => ?_)
    · rw [show x + m + 1 = x + 1 + m by omega, eP, eP]
    · rcases Nat.lt_or_ge (i + 1) m with y | y
      · rcases cases3 (i + 1) y with q | ⟨j, hj, q⟩ | ⟨q, _⟩
        · omega
        · rw [show i = j by omega, e1 j hj]
          rcases Nat.eq_zero_or_pos j with s | s
          · subst s
            show E p + 1 ≤ E' p + 1
            rw [e0]
            omega
          · rw [show p + j = p + (j - 1) + 1 by omega, e1 (j - 1) (by omega)]
            have := hE.2.2.1 (p + (j - 1))
            omega
        · rw [Nat.add_assoc, e2 (i + 1) q y]
          rcases Nat.lt_or_ge k i with s | s
          · rw [e2 i s hi]
            exact hE.2.2.1 _
          · rw [show i = k by omega]
            have := hE.2.2.1 (p + k)
            rw [hk0] at this
            have h7 : p + (k + 1) = p + k + 1 := by omega
            rw [h7]
            omega
      · rw [show i = m - 1 by omega, show p + (m - 1) + 1 = p + m by omega, eP, e0, e2 (m - 1) (by omega) (by omega), eW]
        omega
  have hN : ∀ x, (∃ j, E' (x + j) = j + 1) ↔ (x % m = t % m ∨ ∃ j, E (x + j) = j + 1) := by
    intro x
    constructor
    · rintro ⟨j, hj⟩
      obtain ⟨i, hi, e⟩ := qf_rep p (x + j) hm
      have h7 := qf_mod hE' e
      rw [hj] at h7
      rcases cases3 i hi with q | ⟨i', hi', q⟩ | ⟨q, q'⟩
      · left
        rw [q, Nat.add_zero, e0] at h7
        rw [q, Nat.add_zero, hp, show j = w by omega] at e
        exact (qf_mc hm e).symm
      · right
        rw [q, ← Nat.add_assoc, e1 i' hi'] at h7
        have h8 := hk1 i' hi'
        refine ⟨j - 1, ?_⟩
        have h9 : (p + i') % m = (x + (j - 1)) % m := by
          apply qf_mc (c := 1) hm
          rw [q] at e
          rw [show x + (j - 1) + 1 = x + j by omega]
          exact e
        rw [← qf_mod hE h9]
        omega
      · right
        rw [e2 i q q'] at h7
        exact ⟨j, by rw [← qf_mod hE e]; exact h7⟩
    · rintro (h7 | ⟨j, hj⟩)
      · refine ⟨w, ?_⟩
        have h8 : (x + w) % m = p % m := by rw [hp]; exact qf_ma w h7
        rw [qf_mod hE' h8, e0]
      · obtain ⟨i, hi, e⟩ := qf_rep p (x + j) hm
        have h7 := qf_mod hE e
        rw [hj] at h7
        rcases Nat.lt_trichotomy i k with q | q | q
        · refine ⟨j + 1, ?_⟩
          have h8 : (p + i + 1) % m = (x + (j + 1)) % m := by
            have := qf_ma 1 e
            rw [Nat.add_assoc x j 1] at this
            exact this
          rw [← qf_mod hE' h8, e1 i q]
          omega
        · rw [q, hk0] at h7
          omega
        · exact ⟨j, by rw [← qf_mod hE' e, e2 i q hi]; exact h7⟩
  have hA4 : ∀ x, qf_is (upd a4 (qf_ix f m t) 1 (qf_ix f m x)) (∃ j, E' (x + j) = j + 1) := by
    intro x
    by_cases e : x % m = t % m
    · rw [qf_ix_e e, pk_us]
      exact qf_is_t ((hN x).mpr (Or.inl e))
    · rw [pk_un (fun z => e (qf_ix_i z))]
      refine qf_is_c (hA.1 x) ?_
      rw [hN x]
      exact ⟨fun h => Or.inr h, fun h => h.resolve_left e⟩
  have hA5 : ∀ x, qf_is (b5 (qf_ix f m (x + 1))) (E' x ≠ 0 ∧ E' (x + 1) = E' x + 1) := by
    refine qf_all hm (fun x => ?_) p (fun i hi => ?_)
    · rw [show x + m + 1 = x + 1 + m by omega, eP, eP, qf_ix_per]
    · rcases Nat.lt_or_ge (i + 1) m with y | y
      · rcases cases3 (i + 1) y with q | ⟨j, hj, q⟩ | ⟨q, _⟩
        · omega
        · rw [show i = j by omega, e1 j hj, (hP.1 j hj).2.1]
          rcases Nat.eq_zero_or_pos j with s | s
          · rw [s, Nat.add_zero, e0]
            have h7 := hk1 0 (by omega)
            refine qf_is_c (hg' h7) ?_
            omega
          · rw [hg _ (fun z => ?_)]
            · rw [show p + j = p + (j - 1) + 1 by omega, e1 (j - 1) (by omega)]
              refine qf_is_c (hA.2.1 (p + (j - 1))) ?_
              have := hk1 (j - 1) (by omega)
              omega
            · have := qf_md1 (a := p) (by omega) (by omega) (by omega) (by omega) (qf_ix_i z)
              omega
        · rw [Nat.add_assoc, (qf_P_out hP q y).2.1, hg _ (fun z => ?_), e2 (i + 1) q y]
          · rcases Nat.lt_or_ge k i with s | s
            · rw [e2 i s hi]
              exact hA.2.1 _
            · have h8 := hE.2.2.1 (p + k)
              rw [hk0] at h8
              have h9 := hA.2.1 (p + k)
              rw [show i = k by omega]
              rw [show p + (k + 1) = p + k + 1 by omega]
              refine qf_is_c h9 ?_
              have h10 : E' (p + k) ≠ 0 := by
                rcases Nat.eq_zero_or_pos k with s | s
                · rw [s, Nat.add_zero, e0]
                  omega
                · rw [show p + k = p + (k - 1) + 1 by omega, e1 (k - 1) (by omega)]
                  omega
              omega
          · have := qf_md1 (a := p) (by omega) (by omega) (by omega) (by omega) (qf_ix_i z)
            omega
      · rw [show i = m - 1 by omega, show p + (m - 1) + 1 = p + m by omega, eP, e0, e2 (m - 1) (by omega) (by omega), eW, qf_ix_per]
        refine qf_is_c h5 ?_
        omega
  have hA6 : ∀ x, qf_is (b6 (qf_ix f m x)) (2 ≤ E' x) := by
    refine qf_all hm (fun x => ?_) p (fun i hi => ?_)
    · rw [eP, qf_ix_per]
    · rcases cases3 i hi with q | ⟨j, hj, q⟩ | ⟨q, _⟩
      · rw [q, Nat.add_zero, e0]
        refine qf_is_c h6 ?_
        omega
      · rw [q, ← Nat.add_assoc, e1 j hj, (hP.1 j hj).2.2]
        have := hk1 j hj
        exact qf_is_t (by omega)
      · rw [(qf_P_out hP q hi).2.2, e2 i q hi]
        exact hA.2.2 _
  have hL' : qf_L f m r E' V' b3 := by
    refine qf_all hm (fun x => ?_) p (fun i hi => ?_)
    · rw [eP, vP, qf_ix_per, show x + m + 1 = x + 1 + m by omega, Nat.add_mod_right]
    · intro h7
      rcases cases3 i hi with q | ⟨j, hj, q⟩ | ⟨q, _⟩
      · rw [q, Nat.add_zero, e0, v0]
        refine ⟨hv, ?_, h3⟩
        rw [hvt, hp, Nat.mod_add_mod, Nat.add_assoc]
      · rw [q, ← Nat.add_assoc, e1 j hj, v1 j hj, (hP.1 j hj).1]
        obtain ⟨l1, l2, l3⟩ := hL (p + j) (hk1 j hj)
        refine ⟨l1, ?_, l3⟩
        rw [← Nat.add_assoc]
        exact qf_ma 1 l2
      · rw [e2 i q hi] at h7
        rw [(qf_P_out hP q hi).1, e2 i q hi, v2 i q hi]
        exact hL _ h7
  refine ⟨E', V', hE', vP, ⟨hA4, hA5, hA6⟩, hL', ?_⟩
  refine (qf_win_rot hE' vP p).symm.trans (List.Perm.trans ?_ (List.Perm.cons v ((qf_win_rot hE hV p).trans hl)))
  obtain ⟨n, hr⟩ : ∃ n, m = k + 1 + n := ⟨m - k - 1, by omega⟩
  have w1 : qf_win E V p m = qf_win E V p k ++ qf_win E V (p + (k + 1)) n := by
    rw [hr, qf_win_add, qf_win_add, qf_win_none (a := p + k) (n := 1) (fun i hi => by rw [show i = 0 by omega]; exact hk0), List.append_nil]
  have w2 : qf_win E' V' p m = [v] ++ qf_win E V p k ++ qf_win E V (p + (k + 1)) n := by
    rw [hr, qf_win_add, Nat.add_comm k 1, qf_win_add, qf_win_1, e0, v0, if_neg (by omega)]
    congr 1
    · congr 1
      refine qf_win_c (fun i hi => ?_)
      rw [show p + 1 + i = p + i + 1 by omega, e1 i hi, v1 i hi]
      have := hk1 i hi
      exact ⟨by omega, fun _ => rfl⟩
    · refine qf_win_c (fun i hi => ?_)
      rw [show p + (1 + k) + i = p + (k + 1 + i) by omega, e2 _ (by omega) (by omega), v2 _ (by omega) (by omega)]
      exact ⟨Iff.rfl, fun _ => rfl⟩
  rw [w1, w2, List.append_assoc]
  exact List.Perm.refl _
end
end
section
/-! the small methods -/
theorem qf_d_sl : ∀ q, q < 7 → 3 ≤ q → (1 : Int32) <<< (nI q &&& 31) = nI (2 ^ q) := by decide +kernel
theorem qf_d_af : ∀ q, q < 7 → 3 ≤ q → ∀ s, s < 64 → (nI s + 1) &&& (nI (2 ^ q) - 1) = nI ((s + 1) % 2 ^ q) := by decide +kernel
theorem qf_d_be : ∀ q, q < 7 → 3 ≤ q → ∀ s, s < 64 → (nI s - 1) &&& (nI (2 ^ q) - 1) = nI ((s + (2 ^ q - 1)) % 2 ^ q) := by decide +kernel
theorem qf_d_so : ∀ q, q < 7 → 3 ≤ q → ∀ p, p < 256 → nI p >>> ((8 - nI q) &&& 31) = nI (p / 2 ^ (8 - q)) := by decide +kernel
theorem qf_d_lo : ∀ q, q < 7 → 3 ≤ q → ∀ p, p < 256 → nI p &&& (((1 : Int32) <<< ((8 - nI q) &&& 31)) - 1) = nI (p % 2 ^ (8 - q)) := by decide +kernel
theorem qf_d_or : ∀ q, q < 7 → 3 ≤ q → ∀ p, p < 256 → ((nI (p / 2 ^ (8 - q)) <<< ((8 - nI q) &&& 31)) ||| nI (p % 2 ^ (8 - q))).toInt16.toInt32 = nI p := by decide +kernel
theorem qf_d_by : ∀ p, p < 128 → (nI p).toInt8.toInt32 = nI p := by decide +kernel
/-- the filter f has m = 2^q slots -/
def qf_C (f q m : Nat) (a1 : Nat → Int32) : Prop := f < 2 ∧ 3 ≤ q ∧ q ≤ 6 ∧ m = 2 ^ q ∧ a1 f = nI q
section
variable {rc : Int32} {a1 a2 a3 a4 a5 a6 a7 : Nat → Int32} {f q m x : Nat}
theorem qf_C_m (hc : qf_C f q m a1) : 8 ≤ m ∧ m ≤ 64 := by
  obtain ⟨_, h1, h2, h3, _⟩ := hc
  rw [h3]
  have h4 : q = 3 ∨ q = 4 ∨ q = 5 ∨ q = 6 := by omega
  rcases h4 with e | e | e | e <;> rw [e] <;> decide
theorem qf_C_lt (hc : qf_C f q m a1) (x : Nat) : x % m < 64 := by
  have h1 := qf_C_m hc
  have := Nat.mod_lt x (show 0 < m by omega)
  omega
theorem qf_C_r (hc : qf_C f q m a1) : m * 2 ^ (8 - q) = 256 := by
  obtain ⟨_, h1, h2, h3, _⟩ := hc
  rw [h3]
  have h4 : q = 3 ∨ q = 4 ∨ q = 5 ∨ q = 6 := by omega
  rcases h4 with e | e | e | e <;> rw [e]
theorem qf_C_v (hc : qf_C f q m a1) {v : Nat} (h : v / 2 ^ (8 - q) < m) : v < 256 := by
  rw [← qf_C_r hc]
  exact (Nat.div_lt_iff_lt_mul (Nat.two_pow_pos _)).mp h
theorem qf_C_v' (hc : qf_C f q m a1) {v : Nat} (h : v < 256) : v / 2 ^ (8 - q) < m := by
  rw [← qf_C_r hc] at h
  exact (Nat.div_lt_iff_lt_mul (Nat.two_pow_pos _)).mpr h
theorem qf_ix_lt (hc : qf_C f q m a1) (x : Nat) : qf_ix f m x < 128 := by
  have h1 := qf_C_lt hc x
  have h2 := hc.1
  unfold qf_ix
  omega
theorem qf_cl (hc : qf_C f q m a1) (x : Nat) : (nI (64 * f) + nI (x % m)).toNatClampNeg = qf_ix f m x := by
  rw [nI_add]
  exact nI_clamp (Nat.lt_trans (qf_ix_lt hc x) (by decide))
theorem qf_in (hc : qf_C f q m a1) (x : Nat) : vp_in (nI (64 * f) + nI (x % m)) 128 := by
  rw [nI_add]
  exact vp_in_nI (qf_ix_lt hc x) (by decide)
theorem qf_cf (hc : qf_C f q m a1) : (nI f).toNatClampNeg = f := nI_clamp (by have := hc.1; omega)
theorem qf_slots {post : Int32 → Prop} (hc : qf_C f q m a1) (hp : post (nI m)) : wpX_slots post (rc, a1, a2, a3, a4, a5, a6, a7) (nI f) := by
  unfold wpX_slots
  refine And.intro (pk_in f 2 hc.1) ?_
  rw [qf_cf hc, hc.2.2.2.2, qf_d_sl q (by have := hc.2.2.1; omega) hc.2.1, ← hc.2.2.2.1]
  exact hp
theorem qf_after {post : Int32 → Prop} (hc : qf_C f q m a1) (hp : post (nI ((x + 1) % m))) : wpX_after post (rc, a1, a2, a3, a4, a5, a6, a7) (nI f) (nI (x % m)) := by
  unfold wpX_after
  refine qf_slots (m := m) hc ?_
  have h1 := qf_d_af q (by have := hc.2.2.1; omega) hc.2.1 (x % m) (qf_C_lt hc x)
  rw [← hc.2.2.2.1, Nat.mod_add_mod] at h1
  rw [h1]
  exact hp
theorem qf_before {post : Int32 → Prop} (hc : qf_C f q m a1) (hx : 0 < x) (hp : post (nI ((x - 1) % m))) : wpX_beforeSlot post (rc, a1, a2, a3, a4, a5, a6, a7) (nI f) (nI (x % m)) := by
  unfold wpX_beforeSlot
  refine qf_slots (m := m) hc ?_
  have h1 := qf_d_be q (by have := hc.2.2.1; omega) hc.2.1 (x % m) (qf_C_lt hc x)
  have h2 := qf_C_m hc
  rw [← hc.2.2.2.1, Nat.mod_add_mod, show x + (m - 1) = x - 1 + m by omega, Nat.add_mod_right] at h1
  rw [h1]
  exact hp
theorem qf_base {post : Int32 → Prop} (hp : post (nI (64 * f))) : wpX_base post (rc, a1, a2, a3, a4, a5, a6, a7) (nI f) := by
  unfold wpX_base
  rw [show (64 : Int32) * nI f = nI (64 * f) from pk_mul 64 f]
  exact hp
theorem qf_slotOf {post : Int32 → Prop} (hc : qf_C f q m a1) {p : Nat} (h : p < 256) (hp : post (nI (p / 2 ^ (8 - q)))) : wpX_slotOf post (rc, a1, a2, a3, a4, a5, a6, a7) (nI f) (nI p) := by
  unfold wpX_slotOf
  refine And.intro (pk_in f 2 hc.1) ?_
  rw [qf_cf hc, hc.2.2.2.2, qf_d_so q (by have := hc.2.2.1; omega) hc.2.1 p h]
  exact hp
theorem qf_lowerOf {post : Int32 → Prop} (hc : qf_C f q m a1) {p : Nat} (h : p < 256) (hp : post (nI (p % 2 ^ (8 - q)))) : wpX_lowerOf post (rc, a1, a2, a3, a4, a5, a6, a7) (nI f) (nI p) := by
  unfold wpX_lowerOf
  refine And.intro (pk_in f 2 hc.1) ?_
  rw [qf_cf hc, hc.2.2.2.2, qf_d_lo q (by have := hc.2.2.1; omega) hc.2.1 p h]
  exact hp
theorem qf_isFilter {post : Int32 → Prop} (hf : f < 2) (hp : post 1) : wpX_isFilter post (rc, a1, a2, a3, a4, a5, a6, a7) (nI f) := by
  unfold wpX_isFilter
  have h : f = 0 ∨ f = 1 := by omega
  rcases h with e | e
  · exact br_t (by rw [e]; rfl) hp
  · exact br_f (by rw [e]; decide) (br_t (by rw [e]; rfl) hp)
/-- a place with no mark -/
def qf_no (a4 a5 a6 : Nat → Int32) (j : Nat) : Prop := a4 j = 0 ∧ a5 j = 0 ∧ a6 j = 0
theorem qf_holds {post : Int32 → Prop} (hc : qf_C f q m a1) (h0 : qf_no a4 a5 a6 (qf_ix f m x) → post 0) (h1 : ¬ qf_no a4 a5 a6 (qf_ix f m x) → post 1) : wpX_holds post (rc, a1, a2, a3, a4, a5, a6, a7) (nI f) (nI (x % m)) := by
  unfold wpX_holds
  refine qf_base (nm_e ?_)
  rw [qf_cl hc x]
  exact ⟨qf_in hc x, br_c (fun e4 => ⟨qf_in hc x, br_c (fun e5 => ⟨qf_in hc x, br_c (fun e6 => h0 ⟨e4, e5, e6⟩) (fun e6 => h1 (fun z => e6 z.2.2))⟩) (fun e5 => h1 (fun z => e5 z.2.1))⟩) (fun e4 => h1 (fun z => e4 z.1))⟩
theorem qf_isFree {post : Int32 → Prop} (hc : qf_C f q m a1) (h0 : ¬ qf_no a4 a5 a6 (qf_ix f m x) → post 0) (h1 : qf_no a4 a5 a6 (qf_ix f m x) → post 1) : wpX_isFree post (rc, a1, a2, a3, a4, a5, a6, a7) (nI f) (nI (x % m)) := by
  unfold wpX_isFree
  exact qf_holds hc (fun h => br_t rfl (h1 h)) (fun h => br_f (by decide) (h0 h))
theorem qf_noE {E : Nat → Nat} (hE : qf_E m E) (hA : qf_A f m E a4 a5 a6) (x : Nat) : qf_no a4 a5 a6 (qf_ix f m x) ↔ E x = 0 := by
  constructor
  · intro h
    have h1 := (qf_is0 (hA.1 x)).mp h.1
    have h2 := (qf_is0 (hA.2.2 x)).mp h.2.2
    rcases Nat.lt_or_ge (E x) 1 with z | z
    · omega
    · exact absurd ⟨0, show E (x + 0) = 0 + 1 by rw [Nat.add_zero]; omega⟩ h1
  · intro h
    refine ⟨(qf_is0 (hA.1 x)).mpr (fun z => qf_named hE z h), ?_, (qf_is0 (hA.2.2 x)).mpr (by omega)⟩
    have hm := hE.1
    have h1 := hA.2.1 (x + m - 1)
    rw [show x + m - 1 + 1 = x + m by omega, qf_ix_per] at h1
    refine (qf_is0 h1).mpr (fun z => ?_)
    have h2 := z.2
    rw [hE.2.1, h] at h2
    omega
theorem qf_isFreeE {E : Nat → Nat} {post : Int32 → Prop} (hc : qf_C f q m a1) (hE : qf_E m E) (hA : qf_A f m E a4 a5 a6) (h0 : E x ≠ 0 → post 0) (h1 : E x = 0 → post 1) : wpX_isFree post (rc, a1, a2, a3, a4, a5, a6, a7) (nI f) (nI (x % m)) :=
  qf_isFree hc (fun h => h0 (fun z => h ((qf_noE hE hA x).mpr z))) (fun h => h1 ((qf_noE hE hA x).mp h))
theorem qf_size {post : Int32 → Prop} (hc : qf_C f q m a1) (hp : post (nI m)) : wpX_size post (rc, a1, a2, a3, a4, a5, a6, a7) (nI f) := by
  unfold wpX_size
  exact qf_isFilter hc.1 (br_f (by decide) (qf_slots hc hp))
theorem qf_count {post : Int32 → Prop} (hf : f < 2) (hp : post (a2 f)) : wpX_count post (rc, a1, a2, a3, a4, a5, a6, a7) (nI f) := by
  unfold wpX_count
  refine qf_isFilter hf (br_f (by decide) ⟨pk_in f 2 hf, ?_⟩)
  rw [nI_clamp (show f < 2 ^ 31 by omega)]
  exact hp
end
end
section
/-! where a run starts; how often a fingerprint stands there -/
section
variable {m : Nat} {E : Nat → Nat}
/-- a run's places behind its place S -/
theorem qf_run (hE : qf_E m E) {S e : Nat} (he : E S = e) (h0 : e ≠ 0) : ∃ k, k < m ∧ (∀ i, i ≤ k → E (S + i) = e + i) ∧ E (S + k + 1) ≤ e + k := by
  have h1 : ∀ k, (∀ i, i < k → E (S + i + 1) = E (S + i) + 1) → ∀ i, i ≤ k → E (S + i) = e + i := by
    intro k hk i hi
    induction i with
    | zero => exact he
    | succ i ih =>
      have h2 := hk i (by omega)
      have h3 := ih (by omega)
      rw [← Nat.add_assoc, h2]
      omega
  have h2 : ∃ k, ¬ E (S + k + 1) = E (S + k) + 1 := by
    rcases Classical.em (∃ k, ¬ E (S + k + 1) = E (S + k) + 1) with z | z
    · exact z
    · exfalso
      have h3 := h1 m (fun i _ => Classical.not_not.mp (fun y => z ⟨i, y⟩)) m (Nat.le_refl _)
      have h4 := qf_lt hE (S + m)
      omega
  obtain ⟨k, hk, hl⟩ := pk_least _ h2
  have h3 := h1 k (fun i hi => Classical.not_not.mp (hl i hi))
  have h4 := h3 k (Nat.le_refl _)
  have h5 := qf_lt hE (S + k)
  have h6 := hE.2.2.1 (S + k)
  exact ⟨k, by omega, h3, by omega⟩
end
section
variable {rc : Int32} {a1 a2 a3 a4 a5 a6 a7 : Nat → Int32} {f q m : Nat} {E V : Nat → Nat}
theorem qf_rs85 {post : Int32 → Prop} {J : Int32 → Int32 → Prop} {x2 x5 : Int32} {b c : Nat} (hc : qf_C f q m a1) (h0 : ∀ i, i < c → a4 (qf_ix f m (b + i)) = 0) (h1 : ¬ a4 (qf_ix f m (b + c)) = 0)
    (H : J (nI ((b + c) % m)) x5) : ∃ n, wX_runStart_85 post J (nI f) x2 (nI (64 * f)) x5 rc a1 a2 a3 a4 a5 a6 a7 n (nI (b % m)) :=
  pk_loop (σ := Unit) (fun n i _ => wX_runStart_85 post J (nI f) x2 (nI (64 * f)) x5 rc a1 a2 a3 a4 a5 a6 a7 n (nI ((b + i) % m))) (fun _ _ => True) c 0 () (by omega) trivial
    (fun n _ _ => And.intro (qf_in hc _) (br_f (by rw [qf_cl hc]; exact h1) H))
    (fun n i _ hi _ hw => And.intro (qf_in hc _) (br_t (by rw [qf_cl hc]; exact h0 i hi) (qf_after hc (hw () trivial))))
theorem qf_rs52 {post : Int32 → Prop} {J : Int32 → Int32 → Prop} {x2 : Int32} {b c s k : Nat} (hc : qf_C f q m a1) (h0 : ∀ i, i < c → a4 (qf_ix f m (b + 1 + i)) = 0) (h1 : ¬ a4 (qf_ix f m (b + 1 + c)) = 0)
    (h2 : ∀ i, i < k → ¬ a5 (qf_ix f m (s + i)) = 0) (h3 : a5 (qf_ix f m (s + k)) = 0)
    (H : J (nI ((b + 1 + c) % m)) (nI ((s + k) % m))) : ∃ n, wX_runStart_52 post J (nI f) x2 (nI (64 * f)) (nI (b % m)) rc a1 a2 a3 a4 a5 a6 a7 n (nI (s % m)) :=
  pk_loop (σ := Unit) (fun n i _ => wX_runStart_52 post J (nI f) x2 (nI (64 * f)) (nI (b % m)) rc a1 a2 a3 a4 a5 a6 a7 n (nI ((s + i) % m))) (fun _ _ => True) k 0 () (by omega) trivial
    (fun n _ _ => And.intro (qf_in hc _) (br_t (by rw [qf_cl hc]; exact h3) (qf_after hc (qf_rs85 hc h0 h1 H))))
    (fun n i _ hi _ hw => And.intro (qf_in hc _) (br_f (by rw [qf_cl hc]; exact h2 i hi) (qf_after hc (hw () trivial))))
theorem qf_rs37 {post : Int32 → Prop} {t z B u : Nat} (hc : qf_C f q m a1) (hE : qf_E m E)
    (hN1 : ∀ x, (∃ j, E (x + j) = j + 1) → ¬ a4 (qf_ix f m x) = 0) (hN2 : ∀ x, ¬ a4 (qf_ix f m x) = 0 → x % m = t % m ∨ ∃ j, E (x + j) = j + 1) (hNt : ¬ a4 (qf_ix f m t) = 0)
    (h5 : ∀ x, ¬ a5 (qf_ix f m (x + 1)) = 0 ↔ (E x ≠ 0 ∧ E (x + 1) = E x + 1))
    (hz : t < z + m) (hB : z < B) (hBt : B ≤ t) (hr : qf_RS E B u) (hb : B ≠ t → E (B + u) = u + 1) (ho : ∀ y, z < y → y ≤ t → E y ≠ 0)
    (H : ∀ u, qf_RS E t u → post (nI ((t + u) % m))) : ∃ n, wX_runStart_37 post (nI f) (nI (t % m)) (nI (64 * f)) rc a1 a2 a3 a4 a5 a6 a7 n (nI (B % m)) (nI ((B + u) % m)) := by
  refine loop_m (σ := Nat × Nat) (fun n s => wX_runStart_37 post (nI f) (nI (t % m)) (nI (64 * f)) rc a1 a2 a3 a4 a5 a6 a7 n (nI (s.1 % m)) (nI ((s.1 + s.2) % m)))
    (fun s => z < s.1 ∧ s.1 ≤ t ∧ qf_RS E s.1 s.2 ∧ (s.1 ≠ t → E (s.1 + s.2) = s.2 + 1)) (fun s => t - s.1) ?_ (B, u) ⟨hB, hBt, hr, hb⟩
  rintro n ⟨B, u⟩ ⟨hB, hBt, hr, hb⟩ hw
  dsimp only at hB hBt hr hb
  have hm := qf_C_m hc
  refine pk_eq (B % m) (t % m) (fun e => ?_) (fun e => ?_) rfl rfl (Nat.lt_trans (qf_C_lt hc _) (by decide)) (Nat.lt_trans (qf_C_lt hc _) (by decide))
  · have e1 : B = t := qf_md1 (a := z) (by omega) (by omega) (by omega) (by omega) e
    subst e1
    exact H u hr
  · have hne : B ≠ t := fun z => e (by rw [z])
    have he := hb hne
    obtain ⟨k, _, hk, hk'⟩ := qf_run hE he (by omega)
    obtain ⟨c, hcc, hcl⟩ := pk_least (fun c => ¬ a4 (qf_ix f m (B + 1 + c)) = 0) ⟨t - B - 1, by rw [show B + 1 + (t - B - 1) = t by omega]; exact hNt⟩
    have hct : B + 1 + c ≤ t := by
      rcases Nat.lt_or_ge (t - B - 1) c with z | z
      · exact absurd (by rw [show B + 1 + (t - B - 1) = t by omega]; exact hNt) (hcl _ z)
      · omega
    have hc0 : ∀ i, i < c → a4 (qf_ix f m (B + 1 + i)) = 0 := fun i hi => Classical.not_not.mp (hcl i hi)
    obtain ⟨v, hv, hv'⟩ := qf_rs_step (t := t) (c := c) hE hr he hk hk' (fun i hi z => hN1 _ z (hc0 i hi)) hct (fun y h1 h2 => ho y (by omega) h2)
    refine qf_after hc (qf_rs52 (k := k) (c := c) hc hc0 hcc (fun i hi => ?_) ?_ ?_)
    · rw [show B + u + 1 + i = B + u + i + 1 by omega]
      refine (h5 _).mpr ?_
      have h7 := hk i (by omega)
      have h8 := hk (i + 1) (by omega)
      rw [← Nat.add_assoc] at h8
      omega
    · rw [show B + u + 1 + k = B + u + k + 1 by omega]
      refine Classical.not_not.mp (fun y => ?_)
      have h7 := (h5 _).mp y
      have h8 := hk k (by omega)
      omega
    · have h7 := hw (B + 1 + c, v) ⟨by omega, hct, hv', fun y => ?_⟩ (by show t - (B + 1 + c) < t - B; omega)
      · dsimp only at h7
        rw [hv, show B + u + k + 1 = B + u + 1 + k by omega] at h7
        exact h7
      · refine qf_rs_run hE hv' ((hN2 _ hcc).resolve_left (fun e => y ?_))
        exact qf_md1 (a := z) (by omega) (by omega) (by omega) (by omega) e
theorem qf_runStart {post : Int32 → Prop} {t : Nat} (hc : qf_C f q m a1) (hE : qf_E m E)
    (hN1 : ∀ x, (∃ j, E (x + j) = j + 1) → ¬ a4 (qf_ix f m x) = 0) (hN2 : ∀ x, ¬ a4 (qf_ix f m x) = 0 → x % m = t % m ∨ ∃ j, E (x + j) = j + 1) (hNt : ¬ a4 (qf_ix f m t) = 0)
    (h5 : ∀ x, ¬ a5 (qf_ix f m (x + 1)) = 0 ↔ (E x ≠ 0 ∧ E (x + 1) = E x + 1)) (h6 : ∀ x, ¬ a6 (qf_ix f m x) = 0 ↔ 2 ≤ E x)
    (ht : m ≤ t) (h0 : E t ≠ 0) (H : ∀ u, qf_RS E t u → post (nI ((t + u) % m))) : wpX_runStart post (rc, a1, a2, a3, a4, a5, a6, a7) (nI f) (nI (t % m)) := by
  obtain ⟨z, hz1, hz2, hz0, ho⟩ := qf_zb hE ht
  have hzt : z < t := by
    rcases Nat.lt_or_ge z t with y | y
    · exact y
    · rw [show t = z by omega] at h0
      exact absurd hz0 h0
  unfold wpX_runStart
  refine qf_base ?_
  have key := pk_loopD (σ := Unit) (fun n i _ => wX_runStart_9 post (nI f) (nI (t % m)) (nI (64 * f)) rc a1 a2 a3 a4 a5 a6 a7 n (nI ((z + 1 + i) % m))) (fun i _ => z + 1 + i ≤ t) ?_ ?_ (t - z - 1) () (by omega)
  · rw [show z + 1 + (t - z - 1) = t by omega] at key
    exact ⟨_, key⟩
  · intro n _ hi
    refine And.intro (qf_in hc _) (br_t ?_ ?_)
    · rw [qf_cl hc]
      refine Classical.not_not.mp (fun y => ?_)
      have h1 := (h6 _).mp y
      have h2 := hE.2.2.1 z
      rw [hz0] at h2
      have h3 : E (z + 1 + 0) = E (z + 1) := rfl
      omega
    · have h2 := hE.2.2.1 z
      have h3 := ho (z + 1) (by omega) (by omega)
      exact qf_rs37 (z := z) (B := z + 1) (u := 0) hc hE hN1 hN2 hNt h5 hz2 (by omega) (by omega) ⟨by rw [Nat.add_zero]; omega, fun i hi => absurd hi (by omega)⟩ (fun _ => by rw [Nat.add_zero]; omega) ho H
  · intro n i _ hi hw
    refine And.intro (qf_in hc _) (br_c ?_ ?_)
    · intro y
      rw [qf_cl hc] at y
      have h1 : ¬ 2 ≤ E (z + 1 + (i + 1)) := fun q => (h6 _).mpr q y
      have h3 := ho (z + 1 + (i + 1)) (by omega) (by omega)
      exact qf_rs37 (z := z) (B := z + 1 + (i + 1)) (u := 0) hc hE hN1 hN2 hNt h5 hz2 (by omega) (by omega) ⟨by rw [Nat.add_zero]; omega, fun i hi => absurd hi (by omega)⟩ (fun _ => by rw [Nat.add_zero]; omega) ho H
    · intro _
      refine qf_before hc (by omega) ?_
      rw [show z + 1 + (i + 1) - 1 = z + 1 + i by omega]
      exact hw () (by omega)
end
end
section
/-! how often a fingerprint stands in the filter -/
section
variable {rc : Int32} {a1 a2 a3 a4 a5 a6 a7 : Nat → Int32} {f q m r : Nat} {E V : Nat → Nat}
theorem qf_own_eq (hE : qf_E m E) (hL : qf_L f m r E V a3) {t y : Nat} (ht : m ≤ t) (h1 : t ≤ y) (h2 : y < t + m) (h0 : E y ≠ 0) (hv : V y / 2 ^ r = t % m) : y + 1 = t + E y := by
  obtain ⟨_, l2, _⟩ := hL y h0
  have hm := hE.1
  have h3 := qf_lt hE y
  rw [hv, Nat.mod_add_mod, show y + 1 = (y + 1 - E y) + E y by omega] at l2
  have h4 := qf_mc hm l2
  rcases Nat.lt_or_ge (y + 1 - E y) t with z | z
  · have := qf_md1 (a := y + 1 - E y) (by omega) (by omega) (by omega) (by omega) h4
    omega
  · have := qf_md1 (a := t) (by omega) (by omega) (by omega) (by omega) h4
    omega
theorem qf_cnt0 (hE : qf_E m E) (hV : ∀ x, V (x + m) = V x) (hL : qf_L f m r E V a3) {t v : Nat} (ht : m ≤ t) (hv : v / 2 ^ r = t % m) (hn : ¬ ∃ j, E (t + j) = j + 1) : List.count v (qf_win E V 0 m) = 0 := by
  rw [← (qf_win_rot hE hV t).count_eq]
  refine List.count_eq_zero.mpr (fun z => ?_)
  obtain ⟨i, hi, h0, e⟩ := qf_win_mem z
  have h1 := qf_own_eq hE hL ht (show t ≤ t + i by omega) (by omega) h0 (by rw [e]; exact hv)
  exact hn ⟨i, by omega⟩
theorem qf_cnt (hE : qf_E m E) (hV : ∀ x, V (x + m) = V x) (hL : qf_L f m r E V a3) {t u k v : Nat} (ht : m ≤ t) (hv : v / 2 ^ r = t % m) (hr : qf_RS E t u) (hk : ∀ i, i ≤ k → E (t + u + i) = u + 1 + i) (hk' : E (t + u + k + 1) ≤ u + 1 + k) :
    List.count v (qf_win E V 0 m) = List.count v (qf_win E V (t + u) (k + 1)) := by
  rw [← (qf_win_rot hE hV t).count_eq]
  have h1 := qf_lt hE (t + u + k)
  rw [hk k (Nat.le_refl _)] at h1
  obtain ⟨n, hn⟩ : ∃ n, m = u + (k + 1) + n := ⟨m - u - k - 1, by omega⟩
  have h2 : List.count v (qf_win E V t u) = 0 := by
    refine List.count_eq_zero.mpr (fun z => ?_)
    obtain ⟨i, hi, h0, e⟩ := qf_win_mem z
    have h3 := qf_own_eq hE hL ht (show t ≤ t + i by omega) (by omega) h0 (by rw [e]; exact hv)
    have h4 := hr.2 i hi
    omega
  have h3 : List.count v (qf_win E V (t + (u + (k + 1))) n) = 0 := by
    refine List.count_eq_zero.mpr (fun z => ?_)
    obtain ⟨i, hi, h0, e⟩ := qf_win_mem z
    have h3 := qf_own_eq hE hL ht (show t ≤ t + (u + (k + 1)) + i by omega) (by omega) h0 (by rw [e]; exact hv)
    have h4 := qf_up hE (t + u + k + 1) i
    rw [show t + (u + (k + 1)) + i = t + u + k + 1 + i by omega] at h3
    omega
  rw [hn, qf_win_add, qf_win_add, List.count_append, List.count_append, h2, h3]
  omega
theorem qf_ti46 {post : Int32 → Prop} {t u k v : Nat} (hc : qf_C f q m a1) (hE : qf_E m E) (hA : qf_A f m E a4 a5 a6) (hL : qf_L f m r E V a3)
    (hv : v / 2 ^ r = t % m) (hk : ∀ i, i ≤ k → E (t + u + i) = u + 1 + i) (hk' : E (t + u + k + 1) ≤ u + 1 + k) (hr : 2 ^ r < 2 ^ 31)
    (H : post (nI (List.count v (qf_win E V (t + u) (k + 1))))) : ∃ n, wX_timesOf_46 post (nI f) (nI (v % 2 ^ r)) rc a1 a2 a3 a4 a5 a6 a7 n (nI ((t + u) % m)) 0 1 := by
  have hm := hE.1
  have key : ∀ n, wX_timesOf_46 post (nI f) (nI (v % 2 ^ r)) rc a1 a2 a3 a4 a5 a6 a7 n (nI ((t + u + 0) % m)) (nI (List.count v (qf_win E V (t + u) 0))) (if 0 = 0 then 1 else a5 (qf_ix f m (t + u + 0))) → wX_timesOf_46 post (nI f) (nI (v % 2 ^ r)) rc a1 a2 a3 a4 a5 a6 a7 n (nI ((t + u) % m)) 0 1 := fun n h => h
  refine Exists.imp key (pk_loop (σ := Unit) (fun n i _ => wX_timesOf_46 post (nI f) (nI (v % 2 ^ r)) rc a1 a2 a3 a4 a5 a6 a7 n (nI ((t + u + i) % m)) (nI (List.count v (qf_win E V (t + u) i))) (if i = 0 then 1 else a5 (qf_ix f m (t + u + i)))) (fun _ _ => True) (k + 1) 0 () (by omega) trivial ?_ ?_)
  · intro n _ _
    refine br_t ?_ H
    rw [if_neg (by omega)]
    refine (qf_is0 (hA.2.1 (t + u + k))).mpr (fun z => ?_)
    have := hk k (Nat.le_refl _)
    omega
  · intro n i _ hi _ hw
    have h1 := hw () trivial
    have hi' := hk i (by omega)
    refine br_f ?_ (qf_base (And.intro (qf_in hc _) ?_))
    · by_cases e : i = 0
      · rw [if_pos e]; decide
      · rw [if_neg e, show t + u + i = t + u + (i - 1) + 1 by omega]
        refine (qf_is1 (hA.2.1 (t + u + (i - 1)))).mpr ?_
        have h2 := hk (i - 1) (by omega)
        rw [show t + u + i = t + u + (i - 1) + 1 by omega] at hi'
        omega
    · have h0 : E (t + u + i) ≠ 0 := by omega
      obtain ⟨l1, l2, l3⟩ := hL _ h0
      rw [qf_cl hc, l3]
      have hq : V (t + u + i) / 2 ^ r = v / 2 ^ r := by
        rw [hv]
        have h2 : (V (t + u + i) / 2 ^ r + E (t + u + i)) % m = (t + E (t + u + i)) % m := by
          rw [l2, hi', show t + u + i + 1 = t + (u + 1 + i) by omega]
        have h3 := qf_mc hm h2
        rw [Nat.mod_eq_of_lt l1] at h3
        exact h3
      have hlt : ∀ a : Nat, a % 2 ^ r < 2 ^ 31 := fun a => Nat.lt_trans (Nat.mod_lt a (Nat.two_pow_pos r)) hr
      rw [if_neg (by omega), qf_win_s, if_neg h0, List.count_append] at h1
      have h72 : ∀ x6 : Int32, x6 = nI (List.count v (qf_win E V (t + u) i) + List.count v [V (t + u + i)]) → wX_timesOf_72 post (wX_timesOf_46 post (nI f) (nI (v % 2 ^ r)) rc a1 a2 a3 a4 a5 a6 a7 n) (nI f) (nI (v % 2 ^ r)) (nI ((t + u + i) % m)) x6 rc a1 a2 a3 a4 a5 a6 a7 := by
        intro x6 e
        subst e
        refine qf_after hc (qf_base (And.intro (qf_in hc _) (nm_r ?_ h1)))
        rw [qf_cl hc]
        rfl
      refine pk_eq (V (t + u + i) % 2 ^ r) (v % 2 ^ r) (fun e => nm_e (h72 _ ?_)) (fun e => h72 _ ?_) rfl rfl (hlt _) (hlt _)
      · have h2 : V (t + u + i) = v := by
          rw [← Nat.div_add_mod (V (t + u + i)) (2 ^ r), hq, e, Nat.div_add_mod]
        rw [h2, List.count_singleton_self, nI_1]
      · have h2 : V (t + u + i) ≠ v := fun z => e (by rw [z])
        have h3 : List.count v [V (t + u + i)] = 0 := List.count_eq_zero.mpr (fun z => h2 (List.mem_singleton.mp z).symm)
        rw [h3]
        rfl
theorem qf_timesOf {post : Int32 → Prop} {v : Nat} (hc : qf_C f q m a1) (hE : qf_E m E) (hV : ∀ x, V (x + m) = V x) (hA : qf_A f m E a4 a5 a6) (hL : qf_L f m (8 - q) E V a3) (hv : v < 256)
    (H : post (nI (List.count v (qf_win E V 0 m)))) : wpX_timesOf post (rc, a1, a2, a3, a4, a5, a6, a7) (nI f) (nI v) := by
  obtain ⟨t, ht, hvt⟩ : ∃ t, m ≤ t ∧ v / 2 ^ (8 - q) = t % m := ⟨m + v / 2 ^ (8 - q), Nat.le_add_right m _, by rw [Nat.add_mod_left, Nat.mod_eq_of_lt (qf_C_v' hc hv)]⟩
  unfold wpX_timesOf
  refine qf_slotOf hc hv (qf_lowerOf hc hv (qf_base ?_))
  rw [hvt]
  refine And.intro (qf_in hc _) ?_
  rw [qf_cl hc]
  refine br_c (fun e => ?_) (fun e => ?_)
  · rw [qf_cnt0 hE hV hL ht hvt ((qf_is0 (hA.1 t)).mp e)] at H
    exact H
  · have hn := (qf_is1 (hA.1 t)).mp e
    refine qf_runStart hc hE (fun x z => (qf_is1 (hA.1 x)).mpr z) (fun x z => Or.inr ((qf_is1 (hA.1 x)).mp z)) e (fun x => qf_is1 (hA.2.1 x)) (fun x => qf_is1 (hA.2.2 x)) ht (qf_named hE hn) (fun u hu => ?_)
    have he := qf_rs_run hE hu hn
    obtain ⟨k, _, hk, hk'⟩ := qf_run hE he (by omega)
    refine qf_ti46 hc hE hA hL hvt hk hk' ?_ ?_
    · have h1 : 2 ^ (8 - q) ≤ 2 ^ 8 := Nat.pow_le_pow_right (by decide) (by omega)
      omega
    · rw [← qf_cnt hE hV hL ht hvt hu hk hk']
      exact H
end
end
section
/-! pushing along -/
def qf_hd {α : Type} (x : α) (g : Nat → α) : Nat → α
  | 0 => x
  | n + 1 => g n
def qf_PI (f m p : Nat) (bits fol awy : Int32) (a3 a5 a6 : Nat → Int32) (i : Nat) (b3 b5 b6 : Nat → Int32) : Prop :=
  (∀ j, j < i → b3 (qf_ix f m (p + j)) = (qf_hd bits (fun j => a3 (qf_ix f m (p + j))) j).toInt8.toInt32 ∧ b5 (qf_ix f m (p + j)) = vp_nar .boolean (qf_hd fol (fun j => a5 (qf_ix f m (p + j))) j) ∧ b6 (qf_ix f m (p + j)) = vp_nar .boolean (qf_hd awy (fun _ => 1) j)) ∧
  (∀ j, (∀ i', i' < i → j ≠ qf_ix f m (p + i')) → b3 j = a3 j ∧ b5 j = a5 j ∧ b6 j = a6 j)
section
variable {rc : Int32} {a1 a2 a3 a4 a5 a6 a7 : Nat → Int32} {f q m r : Nat} {E V : Nat → Nat}
theorem qf_push {post : St2 → Prop} {p k : Nat} {bits fol awy : Int32} (hc : qf_C f q m a1) (hk : k < m) (h0 : ∀ i, i < k → ¬ qf_no a4 a5 a6 (qf_ix f m (p + i))) (h1 : qf_no a4 a5 a6 (qf_ix f m (p + k)))
    (H : ∀ b3 b5 b6, qf_PI f m p bits fol awy a3 a5 a6 (k + 1) b3 b5 b6 → post (rc, a1, a2, b3, a4, b5, b6, a7)) : wpX_push post (rc, a1, a2, a3, a4, a5, a6, a7) (nI f) (nI (p % m)) bits fol awy := by
  unfold wpX_push
  refine qf_base ?_
  refine pk_loop (σ := (Nat → Int32) × (Nat → Int32) × (Nat → Int32)) (fun n i s => wX_push_24 post (nI f) (nI (64 * f)) rc n (nI ((p + i) % m)) (qf_hd bits (fun j => a3 (qf_ix f m (p + j))) i) (qf_hd fol (fun j => a5 (qf_ix f m (p + j))) i) (qf_hd awy (fun _ => 1) i) (if i ≤ k then 1 else 0) a1 a2 s.1 a4 s.2.1 s.2.2 a7)
    (fun i s => qf_PI f m p bits fol awy a3 a5 a6 i s.1 s.2.1 s.2.2) (k + 1) 0 (a3, a5, a6) (by omega) ⟨fun j hj => absurd hj (by omega), fun j _ => ⟨rfl, rfl, rfl⟩⟩ ?_ ?_
  · intro n s hs
    refine br_t (if_neg (by omega)) (H _ _ _ hs)
  · intro n i s hi hs hw
    have e : ∀ i', i' < i → qf_ix f m (p + i) ≠ qf_ix f m (p + i') := by
      intro i' hi' z
      have := qf_md1 (a := p) (by omega) (by omega) (by omega) (by omega) (qf_ix_i z)
      omega
    obtain ⟨o3, o5, o6⟩ := hs.2 (qf_ix f m (p + i)) e
    have hno : qf_no a4 s.2.1 s.2.2 (qf_ix f m (p + i)) ↔ qf_no a4 a5 a6 (qf_ix f m (p + i)) := by
      unfold qf_no
      rw [o5, o6]
    refine br_f (by rw [if_pos (by omega)]; decide) ?_
    have go : ∀ r3 : Int32, r3 = (if i + 1 ≤ k then 1 else 0) → vp_in (nI (64 * f) + nI ((p + i) % m)) 128 ∧ (∀ x12_5 : Int32, x12_5 = s.1 (nI (64 * f) + nI ((p + i) % m)).toNatClampNeg → (vp_in (nI (64 * f) + nI ((p + i) % m)) 128 ∧ (∀ x13_7 : Int32, x13_7 = s.2.1 (nI (64 * f) + nI ((p + i) % m)).toNatClampNeg → (vp_in (nI (64 * f) + nI ((p + i) % m)) 128 ∧ ∀ a3_9 : Nat → Int32, a3_9 = upd s.1 (nI (64 * f) + nI ((p + i) % m)).toNatClampNeg ((qf_hd bits (fun j => a3 (qf_ix f m (p + j))) i).toInt8.toInt32) → (vp_in (nI (64 * f) + nI ((p + i) % m)) 128 ∧ ∀ a5_11 : Nat → Int32, a5_11 = upd s.2.1 (nI (64 * f) + nI ((p + i) % m)).toNatClampNeg (vp_nar .boolean (qf_hd fol (fun j => a5 (qf_ix f m (p + j))) i)) → (vp_in (nI (64 * f) + nI ((p + i) % m)) 128 ∧ ∀ a6_13 : Nat → Int32, a6_13 = upd s.2.2 (nI (64 * f) + nI ((p + i) % m)).toNatClampNeg (vp_nar .boolean (qf_hd awy (fun _ => 1) i)) → (wpX_after (fun r_14 => wX_push_24 post (nI f) (nI (64 * f)) rc n r_14 x12_5 x13_7 1 r3 a1 a2 a3_9 a4 a5_11 a6_13 a7) (rc, a1, a2, a3_9, a4, a5_11, a6_13, a7) (nI f) (nI ((p + i) % m))))))))) := by
      intro r3 er
      subst er
      rw [qf_cl hc, o3, o5]
      refine ⟨qf_in hc _, nm_e ⟨qf_in hc _, nm_e ⟨qf_in hc _, nm_e ⟨qf_in hc _, nm_e ⟨qf_in hc _, nm_e (qf_after hc ?_)⟩⟩⟩⟩⟩
      refine hw (upd s.1 (qf_ix f m (p + i)) ((qf_hd bits (fun j => a3 (qf_ix f m (p + j))) i).toInt8.toInt32), upd s.2.1 (qf_ix f m (p + i)) (vp_nar .boolean (qf_hd fol (fun j => a5 (qf_ix f m (p + j))) i)), upd s.2.2 (qf_ix f m (p + i)) (vp_nar .boolean (qf_hd awy (fun _ => 1) i))) ⟨fun j hj => ?_, fun j hj => ?_⟩
      · rcases Nat.lt_or_ge j i with z | z
        · have hne : qf_ix f m (p + j) ≠ qf_ix f m (p + i) := fun y => e j z y.symm
          dsimp only
          rw [pk_un hne, pk_un hne, pk_un hne]
          exact hs.1 j z
        · rw [show j = i by omega]
          exact ⟨pk_us, pk_us, pk_us⟩
      · have hne : j ≠ qf_ix f m (p + i) := hj i (by omega)
        dsimp only
        rw [pk_un hne, pk_un hne, pk_un hne]
        exact hs.2 j (fun i' hi' => hj i' (by omega))
    refine qf_holds hc (fun z => go 0 ?_) (fun z => go 1 ?_)
    · rw [if_neg (fun y => ?_)]
      exact h0 i (by omega) (hno.mp z)
    · rw [if_pos ?_]
      rcases Nat.lt_or_ge i k with y | y
      · omega
      · rw [show i = k by omega] at z hno
        exact absurd (hno.mpr h1) z
end
end
section
/-! putting a fingerprint in -/
/-- filter f: 2^q slots, content l -/
def qf_R (f q : Nat) (l : List Nat) (a1 a2 a3 a4 a5 a6 : Nat → Int32) : Prop :=
  qf_C f q (2 ^ q) a1 ∧ a2 f = nI l.length ∧ qf_Q f (2 ^ q) (8 - q) l a3 a4 a5 a6
/-- outside the places of filter f nothing changes -/
def qf_fr (f : Nat) (a b : Nat → Int32) : Prop := ∀ j, (j < 64 * f ∨ 64 * f + 64 ≤ j) → b j = a j
/-- what the other filter keeps -/
def qf_K (f : Nat) (a1 a2 a3 a4 a5 a6 b1 b2 b3 b4 b5 b6 : Nat → Int32) : Prop :=
  (∀ g, g ≠ f → b1 g = a1 g ∧ b2 g = a2 g) ∧ qf_fr f a3 b3 ∧ qf_fr f a4 b4 ∧ qf_fr f a5 b5 ∧ qf_fr f a6 b6
section
variable {rc : Int32} {a1 a2 a3 a4 a5 a6 a7 b1 b2 b3 b4 b5 b6 c1 c2 c3 c4 c5 c6 : Nat → Int32} {f q m r : Nat} {E V : Nat → Nat} {l : List Nat}
theorem qf_fr_r (f : Nat) (a : Nat → Int32) : qf_fr f a a := fun _ _ => rfl
theorem qf_fr_t {a b c : Nat → Int32} (h1 : qf_fr f a b) (h2 : qf_fr f b c) : qf_fr f a c := fun j hj => (h2 j hj).trans (h1 j hj)
theorem qf_fr_u {a b : Nat → Int32} {x : Int32} {j : Nat} (h1 : qf_fr f a b) (hj : 64 * f ≤ j) (hj' : j < 64 * f + 64) : qf_fr f a (upd b j x) := fun i hi => by
  rw [pk_un (by omega)]
  exact h1 i hi
theorem qf_K_r : qf_K f a1 a2 a3 a4 a5 a6 a1 a2 a3 a4 a5 a6 := ⟨fun _ _ => ⟨rfl, rfl⟩, qf_fr_r _ _, qf_fr_r _ _, qf_fr_r _ _, qf_fr_r _ _⟩
theorem qf_K_t (h : qf_K f a1 a2 a3 a4 a5 a6 b1 b2 b3 b4 b5 b6) (h' : qf_K f b1 b2 b3 b4 b5 b6 c1 c2 c3 c4 c5 c6) : qf_K f a1 a2 a3 a4 a5 a6 c1 c2 c3 c4 c5 c6 :=
  ⟨fun g hg => ⟨((h'.1 g hg).1).trans (h.1 g hg).1, ((h'.1 g hg).2).trans (h.1 g hg).2⟩, qf_fr_t h.2.1 h'.2.1, qf_fr_t h.2.2.1 h'.2.2.1, qf_fr_t h.2.2.2.1 h'.2.2.2.1, qf_fr_t h.2.2.2.2 h'.2.2.2.2⟩
theorem qf_keep (h : qf_K f a1 a2 a3 a4 a5 a6 b1 b2 b3 b4 b5 b6) {g : Nat} (hg : g ≠ f) (hR : qf_R g q l a1 a2 a3 a4 a5 a6) : qf_R g q l b1 b2 b3 b4 b5 b6 := by
  obtain ⟨hc, h2, E, V, hE, hV, hA, hL, hl⟩ := hR
  have hj : ∀ x, qf_ix g (2 ^ q) x < 64 * f ∨ 64 * f + 64 ≤ qf_ix g (2 ^ q) x := by
    intro x
    have := qf_C_lt hc x
    unfold qf_ix
    omega
  have hg' := h.1 g hg
  refine ⟨⟨hc.1, hc.2.1, hc.2.2.1, hc.2.2.2.1, by rw [hg'.1]; exact hc.2.2.2.2⟩, by rw [hg'.2]; exact h2, E, V, hE, hV, ⟨fun x => ?_, fun x => ?_, fun x => ?_⟩, fun x => ?_, hl⟩
  · rw [h.2.2.1 _ (hj x)]
    exact hA.1 x
  · rw [h.2.2.2.1 _ (hj _)]
    exact hA.2.1 x
  · rw [h.2.2.2.2 _ (hj x)]
    exact hA.2.2 x
  · rw [h.2.1 _ (hj x)]
    exact hL x
theorem qf_R_p {l' : List Nat} (hR : qf_R f q l a1 a2 a3 a4 a5 a6) (hp : l.Perm l') : qf_R f q l' a1 a2 a3 a4 a5 a6 := by
  obtain ⟨hc, h2, E, V, hE, hV, hA, hL, hl⟩ := hR
  exact ⟨hc, by rw [← hp.length_eq]; exact h2, E, V, hE, hV, hA, hL, hl.trans hp⟩
theorem qf_ix_in (hc : qf_C f q m a1) (x : Nat) : 64 * f ≤ qf_ix f m x ∧ qf_ix f m x < 64 * f + 64 := by
  have := qf_C_lt hc x
  unfold qf_ix
  omega
theorem qf_low (hc : qf_C f q m a1) (a : Nat) : (nI (a % 2 ^ (8 - q))).toInt8.toInt32 = nI (a % 2 ^ (8 - q)) := by
  have h1 : 2 ^ (8 - q) ≤ 2 ^ 5 := Nat.pow_le_pow_right (by decide) (by have := hc.2.1; omega)
  have h2 := Nat.mod_lt a (Nat.two_pow_pos (8 - q))
  exact qf_d_by _ (by omega)
theorem qf_insC {post : St2 → Prop} {p t w v : Nat} {fol awy : Int32} {g5 : Nat → Int32} (hc : qf_C f q m a1) (hE : qf_E m E) (hV : ∀ x, V (x + m) = V x) (hA : qf_A f m E a4 a5 a6) (hL : qf_L f m (8 - q) E V a3) (hl : (qf_win E V 0 m).Perm l) (hn : l.length + 2 ≤ m)
    (hp : p = t + w) (h0 : 0 < p) (hw : w ≤ E (p - 1)) (hw' : E p ≤ w + 1) (ht : E t ≠ 0)
    (hv : v < 256) (hvt : v / 2 ^ (8 - q) = t % m) (h5 : qf_is fol (E (p - 1) ≠ 0 ∧ E (p - 1) = w)) (h6 : qf_is awy (w ≠ 0))
    (hg : ∀ j, j ≠ qf_ix f m p → g5 j = a5 j) (hg' : E p ≠ 0 → qf_is (g5 (qf_ix f m p)) (E p = w + 1)) (hg0 : E p = 0 → g5 (qf_ix f m p) = a5 (qf_ix f m p))
    (H : ∀ b3 b5 b6, qf_Q f m (8 - q) (v :: l) b3 (upd a4 (qf_ix f m t) 1) b5 b6 → qf_fr f a3 b3 → qf_fr f a5 b5 → qf_fr f a6 b6 → post (rc, a1, a2, b3, upd a4 (qf_ix f m t) 1, b5, b6, a7)) :
    wpX_push post (rc, a1, a2, a3, upd a4 (qf_ix f m t) 1, g5, a6, a7) (nI f) (nI (p % m)) (nI (v % 2 ^ (8 - q))) fol awy := by
  obtain ⟨k, hk, hk0, hk1⟩ := qf_zf hE p
  have hno1 : ∀ i, i < k → ¬ qf_no (upd a4 (qf_ix f m t) 1) g5 a6 (qf_ix f m (p + i)) := by
    intro i hi z
    have h1 := hk1 i hi
    have h2 := (qf_is0 (hA.2.2 (p + i))).mp z.2.2
    have h3 := z.1
    by_cases e : qf_ix f m (p + i) = qf_ix f m t
    · rw [e, pk_us] at h3
      exact absurd h3 (by decide)
    · rw [pk_un e] at h3
      exact (qf_is0 (hA.1 (p + i))).mp h3 ⟨0, by rw [Nat.add_zero]; omega⟩
  have hno0 : qf_no (upd a4 (qf_ix f m t) 1) g5 a6 (qf_ix f m (p + k)) := by
    have h1 := (qf_noE hE hA (p + k)).mpr hk0
    refine ⟨?_, ?_, h1.2.2⟩
    · rw [pk_un (fun e => ht (by rw [← qf_mod hE (qf_ix_i e)]; exact hk0))]
      exact h1.1
    · by_cases e : qf_ix f m (p + k) = qf_ix f m p
      · have h2 := qf_mod hE (qf_ix_i e)
        rw [e, hg0 (by rw [← h2]; exact hk0), ← e]
        exact h1.2.1
      · rw [hg _ e]
        exact h1.2.1
  refine qf_push hc hk hno1 hno0 (fun b3 b5 b6 hPI => ?_)
  have hout : ∀ j, (j < 64 * f ∨ 64 * f + 64 ≤ j) → b3 j = a3 j ∧ b5 j = g5 j ∧ b6 j = a6 j := by
    intro j hj
    refine hPI.2 j (fun i' _ => ?_)
    have := qf_ix_in hc (p + i')
    omega
  have hfl : ∀ i, i < k → vp_nar .boolean (g5 (qf_ix f m (p + i))) = g5 (qf_ix f m (p + i)) := by
    intro i hi
    by_cases e : qf_ix f m (p + i) = qf_ix f m p
    · have h2 := qf_mod hE (qf_ix_i e)
      rw [e]
      exact qf_is_nar (hg' (by rw [← h2]; exact hk1 i hi))
    · rw [hg _ e]
      have h3 := hA.2.1 (p + i - 1)
      rw [show p + i - 1 + 1 = p + i by omega] at h3
      exact qf_is_nar h3
  have p0 := hPI.1 0 (by omega)
  refine H b3 b5 b6 (qf_ins (g5 := g5) hE hV hA hL hl hn hp h0 hw hw' hk hk0 hk1 (qf_C_v' hc hv) hvt ⟨fun i hi => ?_, fun j hj => hPI.2 j (fun i' hi' => hj i' (by omega))⟩ ?_ ?_ ?_ hg hg') (fun j hj => (hout j hj).1) (fun j hj => ?_) (fun j hj => (hout j hj).2.2)
  · obtain ⟨q3, q5, q6⟩ := hPI.1 (i + 1) (by omega)
    refine ⟨?_, ?_, ?_⟩
    · refine q3.trans ?_
      show (a3 (qf_ix f m (p + i))).toInt8.toInt32 = _
      rw [(hL _ (hk1 i hi)).2.2]
      exact qf_low hc _
    · exact q5.trans (hfl i hi)
    · exact q6.trans (show vp_nar .boolean (1 : Int32) = 1 from rfl)
  · refine p0.1.trans ?_
    exact qf_low hc _
  · have h7 := p0.2.1
    rw [Nat.add_zero] at h7
    rw [h7]
    show qf_is (vp_nar .boolean fol) _
    rw [qf_is_nar h5]
    exact h5
  · have h7 := p0.2.2
    rw [Nat.add_zero] at h7
    rw [h7]
    show qf_is (vp_nar .boolean awy) _
    rw [qf_is_nar h6]
    exact h6
  · have h7 := qf_ix_in hc p
    rw [(hout j hj).2.1]
    exact hg j (by omega)
theorem qf_in191 {post : St2 → Prop} {p t w v : Nat} {fol : Int32} {g5 : Nat → Int32} (hc : qf_C f q m a1) (hE : qf_E m E) (hV : ∀ x, V (x + m) = V x) (hA : qf_A f m E a4 a5 a6) (hL : qf_L f m (8 - q) E V a3) (hl : (qf_win E V 0 m).Perm l) (hn : l.length + 2 ≤ m)
    (hp : p = t + w) (h0 : 0 < p) (hwm : w < m) (hw : w ≤ E (p - 1)) (hw' : E p ≤ w + 1) (ht : E t ≠ 0)
    (hv : v < 256) (hvt : v / 2 ^ (8 - q) = t % m) (h5 : qf_is fol (E (p - 1) ≠ 0 ∧ E (p - 1) = w))
    (hg : ∀ j, j ≠ qf_ix f m p → g5 j = a5 j) (hg' : E p ≠ 0 → qf_is (g5 (qf_ix f m p)) (E p = w + 1)) (hg0 : E p = 0 → g5 (qf_ix f m p) = a5 (qf_ix f m p))
    (H : ∀ b3 b5 b6, qf_Q f m (8 - q) (v :: l) b3 (upd a4 (qf_ix f m t) 1) b5 b6 → qf_fr f a3 b3 → qf_fr f a5 b5 → qf_fr f a6 b6 → post (rc, a1, a2, b3, upd a4 (qf_ix f m t) 1, b5, b6, a7)) :
    wX_insert_191 post (nI (t % m)) (nI (p % m)) fol (nI (v % 2 ^ (8 - q))) (nI (p % m)) (nI f) rc a1 a2 a3 (upd a4 (qf_ix f m t) 1) g5 a6 a7 := by
  unfold wX_insert_191
  refine pk_eq (p % m) (t % m) (fun e => ?_) (fun e => ?_) rfl rfl (Nat.lt_trans (qf_C_lt hc _) (by decide)) (Nat.lt_trans (qf_C_lt hc _) (by decide))
  · have h1 := qf_md1 (a := t) (by omega) (by omega) (by omega) (by omega) e
    unfold wX_insert_203
    exact qf_insC hc hE hV hA hL hl hn hp h0 hw hw' ht hv hvt h5 (qf_is_f (by omega)) hg hg' hg0 H
  · have h1 : w ≠ 0 := fun z => e (by rw [hp, z, Nat.add_zero])
    unfold wX_insert_203
    exact qf_insC hc hE hV hA hL hl hn hp h0 hw hw' ht hv hvt h5 (qf_is_t h1) hg hg' hg0 H
theorem qf_in146 {post : St2 → Prop} {t u i v : Nat} {x6 : Int32} (hc : qf_C f q m a1) (hE : qf_E m E) (hV : ∀ x, V (x + m) = V x) (hA : qf_A f m E a4 a5 a6) (hL : qf_L f m (8 - q) E V a3) (hl : (qf_win E V 0 m).Perm l) (hn : l.length + 2 ≤ m)
    (htm : m ≤ t) (ht : E t ≠ 0) (hu : u < m) (hr : qf_RS E t u) (h6 : qf_is x6 (∃ j, E (t + j) = j + 1)) (hi : ∀ j, j < i → E (t + u + j) = u + 1 + j)
    (hv : v < 256) (hvt : v / 2 ^ (8 - q) = t % m)
    (H : ∀ b3 b5 b6, qf_Q f m (8 - q) (v :: l) b3 (upd a4 (qf_ix f m t) 1) b5 b6 → qf_fr f a3 b3 → qf_fr f a5 b5 → qf_fr f a6 b6 → post (rc, a1, a2, b3, upd a4 (qf_ix f m t) 1, b5, b6, a7)) :
    wX_insert_146 post (nI f) (nI (64 * f)) (nI (t % m)) (nI (v % 2 ^ (8 - q))) x6 (nI ((t + u) % m)) (nI ((t + u + i) % m)) rc a1 a2 a3 (upd a4 (qf_ix f m t) 1) a5 a6 a7 := by
  have hm := hE.1
  -- what stands ahead of the run's first place
  have hb : ¬ (E (t + u - 1) ≠ 0 ∧ E (t + u - 1) = u) ∧ u ≤ E (t + u - 1) := by
    rcases Nat.eq_zero_or_pos u with z | z
    · omega
    · have h1 := hr.2 (u - 1) (by omega)
      rw [show t + (u - 1) = t + u - 1 by omega] at h1
      omega
  have h5p : ∀ x, 0 < x → qf_is (a5 (qf_ix f m x)) (E (x - 1) ≠ 0 ∧ E x = E (x - 1) + 1) := by
    intro x hx
    have h1 := hA.2.1 (x - 1)
    rw [show x - 1 + 1 = x by omega] at h1
    exact h1
  unfold wX_insert_146
  rcases Classical.em (∃ j, E (t + j) = j + 1) with hn' | hn'
  · have he := qf_rs_run hE hr hn'
    have hx6 := h6.1 hn'
    refine br_f (by rw [hx6]; decide) ?_
    rcases Nat.eq_zero_or_pos i with z | z
    · subst z
      refine br_t rfl (And.intro (qf_in hc _) (nm_e ?_))
      rw [qf_cl hc]
      unfold wX_insert_168
      refine br_f (by rw [hx6]; decide) (br_t rfl ?_)
      unfold wX_insert_190
      refine qf_in191 (w := u) hc hE hV hA hL hl hn rfl (by omega) hu hb.2 hr.1 ht hv hvt (qf_is_f hb.1) (fun j hj => pk_un hj) (fun _ => ?_) (fun y => ?_) H
      · rw [Nat.add_zero, pk_us]
        exact qf_is_t he
      · rw [Nat.add_zero] at y
        omega
    · have h1 := hi (i - 1) (by omega)
      rw [show t + u + (i - 1) = t + u + i - 1 by omega] at h1
      have h2 := qf_lt hE (t + u + i - 1)
      have hne : ¬ nI ((t + u + i) % m) = nI ((t + u) % m) := by
        intro e
        rw [nI_eq (Nat.lt_trans (qf_C_lt hc _) (by decide)) (Nat.lt_trans (qf_C_lt hc _) (by decide))] at e
        have := qf_md1 (a := t + u) (by omega) (by omega) (by omega) (by omega) e
        omega
      refine br_f hne ?_
      unfold wX_insert_168
      refine br_f (by rw [hx6]; decide) (br_f hne ?_)
      have h3 := hE.2.2.1 (t + u + i - 1)
      rw [show t + u + i - 1 + 1 = t + u + i by omega] at h3
      refine qf_in191 (p := t + u + i) (w := u + i) hc hE hV hA hL hl hn (by omega) (by omega) (by omega) (by omega) (by omega) ht hv hvt (qf_is_t (by omega)) (fun j _ => rfl) (fun _ => ?_) (fun _ => rfl) H
      refine qf_is_c (h5p (t + u + i) (by omega)) ?_
      omega
  · have hx6 := h6.2 hn'
    have z : i = 0 := by
      rcases Nat.eq_zero_or_pos i with z | z
      · exact z
      · exact absurd ⟨u, by have := hi 0 z; rw [Nat.add_zero] at this; omega⟩ hn'
    subst z
    have hu0 : 0 < u := by
      rcases Nat.eq_zero_or_pos u with z | z
      · have h1 := hr.1
        rw [z, Nat.add_zero] at h1
        exact absurd ⟨0, by rw [Nat.add_zero]; omega⟩ hn'
      · exact z
    have he : E (t + u) ≠ u + 1 := fun z => hn' ⟨u, z⟩
    refine br_t hx6 ?_
    unfold wX_insert_168
    refine br_t hx6 ?_
    unfold wX_insert_190
    refine qf_in191 (w := u) hc hE hV hA hL hl hn rfl (by omega) hu hb.2 hr.1 ht hv hvt (qf_is_f hb.1) (fun j hj => rfl) (fun _ => ?_) (fun y => rfl) H
    refine qf_is_c (h5p (t + u) (by omega)) ?_
    show _ ↔ E (t + u) = u + 1
    have h1 := hr.1
    omega
end
end
section
/-! insert, whole -/
section
variable {rc : Int32} {a1 a2 a3 a4 a5 a6 a7 : Nat → Int32} {f q m : Nat} {E V : Nat → Nat} {l : List Nat}
theorem qf_in104 {post : St2 → Prop} {t u v : Nat} {x6 : Int32} (hc : qf_C f q m a1) (hE : qf_E m E) (hV : ∀ x, V (x + m) = V x) (hA : qf_A f m E a4 a5 a6) (hL : qf_L f m (8 - q) E V a3) (hl : (qf_win E V 0 m).Perm l) (hn : l.length + 2 ≤ m)
    (htm : m ≤ t) (ht : E t ≠ 0) (hu : u < m) (hr : qf_RS E t u) (h6 : qf_is x6 (∃ j, E (t + j) = j + 1))
    (hv : v < 256) (hvt : v / 2 ^ (8 - q) = t % m)
    (H : ∀ b3 b5 b6, qf_Q f m (8 - q) (v :: l) b3 (upd a4 (qf_ix f m t) 1) b5 b6 → qf_fr f a3 b3 → qf_fr f a5 b5 → qf_fr f a6 b6 → post (rc, a1, a2, b3, upd a4 (qf_ix f m t) 1, b5, b6, a7)) :
    ∃ n, wX_insert_104 post (nI f) (nI (64 * f)) (nI (t % m)) (nI (v % 2 ^ (8 - q))) x6 (nI ((t + u) % m)) rc a1 a2 a3 (upd a4 (qf_ix f m t) 1) a5 a6 a7 n (nI ((t + u) % m)) x6 := by
  refine loop_m (σ := Nat) (fun n i => wX_insert_104 post (nI f) (nI (64 * f)) (nI (t % m)) (nI (v % 2 ^ (8 - q))) x6 (nI ((t + u) % m)) rc a1 a2 a3 (upd a4 (qf_ix f m t) 1) a5 a6 a7 n (nI ((t + u + i) % m)) (qf_hd x6 (fun j => a5 (qf_ix f m (t + u + j + 1))) i))
    (fun i => ∀ j, j < i → E (t + u + j) = u + 1 + j) (fun i => m - i) ?_ 0 (fun j hj => absurd hj (by omega))
  intro n i hi hw
  have fin := qf_in146 (rc := rc) (a2 := a2) (a7 := a7) hc hE hV hA hL hl hn htm ht hu hr h6 hi hv hvt H
  refine br_c (fun _ => fin) (fun hx => And.intro (qf_in hc _) (br_c (fun _ => fin) (fun _ => qf_after hc (And.intro (qf_in hc _) (nm_e ?_)))))
  have hi' : E (t + u + i) = u + 1 + i := by
    rcases Nat.eq_zero_or_pos i with z | z
    · subst z
      have h1 := (qf_is1 h6).mp hx
      exact qf_rs_run hE hr h1
    · obtain ⟨i', rfl⟩ : ∃ i', i = i' + 1 := ⟨i - 1, by omega⟩
      have h1 := (qf_is1 (hA.2.1 (t + u + i'))).mp hx
      have h2 := hi i' (by omega)
      rw [← Nat.add_assoc]
      omega
  have h3 := qf_lt hE (t + u + i)
  rw [qf_cl hc]
  refine hw (i + 1) (fun j hj => ?_) (by show m - (i + 1) < m - i; omega)
  rcases Nat.lt_or_ge j i with z | z
  · exact hi j z
  · rw [show j = i by omega]
    exact hi'
theorem qf_insert {post : St2 → Prop} {v : Nat} (hR : qf_R f q l a1 a2 a3 a4 a5 a6) (hv : v < 256) (hn : l.length + 2 ≤ 2 ^ q)
    (H : ∀ b2 b3 b4 b5 b6, qf_R f q (v :: l) a1 b2 b3 b4 b5 b6 → qf_K f a1 a2 a3 a4 a5 a6 a1 b2 b3 b4 b5 b6 → post (rc, a1, b2, b3, b4, b5, b6, a7)) :
    wpX_insert post (rc, a1, a2, a3, a4, a5, a6, a7) (nI f) (nI v) := by
  obtain ⟨hc, h2, E, V, hE, hV, hA, hL, hl⟩ := hR
  have H' : ∀ b2 b3 b4 b5 b6, b2 = upd a2 f (nI (l.length + 1)) → qf_Q f (2 ^ q) (8 - q) (v :: l) b3 b4 b5 b6 → qf_fr f a3 b3 → qf_fr f a4 b4 → qf_fr f a5 b5 → qf_fr f a6 b6 → post (rc, a1, b2, b3, b4, b5, b6, a7) := by
    intro b2 b3 b4 b5 b6 e hQ f3 f4 f5 f6
    refine H b2 b3 b4 b5 b6 ⟨hc, by rw [e, pk_us]; rfl, hQ⟩ ⟨fun g hg => ⟨rfl, by rw [e, pk_un hg]⟩, f3, f4, f5, f6⟩
  have hm := qf_C_m hc
  generalize hM : 2 ^ q = m at hc hE hV hA hL hl hn hm H'
  obtain ⟨t, htm, hvt⟩ : ∃ t, m ≤ t ∧ v / 2 ^ (8 - q) = t % m := ⟨m + v / 2 ^ (8 - q), Nat.le_add_right m _, by rw [Nat.add_mod_left, Nat.mod_eq_of_lt (qf_C_v' hc hv)]⟩
  unfold wpX_insert
  refine qf_base (qf_slotOf hc hv (qf_lowerOf hc hv ⟨pk_in f 2 hc.1, pk_in f 2 hc.1, ?_⟩))
  rw [hvt, qf_cf hc, h2, nI_1, qf_d_by _ (by omega)]
  refine nm_e (qf_isFreeE hc hE hA (fun ht => br_t rfl ⟨qf_in hc _, nm_e ⟨qf_in hc _, nm_e ?_⟩⟩) (fun ht => br_f (by decide) ⟨qf_in hc _, nm_e ⟨qf_in hc _, nm_e ?_⟩⟩))
  · rw [qf_cl hc]
    have hu4 : ∀ x, ¬ a4 (qf_ix f m x) = 0 → ¬ upd a4 (qf_ix f m t) 1 (qf_ix f m x) = 0 := by
      intro x hx
      by_cases e : qf_ix f m x = qf_ix f m t
      · rw [e, pk_us]; decide
      · rw [pk_un e]; exact hx
    refine qf_runStart hc hE (fun x z => hu4 x ((qf_is1 (hA.1 x)).mpr z)) (fun x z => ?_) (by rw [pk_us]; decide) (fun x => qf_is1 (hA.2.1 x)) (fun x => qf_is1 (hA.2.2 x)) htm ht (fun u hu => ?_)
    · by_cases e : qf_ix f m x = qf_ix f m t
      · exact Or.inl (qf_ix_i e)
      · rw [pk_un e] at z
        exact Or.inr ((qf_is1 (hA.1 x)).mp z)
    · have hum : u < m := by
        rcases Nat.eq_zero_or_pos u with z | z
        · omega
        · have h7 := hu.2 (u - 1) (by omega)
          have h8 := qf_lt hE (t + (u - 1))
          omega
      refine qf_in104 hc hE hV hA hL hl hn htm ht hum hu (hA.1 t) hv hvt (fun b3 b5 b6 hQ f3 f5 f6 => ?_)
      exact H' _ _ _ _ _ rfl hQ f3 (qf_fr_u (qf_fr_r _ _) (qf_ix_in hc t).1 (qf_ix_in hc t).2) f5 f6
  · rw [qf_cl hc, qf_low hc]
    have hin := qf_ix_in hc t
    have hno := (qf_noE hE hA t).mpr ht
    refine H' _ _ _ _ _ rfl ?_ (qf_fr_u (qf_fr_r _ _) hin.1 hin.2) (qf_fr_u (qf_fr_r _ _) hin.1 hin.2) (qf_fr_r _ _) (qf_fr_r _ _)
    refine qf_ins (p := t) (w := 0) (k := 0) (g5 := a5) hE hV hA hL hl hn rfl (by omega) (by omega) (by omega) (by omega) ht (fun i hi => absurd hi (by omega)) (qf_C_v' hc hv) hvt ⟨fun i hi => absurd hi (by omega), fun j hj => ⟨pk_un (hj 0 (by omega)), rfl, rfl⟩⟩ pk_us ?_ ?_ (fun _ _ => rfl) (fun z => absurd ht z)
    · rw [hno.2.1]
      exact qf_is_f (fun z => z.1 z.2)
    · rw [hno.2.2]
      exact qf_is_f (fun z => z rfl)
end
end
section
/-! reading the filter -/
def qf_rd (a7 : Nat → Int32) (l : List Nat) : Prop := ∀ i, i < l.length → a7 i = nI (l.getD i 0)
theorem qf_rd_0 (a7 : Nat → Int32) : qf_rd a7 [] := fun i hi => absurd hi (Nat.not_lt_zero i)
theorem qf_rd_s {a7 : Nat → Int32} {l : List Nat} {v : Nat} (h : qf_rd a7 l) : qf_rd (upd a7 l.length (nI v)) (l ++ [v]) := by
  intro i hi
  rw [List.length_append] at hi
  have h1 : [v].length = 1 := rfl
  rcases Nat.lt_or_ge i l.length with z | z
  · rw [pk_un (by omega), h i z]
    simp [List.getD_eq_getElem?_getD, List.getElem?_append_left z]
  · rw [show i = l.length by omega, pk_us]
    simp [List.getD_eq_getElem?_getD]
section
variable {rc : Int32} {a1 a2 a3 a4 a5 a6 a7 : Nat → Int32} {f q m : Nat} {E V : Nat → Nat} {l : List Nat}
theorem qf_re95 {post : Int32 → St2 → Prop} {J : Int32 → Int32 → Int32 → (Nat → Int32) → (Nat → Int32) → (Nat → Int32) → (Nat → Int32) → (Nat → Int32) → (Nat → Int32) → (Nat → Int32) → Prop} {x o : Nat} (hc : qf_C f q m a1) (hE : qf_E m E) (hL : qf_L f m (8 - q) E V a3)
    (h0 : E x ≠ 0) (ho : o + E x = x + 1) (hl : l.length < 64) (hrd : qf_rd a7 l)
    (H : ∀ b7, qf_rd b7 (l ++ [V x]) → J (nI ((x + 1) % m)) (nI (o % m)) (nI (l.length + 1)) a1 a2 a3 a4 a5 a6 b7) :
    wX_readStretch_95 post J (nI f) (nI (64 * f)) (nI (x % m)) (nI (o % m)) (nI l.length) a1 a2 a3 a4 a5 a6 a7 := by
  obtain ⟨l1, l2, l3⟩ := hL x h0
  have h1 : V x / 2 ^ (8 - q) = o % m := by
    rw [← ho] at l2
    have h2 := qf_mc hE.1 l2
    rw [Nat.mod_eq_of_lt l1] at h2
    exact h2
  unfold wX_readStretch_95
  refine ⟨pk_in f 2 hc.1, qf_in hc _, pk_in l.length 64 hl, ?_⟩
  rw [qf_cl hc, qf_cf hc, hc.2.2.2.2, l3, ← h1, qf_d_or q (by have := hc.2.2.1; omega) hc.2.1 _ (qf_C_v hc l1), nI_clamp (show l.length < 2 ^ 31 by omega)]
  refine nm_e (nm_r (nI_1 _) (qf_after hc ?_))
  rw [h1]
  exact H _ (qf_rd_s hrd)
theorem qf_re70 {post : Int32 → St2 → Prop} {J : Int32 → Int32 → Int32 → (Nat → Int32) → (Nat → Int32) → (Nat → Int32) → (Nat → Int32) → (Nat → Int32) → (Nat → Int32) → (Nat → Int32) → Prop} {x5 : Int32} {b c : Nat} (hc : qf_C f q m a1) (h0 : ∀ i, i < c → a4 (qf_ix f m (b + i)) = 0) (h1 : ¬ a4 (qf_ix f m (b + c)) = 0)
    (H : wX_readStretch_95 post J (nI f) (nI (64 * f)) x5 (nI ((b + c) % m)) rc a1 a2 a3 a4 a5 a6 a7) : ∃ n, wX_readStretch_70 post J (nI f) (nI (64 * f)) x5 rc a1 a2 a3 a4 a5 a6 a7 n (nI (b % m)) :=
  pk_loop (σ := Unit) (fun n i _ => wX_readStretch_70 post J (nI f) (nI (64 * f)) x5 rc a1 a2 a3 a4 a5 a6 a7 n (nI ((b + i) % m))) (fun _ _ => True) c 0 () (by omega) trivial
    (fun n _ _ => And.intro (qf_in hc _) (br_f (by rw [qf_cl hc]; exact h1) H))
    (fun n i _ hi _ hw => And.intro (qf_in hc _) (br_t (by rw [qf_cl hc]; exact h0 i hi) (qf_after hc (hw () trivial))))
theorem qf_readStretch {post : Int32 → St2 → Prop} {X k : Nat} (hc : qf_C f q m a1) (hE : qf_E m E) (hA : qf_A f m E a4 a5 a6) (hL : qf_L f m (8 - q) E V a3)
    (hX : m ≤ X) (hX0 : E (X - 1) = 0) (hk : E (X + k) = 0) (hk1 : ∀ i, i < k → E (X + i) ≠ 0) (hl : l.length + k ≤ 64) (hrd : qf_rd a7 l)
    (H : ∀ b7, qf_rd b7 (l ++ qf_win E V X k) → post (nI ((X + k) % m)) (nI (l.length + k), a1, a2, a3, a4, a5, a6, b7)) : wpX_readStretch post (rc, a1, a2, a3, a4, a5, a6, a7) (nI f) (nI (X % m)) (nI l.length) := by
  have hm := qf_C_m hc
  unfold wpX_readStretch
  refine qf_base ?_
  refine pk_loop (σ := Nat → Int32) (fun n i s => wX_readStretch_18 post (nI f) (nI (64 * f)) n (nI ((X + i) % m)) (nI (qf_hd X (fun j => X + j + 1 - E (X + j)) i % m)) (nI (l.length + i)) a1 a2 a3 a4 a5 a6 s)
    (fun i s => qf_rd s (l ++ qf_win E V X i)) k 0 a7 (by omega) ?_ ?_ ?_
  · show qf_rd a7 (l ++ [])
    rw [List.append_nil]
    exact hrd
  · intro n s hs
    unfold wX_readStretch_18
    refine qf_isFreeE hc hE hA ?_ ?_
    · exact fun z => absurd hk z
    · exact fun _ => br_f (by decide) (H s hs)
  · intro n i s hi hs hw
    have h0 := hk1 i hi
    have hlt := qf_lt hE (X + i)
    have hlen : (l ++ qf_win E V X i).length = l.length + i := by
      rw [List.length_append, qf_win_full (fun j hj => hk1 j (by omega))]
    have fin : wX_readStretch_95 post (wX_readStretch_18 post (nI f) (nI (64 * f)) n) (nI f) (nI (64 * f)) (nI ((X + i) % m)) (nI ((X + i + 1 - E (X + i)) % m)) (nI (l.length + i)) a1 a2 a3 a4 a5 a6 s := by
      have h1 := qf_re95 (post := post) (J := wX_readStretch_18 post (nI f) (nI (64 * f)) n) (a2 := a2) (a4 := a4) (a5 := a5) (a6 := a6) (x := X + i) (o := X + i + 1 - E (X + i)) hc hE hL h0 (by omega) (by rw [hlen]; omega) hs (fun b7 hb => ?_)
      · rw [hlen] at h1
        exact h1
      · rw [hlen]
        rw [List.append_assoc] at hb
        have h2 := hw b7 (by rw [qf_win_s, if_neg h0]; exact hb)
        exact h2
    unfold wX_readStretch_18
    refine qf_isFreeE hc hE hA ?_ (fun z => absurd z h0)
    refine fun _ => br_t rfl ⟨qf_in hc _, ?_⟩
    rw [qf_cl hc]
    refine br_c (fun e => ?_) (fun e => ⟨qf_in hc _, ?_⟩)
    · have h1 := (qf_is0 (hA.2.2 (X + i))).mp e
      rw [show X + i + 1 - E (X + i) = X + i by omega] at fin
      exact fin
    · have h1 := (qf_is1 (hA.2.2 (X + i))).mp e
      have hi0 : 0 < i := by
        rcases Nat.eq_zero_or_pos i with z | z
        · have h2 := hE.2.2.1 (X - 1)
          rw [show X - 1 + 1 = X by omega, hX0] at h2
          rw [z, Nat.add_zero] at h1
          omega
        · exact z
      obtain ⟨i', rfl⟩ : ∃ i', i = i' + 1 := ⟨i - 1, by omega⟩
      have hp := hk1 i' (by omega)
      have hlt' := qf_lt hE (X + i')
      have hst := hE.2.2.1 (X + i')
      have h5 := hA.2.1 (X + i')
      rw [← Nat.add_assoc] at h0 h1 hlt fin
      refine br_c (fun e5 => qf_after hc ?_) (fun e5 => ?_)
      · have h6 := (qf_is0 h5).mp e5
        show ∃ n, _
        obtain ⟨c, hcc⟩ : ∃ c, X + i' + 1 - E (X + i') + 1 + c = X + i' + 1 + 1 - E (X + i' + 1) := ⟨E (X + i') - E (X + i' + 1), by omega⟩
        refine qf_re70 (b := X + i' + 1 - E (X + i') + 1) (c := c) hc (fun j hj => ?_) ?_ ?_
        · refine (qf_is0 (hA.1 _)).mpr ?_
          rintro ⟨y, hy⟩
          rcases Nat.lt_or_ge (X + i') (X + i' + 1 - E (X + i') + 1 + j + y) with z | z
          · have h7 := qf_lo hE (show X + i' + 1 ≤ X + i' + 1 - E (X + i') + 1 + j + y by omega)
            omega
          · have h7 := qf_lo hE z
            omega
        · refine (qf_is1 (hA.1 _)).mpr ?_
          refine qf_own hE h0 ?_
          omega
        · rw [hcc]
          exact fin
      · have h6 := (qf_is1 h5).mp e5
        rw [show X + i' + 1 + 1 - E (X + i' + 1) = X + i' + 1 - E (X + i') by omega] at fin
        exact fin
theorem qf_readAll {post : St2 → Prop} (hR : qf_R f q l a1 a2 a3 a4 a5 a6) (H : ∀ L b7, L.Perm l → qf_rd b7 L → post (nI L.length, a1, a2, a3, a4, a5, a6, b7)) : wpX_readAll post (rc, a1, a2, a3, a4, a5, a6, a7) (nI f) := by
  obtain ⟨hc, h2, E, V, hE, hV, hA, hL, hl⟩ := hR
  have hm := qf_C_m hc
  generalize hM : 2 ^ q = m at hc hE hV hA hL hl hm
  obtain ⟨z, hzm, hz0, hz1⟩ := qf_zf hE 0
  rw [Nat.zero_add] at hz0
  have hzz : E (z + m) = 0 := by rw [hE.2.1]; exact hz0
  unfold wpX_readAll
  refine pk_loop (σ := Unit) (fun n i _ => wX_readAll_7 post (nI f) 0 a1 a2 a3 a4 a5 a6 a7 n (nI i)) (fun _ _ => True) z 0 () (by omega) trivial ?_ ?_
  · intro n _ _
    show wX_readAll_7 post (nI f) 0 a1 a2 a3 a4 a5 a6 a7 (n + 1) (nI z)
    rw [show nI z = nI ((z + m) % m) by rw [Nat.add_mod_right, Nat.mod_eq_of_lt hzm]]
    unfold wX_readAll_7
    refine qf_isFreeE hc hE hA (fun y => absurd hzz y) ?_
    refine fun _ => br_f (by decide) (qf_after hc ?_)
    have hZm : m ≤ z + m := Nat.le_add_left m z
    generalize z + m = Z at hzz hZm
    have key := loop_m (σ := Nat × (Nat → Int32)) (fun n s => wX_readAll_29 post (nI f) (nI (Z % m)) n (nI ((Z + 1 + s.1) % m)) (nI (qf_win E V (Z + 1) s.1).length) a1 a2 a3 a4 a5 a6 s.2)
      (fun s => s.1 + 1 ≤ m ∧ (E (Z + s.1) = 0 ∨ E (Z + 1 + s.1) = 0) ∧ qf_rd s.2 (qf_win E V (Z + 1) s.1)) (fun s => m - s.1) ?_ (0, a7) ⟨by omega, Or.inl hzz, qf_rd_0 _⟩
    · exact key
    · rintro n ⟨d, b7⟩ ⟨hd, hf, hrd⟩ hw
      dsimp only at hd hf hrd
      show wX_readAll_29 post (nI f) (nI (Z % m)) (n + 1) (nI ((Z + 1 + d) % m)) (nI (qf_win E V (Z + 1) d).length) a1 a2 a3 a4 a5 a6 b7
      rcases Nat.lt_or_ge (d + 1) m with y | y
      · refine br_f (fun e => ?_) ?_
        · rw [nI_eq (Nat.lt_trans (qf_C_lt hc _) (by decide)) (Nat.lt_trans (qf_C_lt hc _) (by decide))] at e
          have := qf_md1 (a := Z) (by omega) (by omega) (by omega) (by omega) e
          omega
        · refine qf_isFreeE hc hE hA ?_ ?_
          · refine fun e => br_t rfl ?_
            have hX0 : E (Z + 1 + d - 1) = 0 := by
              rw [show Z + 1 + d - 1 = Z + d by omega]
              exact hf.resolve_right e
            obtain ⟨k, hk, hk0, hk1⟩ := qf_zf hE (Z + 1 + d)
            have hkm : d + k + 1 ≤ m := by
              rcases Nat.lt_or_ge m (d + k + 1) with w | w
              · refine absurd ?_ (hk1 (m - d - 1) (by omega))
                rw [show Z + 1 + d + (m - d - 1) = Z + m by omega, hE.2.1]
                exact hzz
              · exact w
            have hk00 : 0 < k := by
              rcases Nat.eq_zero_or_pos k with w | w
              · rw [w, Nat.add_zero] at hk0
                exact absurd hk0 e
              · exact w
            have hle := qf_win_le E V (Z + 1) d
            refine qf_readStretch hc hE hA hL (by omega) hX0 hk0 hk1 (by omega) hrd (fun b7' hb => ?_)
            rw [← qf_win_add] at hb
            have h3 := hw (d + k, b7') ⟨hkm, Or.inr (by rw [← Nat.add_assoc]; exact hk0), hb⟩ (by show m - (d + k) < m - d; omega)
            dsimp only at h3
            rw [qf_win_add, List.length_append, qf_win_full hk1, ← Nat.add_assoc] at h3
            exact h3
          · refine fun e => br_f (by decide) (qf_after hc ?_)
            have h3 := hw (d + 1, b7) ⟨by omega, Or.inl (by rw [show Z + (d + 1) = Z + 1 + d by omega]; exact e), ?_⟩ (by show m - (d + 1) < m - d; omega)
            · dsimp only at h3
              rw [qf_win_s, if_pos e, List.append_nil] at h3
              exact h3
            · show qf_rd b7 (qf_win E V (Z + 1) (d + 1))
              rw [qf_win_s, if_pos e, List.append_nil]
              exact hrd
      · obtain ⟨rfl⟩ : d = m - 1 := by omega
        refine br_t ?_ (H (qf_win E V (Z + 1) (m - 1)) b7 ?_ hrd)
        · rw [show Z + 1 + (m - 1) = Z + m by omega, Nat.add_mod_right]
        · refine List.Perm.trans ?_ ((qf_win_rot hE hV Z).trans hl)
          have h3 := qf_win_add E V Z 1 (m - 1)
          rw [show 1 + (m - 1) = m by omega, qf_win_1, if_pos hzz, List.nil_append] at h3
          rw [h3]
  · intro n i _ hi _ hw
    show wX_readAll_7 post (nI f) 0 a1 a2 a3 a4 a5 a6 a7 (n + 1) (nI i)
    have h1 := hz1 i hi
    rw [Nat.zero_add] at h1
    have h3 : wX_readAll_7 post (nI f) 0 a1 a2 a3 a4 a5 a6 a7 n (nI (i + 1)) := hw () trivial
    rw [show nI i = nI (i % m) by rw [Nat.mod_eq_of_lt (show i < m by omega)]]
    unfold wX_readAll_7
    refine qf_isFreeE hc hE hA ?_ (fun y => absurd y h1)
    refine fun _ => br_t rfl (nm_r ?_ h3)
    rw [Nat.mod_eq_of_lt (show i < m by omega), nI_1]
end
end
section
/-! freeing places -/
theorem qf_take {l : List Nat} {i : Nat} (h : i < l.length) : l.take (i + 1) = l.take i ++ [l.getD i 0] := by
  rw [List.take_succ_eq_append_getElem h]
  simp [List.getD_eq_getElem?_getD, List.getElem?_eq_getElem h]
theorem qf_take_p {l : List Nat} {i : Nat} (h : i < l.length) : (l.getD i 0 :: l.take i).Perm (l.take (i + 1)) := by
  rw [qf_take h]
  exact (List.perm_append_comm (l₁ := [l.getD i 0]) (l₂ := l.take i))
theorem qf_getD_mem {l : List Nat} {i : Nat} (h : i < l.length) : l.getD i 0 ∈ l := by
  simp [List.getD_eq_getElem?_getD, List.getElem?_eq_getElem h]
section
variable {f m r : Nat} {E V : Nat → Nat} {a3 a4 a5 a6 b4 b5 b6 : Nat → Int32}
theorem qf_len (hE : qf_E m E) (hV : ∀ x, V (x + m) = V x) : (qf_win E V 0 m).length + 1 ≤ m := by
  have hm := hE.1
  obtain ⟨z, hz⟩ := hE.2.2.2
  rw [← (qf_win_rot hE hV z).length_eq]
  have h := qf_win_add E V z 1 (m - 1)
  rw [show 1 + (m - 1) = m by omega, qf_win_1, if_pos hz, List.nil_append] at h
  rw [h]
  have := qf_win_le E V (z + 1) (m - 1)
  omega
theorem qf_mem_win {a n i : Nat} (hi : i < n) (h0 : E (a + i) ≠ 0) : V (a + i) ∈ qf_win E V a n := by
  obtain ⟨k, rfl⟩ : ∃ k, n = i + 1 + k := ⟨n - i - 1, by omega⟩
  rw [qf_win_add, qf_win_s, if_neg h0]
  simp
/-- the stretch of k places from X on, between free places, is freed -/
theorem qf_cut {X k : Nat} (hE : qf_E m E) (hV : ∀ x, V (x + m) = V x) (hA : qf_A f m E a4 a5 a6) (hL : qf_L f m r E V a3) (hX : 0 < X) (hX0 : E (X - 1) = 0) (hk : k < m) (hk0 : E (X + k) = 0)
    (hb : ∀ i, i < k → qf_no b4 b5 b6 (qf_ix f m (X + i))) (ho : ∀ j, (∀ i, i < k → j ≠ qf_ix f m (X + i)) → b4 j = a4 j ∧ b5 j = a5 j ∧ b6 j = a6 j) :
    ∃ l', (qf_win E V X k ++ l').Perm (qf_win E V 0 m) ∧ qf_Q f m r l' a3 b4 b5 b6 := by
  have hm := hE.1
  let T : Nat → Nat := fun i => if i < k then 0 else E (X + i)
  let E' := qf_pz m X T
  have eP : ∀ x, E' (x + m) = E' x := qf_pz_per m X T
  have e1 : ∀ i, i < k → E' (X + i) = 0 := by
    intro i hi
    refine (qf_pz_at (m := m) (p := X) (i := i) T (by omega)).trans ?_
    show (if i < k then 0 else E (X + i)) = _
    rw [if_pos hi]
  have e2 : ∀ i, k ≤ i → i < m → E' (X + i) = E (X + i) := by
    intro i hi hi'
    refine (qf_pz_at (m := m) (p := X) (i := i) T hi').trans ?_
    show (if i < k then 0 else E (X + i)) = _
    rw [if_neg (by omega)]
  have eW : E (X + (m - 1)) = 0 := by
    rw [show X + (m - 1) = X - 1 + m by omega, hE.2.1]
    exact hX0
  have o2 : ∀ i, k ≤ i → i < m → b4 (qf_ix f m (X + i)) = a4 (qf_ix f m (X + i)) ∧ b5 (qf_ix f m (X + i)) = a5 (qf_ix f m (X + i)) ∧ b6 (qf_ix f m (X + i)) = a6 (qf_ix f m (X + i)) := by
    intro i hi hi'
    refine ho _ (fun j hj e => ?_)
    have := qf_md1 (a := X) (by omega) (by omega) (by omega) (by omega) (qf_ix_i e)
    omega
  have ek : E' (X + k) = 0 := by rw [e2 k (by omega) hk]; exact hk0
  have eX : E' X = 0 := by
    rcases Nat.eq_zero_or_pos k with z | z
    · rw [z] at ek; exact ek
    · exact e1 0 z
  have hE' : qf_E m E' := by
    refine ⟨hm, eP, ?_, X + k, ek⟩
    refine qf_all hm (fun x => ?_) X (fun i hi => ?_)
    · rw [show x + m + 1 = x + 1 + m by omega, eP, eP]
    · rcases Nat.lt_or_ge (i + 1) m with y | y
      · rw [Nat.add_assoc]
        rcases Nat.lt_or_ge (i + 1) k with z | z
        · rw [e1 _ z]; omega
        · rcases Nat.lt_or_ge i k with w | w
          · rw [show i + 1 = k by omega, ek]; omega
          · rw [e2 _ z y, e2 _ w hi]
            exact hE.2.2.1 _
      · rw [show i = m - 1 by omega, show X + (m - 1) + 1 = X + m by omega, eP, eX]
        omega
  have hA4 : ∀ x, qf_is (b4 (qf_ix f m x)) (∃ j, E' (x + j) = j + 1) := by
    refine qf_all hm (fun x => ?_) X (fun i hi => ?_)
    · rw [qf_ix_per]
      congr 1
      refine propext ⟨?_, ?_⟩
      · rintro ⟨j, hj⟩
        refine ⟨j, ?_⟩
        rw [show x + m + j = x + j + m by omega, eP] at hj
        exact hj
      · rintro ⟨j, hj⟩
        refine ⟨j, ?_⟩
        rw [show x + m + j = x + j + m by omega, eP]
        exact hj
    · have key : ∀ j, E' (X + i + j) = j + 1 → k ≤ i ∧ E (X + i + j) = j + 1 := by
        intro j hj
        obtain ⟨y, hy, e⟩ := qf_rep X (X + i + j) hm
        have h1 := qf_mod hE' e
        rcases Nat.lt_or_ge y k with z | z
        · rw [e1 y z] at h1
          omega
        · rw [e2 y z hy, hj] at h1
          have h2 := qf_lo hE (show X + k ≤ X + y by omega)
          have h3 : (X + y - j) % m = (X + i) % m := by
            apply qf_mc (c := j) hm
            rw [show X + y - j + j = X + y by omega]
            exact e
          have h4 := qf_md1 (a := X) (by omega) (by omega) (by omega) (by omega) h3
          exact ⟨by omega, by rw [← qf_mod hE e]; exact h1⟩
      rcases Nat.lt_or_ge i k with z | z
      · rw [(hb i z).1]
        refine qf_is_f ?_
        rintro ⟨j, hj⟩
        have := (key j hj).1
        omega
      · rw [(o2 i z hi).1]
        refine qf_is_c (hA.1 (X + i)) ⟨?_, ?_⟩
        · rintro ⟨j, hj⟩
          have hij : i + j < m := by
            rcases Nat.lt_or_ge (i + j) m with w | w
            · exact w
            · have h1 := qf_lo hE (show X + (m - 1) ≤ X + i + j by omega)
              omega
          refine ⟨j, ?_⟩
          rw [Nat.add_assoc, e2 (i + j) (by omega) hij, ← Nat.add_assoc]
          exact hj
        · rintro ⟨j, hj⟩
          exact ⟨j, (key j hj).2⟩
  have hA5 : ∀ x, qf_is (b5 (qf_ix f m (x + 1))) (E' x ≠ 0 ∧ E' (x + 1) = E' x + 1) := by
    refine qf_all hm (fun x => ?_) X (fun i hi => ?_)
    · rw [show x + m + 1 = x + 1 + m by omega, eP, eP, qf_ix_per]
    · have n0 : E' (X + i + 1) = 0 → b5 (qf_ix f m (X + i + 1)) = 0 → qf_is (b5 (qf_ix f m (X + i + 1))) (E' (X + i) ≠ 0 ∧ E' (X + i + 1) = E' (X + i) + 1) := by
        intro h1 h2
        rw [h1, h2]
        exact qf_is_f (by omega)
      have a50 : ∀ x, E (x + 1) = 0 → a5 (qf_ix f m (x + 1)) = 0 := by
        intro x hx
        exact (qf_is0 (hA.2.1 x)).mpr (by omega)
      rcases Nat.lt_or_ge (i + 1) m with y | y
      · rcases Nat.lt_or_ge (i + 1) k with z | z
        · exact n0 (e1 _ z) (hb _ z).2.1
        · rcases Nat.lt_or_ge i k with w | w
          · have e : i + 1 = k := by omega
            refine n0 (by rw [Nat.add_assoc, e]; exact ek) ?_
            have h1 := (o2 (i + 1) (by omega) y).2.1
            rw [← Nat.add_assoc] at h1
            rw [h1]
            exact a50 _ (by rw [Nat.add_assoc, e]; exact hk0)
          · have h1 := (o2 (i + 1) (by omega) y).2.1
            have h2 := e2 (i + 1) z y
            rw [← Nat.add_assoc] at h1 h2
            rw [h1, h2, e2 i w hi]
            exact hA.2.1 _
      · have e : X + i + 1 = X + m := by omega
        refine n0 (by rw [e, eP]; exact eX) ?_
        rw [e, qf_ix_per]
        rcases Nat.eq_zero_or_pos k with z | z
        · have h1 := (o2 0 (by omega) (by omega)).2.1
          rw [Nat.add_zero] at h1
          rw [h1]
          have h2 := a50 (X - 1)
          rw [show X - 1 + 1 = X by omega] at h2
          rw [z] at hk0
          exact h2 hk0
        · exact (hb 0 z).2.1
  have hA6 : ∀ x, qf_is (b6 (qf_ix f m x)) (2 ≤ E' x) := by
    refine qf_all hm (fun x => ?_) X (fun i hi => ?_)
    · rw [eP, qf_ix_per]
    · rcases Nat.lt_or_ge i k with z | z
      · rw [(hb i z).2.2, e1 i z]
        exact qf_is_f (by omega)
      · rw [(o2 i z hi).2.2, e2 i z hi]
        exact hA.2.2 _
  have hL' : qf_L f m r E' V a3 := by
    refine qf_all hm (fun x => ?_) X (fun i hi => ?_)
    · rw [eP, hV, qf_ix_per, show x + m + 1 = x + 1 + m by omega, Nat.add_mod_right]
    · intro h7
      rcases Nat.lt_or_ge i k with z | z
      · exact absurd (e1 i z) h7
      · rw [e2 i z hi] at h7 ⊢
        exact hL _ h7
  obtain ⟨n, hn⟩ : ∃ n, m = k + n := ⟨m - k, by omega⟩
  have w1 : qf_win E V X m = qf_win E V X k ++ qf_win E V (X + k) n := by
    rw [← qf_win_add, ← hn]
  have w2 : qf_win E' V X m = qf_win E V (X + k) n := by
    have h1 := qf_win_add E' V X k n
    rw [← hn, qf_win_none (fun i hi => e1 i hi), List.nil_append] at h1
    rw [h1]
    refine qf_win_c (fun i hi => ?_)
    rw [Nat.add_assoc, e2 (k + i) (by omega) (by omega)]
    exact ⟨Iff.rfl, fun _ => rfl⟩
  refine ⟨qf_win E V (X + k) n, by rw [← w1]; exact qf_win_rot hE hV X, E', V, hE', hV, ⟨hA4, hA5, hA6⟩, hL', ?_⟩
  rw [← w2]
  exact (qf_win_rot hE' hV X).symm
end
end
section
/-! free, empty, resize -/
section
variable {rc : Int32} {a1 a2 a3 a4 a5 a6 a7 : Nat → Int32} {f q m : Nat} {l : List Nat}
theorem qf_free {post : St2 → Prop} {s : Nat} (hf : f < 2) (hs : s < 64) (H : post (rc, a1, a2, a3, upd a4 (64 * f + s) 0, upd a5 (64 * f + s) 0, upd a6 (64 * f + s) 0, a7)) : wpX_free post (rc, a1, a2, a3, a4, a5, a6, a7) (nI f) (nI s) := by
  unfold wpX_free
  refine qf_base (nm_r (nI_add (64 * f) s) ?_)
  have h1 : vp_in (nI (64 * f + s)) 128 := pk_in (64 * f + s) 128 (by omega)
  rw [nI_clamp (show 64 * f + s < 2 ^ 31 by omega)]
  exact ⟨h1, nm_e ⟨h1, nm_e ⟨h1, nm_e H⟩⟩⟩
theorem qf_empty {post : St2 → Prop} (hf : f < 2) (H : ∀ b4 b5 b6, (∀ j, j < 64 → qf_no b4 b5 b6 (64 * f + j)) → qf_fr f a4 b4 → qf_fr f a5 b5 → qf_fr f a6 b6 → post (rc, a1, upd a2 f 0, a3, b4, b5, b6, a7)) :
    wpX_empty post (rc, a1, a2, a3, a4, a5, a6, a7) (nI f) := by
  unfold wpX_empty
  refine And.intro (pk_in f 2 hf) ?_
  rw [nI_clamp (show f < 2 ^ 31 by omega)]
  refine nm_e ?_
  refine pk_loop (σ := (Nat → Int32) × (Nat → Int32) × (Nat → Int32)) (fun n i s => wX_empty_9 post (nI f) n (nI i) rc a1 (upd a2 f 0) a3 s.1 s.2.1 s.2.2 a7)
    (fun i s => (∀ j, j < i → qf_no s.1 s.2.1 s.2.2 (64 * f + j)) ∧ qf_fr f a4 s.1 ∧ qf_fr f a5 s.2.1 ∧ qf_fr f a6 s.2.2) 64 0 (a4, a5, a6) (by omega) ⟨fun j hj => absurd hj (by omega), qf_fr_r _ _, qf_fr_r _ _, qf_fr_r _ _⟩ ?_ ?_
  · intro n s hs
    exact pk_le 64 64 (fun _ => H _ _ _ hs.1 hs.2.1 hs.2.2.1 hs.2.2.2) (fun z => absurd z (by omega))
  · intro n i s hi hs hw
    refine pk_le 64 i (fun z => absurd z (by omega)) (fun _ => qf_free hf hi (nm_r (nI_1 i) ?_))
    refine hw (upd s.1 (64 * f + i) 0, upd s.2.1 (64 * f + i) 0, upd s.2.2 (64 * f + i) 0) ⟨fun j hj => ?_, qf_fr_u hs.2.1 (by omega) (by omega), qf_fr_u hs.2.2.1 (by omega) (by omega), qf_fr_u hs.2.2.2 (by omega) (by omega)⟩
    unfold qf_no
    rcases Nat.lt_or_ge j i with z | z
    · have hne : 64 * f + j ≠ 64 * f + i := by omega
      show upd s.1 (64 * f + i) 0 (64 * f + j) = 0 ∧ upd s.2.1 (64 * f + i) 0 (64 * f + j) = 0 ∧ upd s.2.2 (64 * f + i) 0 (64 * f + j) = 0
      rw [pk_un hne, pk_un hne, pk_un hne]
      exact hs.1 j z
    · rw [show j = i by omega]
      exact ⟨pk_us, pk_us, pk_us⟩
theorem qf_Q_0 {r : Nat} (h0 : 0 < m) (hm : m ≤ 64) (hb : ∀ j, j < 64 → qf_no a4 a5 a6 (64 * f + j)) : qf_Q f m r [] a3 a4 a5 a6 := by
  have h : ∀ x, qf_no a4 a5 a6 (qf_ix f m x) := fun x => hb _ (Nat.lt_of_lt_of_le (Nat.mod_lt x h0) hm)
  refine ⟨fun _ => 0, fun _ => 0, ⟨h0, fun _ => rfl, fun _ => Nat.zero_le _, 0, rfl⟩, fun _ => rfl, ⟨fun x => ?_, fun x => ?_, fun x => ?_⟩, fun x hx => absurd rfl hx, ?_⟩
  · rw [(h x).1]
    refine qf_is_f ?_
    rintro ⟨j, hj⟩
    exact absurd hj (Nat.zero_ne_add_one j)
  · rw [(h (x + 1)).2.1]
    exact qf_is_f (fun z => z.1 rfl)
  · rw [(h x).2.2]
    exact qf_is_f (show ¬ 2 ≤ 0 by omega)
  · rw [qf_win_none (fun i hi => rfl)]
theorem qf_R_v (hR : qf_R f q l a1 a2 a3 a4 a5 a6) : ∀ v, v ∈ l → v < 256 := by
  obtain ⟨hc, h2, E, V, hE, hV, hA, hL, hl⟩ := hR
  intro v hv
  obtain ⟨i, hi, h0, e⟩ := qf_win_mem (hl.mem_iff.mpr hv)
  rw [← e]
  exact qf_C_v hc (hL _ h0).1
theorem qf_R_len (hR : qf_R f q l a1 a2 a3 a4 a5 a6) : l.length + 1 ≤ 2 ^ q := by
  obtain ⟨hc, h2, E, V, hE, hV, hA, hL, hl⟩ := hR
  rw [← hl.length_eq]
  exact qf_len hE hV
theorem qf_re20 {post : St2 → Prop} {L : List Nat} (hL : ∀ v, v ∈ L → v < 256) (hn : L.length + 1 ≤ 2 ^ q) (hl : L.length ≤ 63) (hrd : qf_rd a7 L) (hR : qf_R f q [] a1 a2 a3 a4 a5 a6)
    (H : ∀ b2 b3 b4 b5 b6, qf_R f q L a1 b2 b3 b4 b5 b6 → qf_K f a1 a2 a3 a4 a5 a6 a1 b2 b3 b4 b5 b6 → post (nI L.length, a1, b2, b3, b4, b5, b6, a7)) :
    ∃ n, wX_resize_20 post (nI f) n 0 (nI L.length) a1 a2 a3 a4 a5 a6 a7 := by
  refine pk_loop (σ := (Nat → Int32) × (Nat → Int32) × (Nat → Int32) × (Nat → Int32) × (Nat → Int32)) (fun n i s => wX_resize_20 post (nI f) n (nI i) (nI L.length) a1 s.1 s.2.1 s.2.2.1 s.2.2.2.1 s.2.2.2.2 a7)
    (fun i s => qf_R f q (L.take i) a1 s.1 s.2.1 s.2.2.1 s.2.2.2.1 s.2.2.2.2 ∧ qf_K f a1 a2 a3 a4 a5 a6 a1 s.1 s.2.1 s.2.2.1 s.2.2.2.1 s.2.2.2.2) L.length 0 (a2, a3, a4, a5, a6) (by omega) ⟨hR, qf_K_r⟩ ?_ ?_
  · intro n s hs
    rw [List.take_length] at hs
    exact pk_le L.length L.length (fun _ => H _ _ _ _ _ hs.1 hs.2) (fun z => absurd z (by omega))
  · intro n i s hi hs hw
    refine pk_le L.length i (fun z => absurd z (by omega)) (fun _ => ⟨pk_in i 64 (by omega), ?_⟩)
    rw [nI_clamp (show i < 2 ^ 31 by omega), hrd i hi]
    refine qf_insert hs.1 (hL _ (qf_getD_mem hi)) ?_ (fun b2 b3 b4 b5 b6 r k => nm_r (nI_1 i) (hw (b2, b3, b4, b5, b6) ⟨qf_R_p r (qf_take_p hi), qf_K_t hs.2 k⟩))
    rw [List.length_take]
    omega
theorem qf_resize {post : St2 → Prop} {q' : Nat} (hR : qf_R f q l a1 a2 a3 a4 a5 a6) (h3 : 3 ≤ q') (h6 : q' ≤ 6) (hn : l.length + 1 ≤ 2 ^ q')
    (H : ∀ rc' b1 b2 b3 b4 b5 b6 b7, qf_R f q' l b1 b2 b3 b4 b5 b6 → qf_K f a1 a2 a3 a4 a5 a6 b1 b2 b3 b4 b5 b6 → post (rc', b1, b2, b3, b4, b5, b6, b7)) :
    wpX_resize post (rc, a1, a2, a3, a4, a5, a6, a7) (nI f) (nI q') := by
  have hf := hR.1.1
  unfold wpX_resize
  refine qf_readAll hR (fun L b7 hp hrd => qf_empty hf (fun b4 b5 b6 hz f4 f5 f6 => ⟨pk_in f 2 hf, ?_⟩))
  rw [nI_clamp (show f < 2 ^ 31 by omega), qf_d_by q' (by omega)]
  refine nm_e ?_
  have hc : qf_C f q' (2 ^ q') (upd a1 f (nI q')) := ⟨hf, h3, h6, rfl, pk_us⟩
  have hm := qf_C_m hc
  have hv := qf_R_v hR
  have hlen := hp.length_eq
  refine qf_re20 (q := q') (fun v z => hv v (hp.mem_iff.mp z)) (by omega) (by omega) hrd ⟨hc, pk_us, qf_Q_0 (by omega) hm.2 hz⟩ (fun b2 b3' b4' b5' b6' r k => H _ _ _ _ _ _ _ _ (qf_R_p r hp) (qf_K_t ⟨fun g hg => ⟨pk_un hg, pk_un hg⟩, qf_fr_r _ _, f4, f5, f6⟩ k))
theorem qf_grow {post : Int32 → St2 → Prop} (hR : qf_R f q l a1 a2 a3 a4 a5 a6) (H6 : q = 6 → post (-2) (rc, a1, a2, a3, a4, a5, a6, a7))
    (H : q ≠ 6 → ∀ rc' b1 b2 b3 b4 b5 b6 b7, qf_R f (q + 1) l b1 b2 b3 b4 b5 b6 → qf_K f a1 a2 a3 a4 a5 a6 b1 b2 b3 b4 b5 b6 → post (nI (2 ^ (q + 1))) (rc', b1, b2, b3, b4, b5, b6, b7)) :
    wpX_grow post (rc, a1, a2, a3, a4, a5, a6, a7) (nI f) := by
  have hc := hR.1
  unfold wpX_grow
  refine qf_isFilter hc.1 (br_f (by decide) ⟨pk_in f 2 hc.1, ?_⟩)
  rw [qf_cf hc, hc.2.2.2.2]
  have h6 := hc.2.2.1
  refine pk_eq q 6 (fun e => H6 e) (fun e => ⟨pk_in f 2 hc.1, ?_⟩)
  rw [nI_1]
  have h3 := hc.2.1
  have hn := qf_R_len hR
  refine qf_resize hR (by omega) (by omega) (by rw [Nat.pow_succ]; omega) (fun rc' b1 b2 b3 b4 b5 b6 b7 r k => qf_slots r.1 (H e _ _ _ _ _ _ _ _ r k))
theorem qf_shrink {post : Int32 → St2 → Prop} (hR : qf_R f q l a1 a2 a3 a4 a5 a6) (h3 : q ≠ 3) (HN : 2 ^ (q - 1) < l.length + 1 → post (-3) (rc, a1, a2, a3, a4, a5, a6, a7))
    (H : l.length + 1 ≤ 2 ^ (q - 1) → ∀ rc' b1 b2 b3 b4 b5 b6 b7, qf_R f (q - 1) l b1 b2 b3 b4 b5 b6 → qf_K f a1 a2 a3 a4 a5 a6 b1 b2 b3 b4 b5 b6 → post (nI (2 ^ (q - 1))) (rc', b1, b2, b3, b4, b5, b6, b7)) :
    wpX_shrink post (rc, a1, a2, a3, a4, a5, a6, a7) (nI f) := by
  have hc := hR.1
  have h6 := hc.2.2.1
  have h3' := hc.2.1
  have hm := qf_C_m hc
  have hn := qf_R_len hR
  unfold wpX_shrink
  refine qf_isFilter hc.1 (br_f (by decide) ⟨pk_in f 2 hc.1, ?_⟩)
  rw [qf_cf hc, hc.2.2.2.2]
  refine pk_eq q 3 (fun e => absurd e h3) (fun e => ⟨pk_in f 2 hc.1, qf_slots hc ⟨by decide, ?_⟩⟩)
  have h8 : nI (2 ^ q) / 2 - 1 = nI (2 ^ (q - 1) - 1) := by
    have h4 : q = 4 ∨ q = 5 ∨ q = 6 := by omega
    rcases h4 with e | e | e <;> rw [e] <;> decide
  have h9 : 1 ≤ 2 ^ (q - 1) := Nat.one_le_two_pow
  have h10 : 2 ^ (q - 1) ≤ 2 ^ q := Nat.pow_le_pow_right (by decide) (by omega)
  rw [h8, hR.2.1]
  refine pk_le l.length (2 ^ (q - 1) - 1) (fun e => ⟨pk_in f 2 hc.1, ?_⟩) (fun e => HN (by omega))
  rw [show nI q - 1 = nI (q - 1) from pk_sub (b := 1) (by omega)]
  refine qf_resize hR (by omega) (by omega) (by omega) (fun rc' b1 b2 b3 b4 b5 b6 b7 r k => qf_slots r.1 (H (by omega) _ _ _ _ _ _ _ _ r k))
theorem qf_clear {post : Int32 → St2 → Prop} (hR : qf_R f q l a1 a2 a3 a4 a5 a6)
    (H : ∀ b2 b4 b5 b6, qf_R f q [] a1 b2 a3 b4 b5 b6 → qf_K f a1 a2 a3 a4 a5 a6 a1 b2 a3 b4 b5 b6 → post (nI l.length) (rc, a1, b2, a3, b4, b5, b6, a7)) :
    wpX_clear post (rc, a1, a2, a3, a4, a5, a6, a7) (nI f) := by
  have hc := hR.1
  have hm := qf_C_m hc
  unfold wpX_clear
  refine qf_isFilter hc.1 (br_f (by decide) ⟨pk_in f 2 hc.1, ?_⟩)
  rw [qf_cf hc]
  refine nm_r hR.2.1 (qf_empty hc.1 (fun b4 b5 b6 hz f4 f5 f6 => H _ _ _ _ ⟨hc, pk_us, qf_Q_0 (by omega) hm.2 hz⟩ ⟨fun g hg => ⟨rfl, pk_un hg⟩, qf_fr_r _ _, f4, f5, f6⟩))
end
end
section
/-! add, times, maybe, takeOut, remove, pour -/
def qf_pr (x : Int32) : Nat := (x * (-1640531535)).toBitVec.toNat / 2 ^ 24
theorem qf_pr_lt (x : Int32) : qf_pr x < 256 := by
  have h := (x * (-1640531535)).toBitVec.isLt
  unfold qf_pr
  omega
theorem qf_pr_e (x : Int32) : ((x * (-1640531535)).toUInt32 >>> ((24 : Int32).toUInt32 &&& Int32.toUInt32 31)).toInt32 = nI (qf_pr x) := by
  apply Int32.toBitVec_inj.mp
  apply BitVec.eq_of_toNat_eq
  have h := qf_pr_lt x
  rw [pk_ushr _ _ 24 (by decide), pk_tn (by omega)]
  rfl
section
variable {rc : Int32} {a1 a2 a3 a4 a5 a6 a7 : Nat → Int32} {f q m : Nat} {l : List Nat}
theorem qf_printOf {post : Int32 → Prop} {x : Int32} (H : post (nI (qf_pr x))) : wpX_printOf post (rc, a1, a2, a3, a4, a5, a6, a7) x := by
  unfold wpX_printOf
  rw [qf_pr_e]
  exact H
theorem qf_timesR {post : Int32 → Prop} {v : Nat} (hR : qf_R f q l a1 a2 a3 a4 a5 a6) (hv : v < 256) (H : post (nI (l.count v))) : wpX_timesOf post (rc, a1, a2, a3, a4, a5, a6, a7) (nI f) (nI v) := by
  obtain ⟨hc, h2, E, V, hE, hV, hA, hL, hl⟩ := hR
  refine qf_timesOf hc hE hV hA hL hv ?_
  rw [hl.count_eq]
  exact H
theorem qf_times {post : Int32 → Prop} {v : Nat} (hR : qf_R f q l a1 a2 a3 a4 a5 a6) (hv : v < 256) (H : post (nI (l.count v))) : wpX_times post (rc, a1, a2, a3, a4, a5, a6, a7) (nI f) (nI v) := by
  unfold wpX_times
  exact qf_isFilter hR.1.1 (br_f (by decide) (br_f (nI_pos (by omega)) (br_t (nI_le (b := 255) (by omega) (by decide)) (qf_timesR hR hv H))))
theorem qf_maybe {post : Int32 → Prop} {x : Int32} (hR : qf_R f q l a1 a2 a3 a4 a5 a6) (hx : qf_pr x ∈ l) (H : post 1) : wpX_maybe post (rc, a1, a2, a3, a4, a5, a6, a7) (nI f) x := by
  have hn := qf_R_len hR
  have hm := qf_C_m hR.1
  have h1 := List.count_pos_iff.mpr hx
  have h2 := List.count_le_length (a := qf_pr x) (l := l)
  unfold wpX_maybe
  exact qf_isFilter hR.1.1 (br_f (by decide) (qf_printOf (qf_timesR hR (qf_pr_lt x) (br_f (nI_nle h1 (by omega)) H))))
theorem qf_add {post : Int32 → St2 → Prop} {x : Int32} (hR : qf_R f q l a1 a2 a3 a4 a5 a6) (HF : l.length + 1 = 2 ^ q → post (-2) (rc, a1, a2, a3, a4, a5, a6, a7))
    (H : l.length + 1 < 2 ^ q → ∀ b2 b3 b4 b5 b6, qf_R f q (qf_pr x :: l) a1 b2 b3 b4 b5 b6 → qf_K f a1 a2 a3 a4 a5 a6 a1 b2 b3 b4 b5 b6 → post (nI (l.count (qf_pr x) + 1)) (rc, a1, b2, b3, b4, b5, b6, a7)) :
    wpX_add post (rc, a1, a2, a3, a4, a5, a6, a7) (nI f) x := by
  have hn := qf_R_len hR
  have hc := hR.1
  have hm := qf_C_m hc
  unfold wpX_add
  refine qf_isFilter hc.1 (br_f (by decide) ⟨pk_in f 2 hc.1, qf_slots hc ?_⟩)
  rw [qf_cf hc, hR.2.1, show nI (2 ^ q) - 1 = nI (2 ^ q - 1) from pk_sub (b := 1) (by omega)]
  refine pk_lt l.length (2 ^ q - 1) (fun e => qf_printOf (qf_insert hR (qf_pr_lt x) (by omega) (fun b2 b3 b4 b5 b6 r k => qf_timesR r (qf_pr_lt x) ?_))) (fun e => HF (by omega))
  rw [List.count_cons_self]
  exact H (by omega) _ _ _ _ _ r k
end
end
section
/-! takeOut and remove -/
section
variable {rc : Int32} {a1 a2 a3 a4 a5 a6 a7 : Nat → Int32} {f q m : Nat} {l : List Nat} {E V : Nat → Nat}
theorem qf_to101 {post : St2 → Prop} {L l' : List Nat} {v : Nat} (hL : ∀ w, w ∈ L → w < 256) (hv : v < 256) (hvL : v ∈ L) (hn : L.length + l'.length + 1 ≤ 2 ^ q) (hl : L.length ≤ 63) (hrd : qf_rd a7 L) (hR : qf_R f q l' a1 a2 a3 a4 a5 a6)
    (H : ∀ c b2 b3 b4 b5 b6, qf_R f q c a1 b2 b3 b4 b5 b6 → (v :: c).Perm (L ++ l') → qf_K f a1 a2 a3 a4 a5 a6 a1 b2 b3 b4 b5 b6 → post (nI L.length, a1, b2, b3, b4, b5, b6, a7)) :
    ∃ n, wX_takeOut_101 post (nI f) (nI v) n 0 0 (nI L.length) a1 a2 a3 a4 a5 a6 a7 := by
  refine pk_loop (σ := Int32 × (Nat → Int32) × (Nat → Int32) × (Nat → Int32) × (Nat → Int32) × (Nat → Int32)) (fun n i s => wX_takeOut_101 post (nI f) (nI v) n s.1 (nI i) (nI L.length) a1 s.2.1 s.2.2.1 s.2.2.2.1 s.2.2.2.2.1 s.2.2.2.2.2 a7)
    (fun i s => ∃ c, qf_R f q c a1 s.2.1 s.2.2.1 s.2.2.2.1 s.2.2.2.2.1 s.2.2.2.2.2 ∧ qf_K f a1 a2 a3 a4 a5 a6 a1 s.2.1 s.2.2.1 s.2.2.2.1 s.2.2.2.2.1 s.2.2.2.2.2 ∧ ((s.1 = 0 ∧ v ∉ L.take i ∧ c.Perm (L.take i ++ l')) ∨ (s.1 = 1 ∧ (v :: c).Perm (L.take i ++ l')))) L.length 0 (0, a2, a3, a4, a5, a6) (by omega)
    ⟨l', hR, qf_K_r, Or.inl ⟨rfl, by simp, by simp⟩⟩ ?_ ?_
  · rintro n s ⟨c, hs, hk, h⟩
    rw [List.take_length] at h
    refine pk_le L.length L.length (fun _ => ?_) (fun z => absurd z (by omega))
    rcases h with h | h
    · exact absurd hvL h.2.1
    · exact H c _ _ _ _ _ hs h.2 hk
  · rintro n i ⟨g, b2, b3, b4, b5, b6⟩ hi ⟨c, hs, hk, h⟩ hw
    dsimp only at hs hk h
    have hp := (qf_take_p hi).append_right l'
    have h132 : c.length + 2 ≤ 2 ^ q → (∀ c', c'.Perm (L.getD i 0 :: c) → (g = 0 ∧ v ∉ L.take (i + 1) ∧ c'.Perm (L.take (i + 1) ++ l')) ∨ (g = 1 ∧ (v :: c').Perm (L.take (i + 1) ++ l'))) → wX_takeOut_132 post (wX_takeOut_101 post (nI f) (nI v) n) (nI f) (nI v) g (nI i) (nI L.length) a1 b2 b3 b4 b5 b6 a7 := by
      intro h1 h2
      unfold wX_takeOut_132
      refine ⟨pk_in i 64 (by omega), ?_⟩
      rw [nI_clamp (show i < 2 ^ 31 by omega), hrd i hi]
      refine qf_insert hs (hL _ (qf_getD_mem hi)) h1 (fun d2 d3 d4 d5 d6 r k => nm_r (nI_1 i) (hw (g, d2, d3, d4, d5, d6) ⟨_, r, qf_K_t hk k, h2 _ (List.Perm.refl _)⟩))
    refine pk_le L.length i (fun z => absurd z (by omega)) (fun _ => ?_)
    rcases h with ⟨g0, hnot, hcp⟩ | ⟨g1, hcp⟩
    · have hlen := hcp.length_eq
      rw [List.length_append, List.length_take] at hlen
      refine br_t g0 ⟨pk_in i 64 (by omega), ?_⟩
      rw [nI_clamp (show i < 2 ^ 31 by omega), hrd i hi]
      refine pk_eq (L.getD i 0) v (fun e => nm_r (nI_1 i) (hw (1, b2, b3, b4, b5, b6) ⟨c, hs, hk, Or.inr ⟨rfl, ?_⟩⟩)) (fun e => h132 (by omega) (fun c' hc' => Or.inl ⟨g0, ?_, ?_⟩)) rfl rfl (by have := hL _ (qf_getD_mem hi); omega) (by omega)
      · rw [e] at hp
        exact (List.Perm.cons v hcp).trans hp
      · rw [qf_take hi]
        intro z
        rcases List.mem_append.mp z with z | z
        · exact hnot z
        · exact e (List.mem_singleton.mp z).symm
      · exact hc'.trans ((List.Perm.cons _ hcp).trans hp)
    · have hlen := hcp.length_eq
      rw [List.length_append, List.length_take, List.length_cons] at hlen
      have g2 : ¬ g = 0 := by rw [g1]; decide
      refine br_f g2 (h132 (by omega) (fun c' hc' => Or.inr ⟨g1, ?_⟩))
      exact (List.Perm.cons v hc').trans ((List.Perm.swap _ _ _).trans ((List.Perm.cons _ hcp).trans hp))
theorem qf_to55 {post : St2 → Prop} {X k v : Nat} (hc : qf_C f q m a1) (hE : qf_E m E) (hV : ∀ x, V (x + m) = V x) (hA : qf_A f m E a4 a5 a6) (hL : qf_L f m (8 - q) E V a3) (hl : (qf_win E V 0 m).Perm l) (h2 : a2 f = nI l.length)
    (hX : 0 < X) (hX0 : E (X - 1) = 0) (hk : k < m) (hk0 : E (X + k) = 0) (hk1 : ∀ i, i < k → E (X + i) ≠ 0) (hv : v < 256) (hvL : v ∈ qf_win E V X k) (hrd : qf_rd a7 (qf_win E V X k))
    (H : ∀ c b2 b3 b4 b5 b6, qf_R f q c a1 b2 b3 b4 b5 b6 → (v :: c).Perm l → qf_K f a1 a2 a3 a4 a5 a6 a1 b2 b3 b4 b5 b6 → post (nI k, a1, b2, b3, b4, b5, b6, a7)) :
    ∃ n, wX_takeOut_55 post (nI f) (nI v) (nI ((X + k) % m)) n (nI (X % m)) (nI k) a1 a2 a3 a4 a5 a6 a7 := by
  have hm := qf_C_m hc
  have hfull : (qf_win E V X k).length = k := qf_win_full hk1
  refine pk_loop (σ := (Nat → Int32) × (Nat → Int32) × (Nat → Int32)) (fun n i s => wX_takeOut_55 post (nI f) (nI v) (nI ((X + k) % m)) n (nI ((X + i) % m)) (nI k) a1 a2 a3 s.1 s.2.1 s.2.2 a7)
    (fun i s => (∀ j, j < i → qf_no s.1 s.2.1 s.2.2 (qf_ix f m (X + j))) ∧ ∀ j, (∀ i', i' < i → j ≠ qf_ix f m (X + i')) → s.1 j = a4 j ∧ s.2.1 j = a5 j ∧ s.2.2 j = a6 j) k 0 (a4, a5, a6) (by omega) ⟨fun j hj => absurd hj (by omega), fun j _ => ⟨rfl, rfl, rfl⟩⟩ ?_ ?_
  · rintro n ⟨b4, b5, b6⟩ ⟨hs1, hs2⟩
    dsimp only at hs1 hs2
    obtain ⟨l', hp, hQ⟩ := qf_cut hE hV hA hL hX hX0 hk hk0 hs1 hs2
    have hlen := (hp.trans hl).length_eq
    rw [List.length_append, hfull] at hlen
    have hlt := qf_len hE hV
    rw [hl.length_eq] at hlt
    refine br_t rfl ⟨pk_in f 2 hc.1, pk_in f 2 hc.1, ?_⟩
    rw [qf_cf hc, h2, pk_sub (by omega), qf_d_by _ (by omega), show l.length - k = l'.length by omega]
    refine nm_e ?_
    obtain rfl := hc.2.2.2.1
    have hfr : ∀ b a : Nat → Int32, (∀ j, (∀ i', i' < k → j ≠ qf_ix f (2 ^ q) (X + i')) → b j = a j) → qf_fr f a b := by
      intro b a h j hj
      refine h j (fun i' _ => ?_)
      have := qf_ix_in hc (X + i')
      omega
    have h101 := qf_to101 (post := post) (L := qf_win E V X k) (l' := l') (v := v) (a2 := upd a2 f (nI l'.length)) (fun w hw => ?_) hv hvL (by omega) (by omega) hrd ⟨hc, pk_us, hQ⟩ (fun c d2 d3 d4 d5 d6 r p K => ?_)
    · rw [hfull] at h101
      exact h101
    · obtain ⟨i, _, h0, e⟩ := qf_win_mem hw
      rw [← e]
      exact qf_C_v hc (hL _ h0).1
    · rw [hfull]
      refine H c _ _ _ _ _ r (p.trans (hp.trans hl)) (qf_K_t ⟨fun g hg => ⟨rfl, pk_un hg⟩, qf_fr_r _ _, hfr _ _ (fun j hj => (hs2 j hj).1), hfr _ _ (fun j hj => (hs2 j hj).2.1), hfr _ _ (fun j hj => (hs2 j hj).2.2)⟩ K)
  · rintro n i ⟨b4, b5, b6⟩ hi ⟨hs1, hs2⟩ hw
    dsimp only at hs1 hs2
    refine br_f (fun e => ?_) ?_
    · rw [nI_eq (Nat.lt_trans (qf_C_lt hc _) (by decide)) (Nat.lt_trans (qf_C_lt hc _) (by decide))] at e
      have := qf_md1 (a := X) (by omega) (by omega) (by omega) (by omega) e
      omega
    · refine qf_free hc.1 (qf_C_lt hc _) (qf_after hc ?_)
      refine hw (upd b4 (qf_ix f m (X + i)) 0, upd b5 (qf_ix f m (X + i)) 0, upd b6 (qf_ix f m (X + i)) 0) ⟨fun j hj => ?_, fun j hj => ?_⟩
      · show upd b4 (qf_ix f m (X + i)) 0 (qf_ix f m (X + j)) = 0 ∧ upd b5 (qf_ix f m (X + i)) 0 (qf_ix f m (X + j)) = 0 ∧ upd b6 (qf_ix f m (X + i)) 0 (qf_ix f m (X + j)) = 0
        rcases Nat.lt_or_ge j i with z | z
        · have hne : qf_ix f m (X + j) ≠ qf_ix f m (X + i) := by
            intro e
            have := qf_md1 (a := X) (by omega) (by omega) (by omega) (by omega) (qf_ix_i e)
            omega
          rw [pk_un hne, pk_un hne, pk_un hne]
          exact hs1 j z
        · rw [show j = i by omega]
          exact ⟨pk_us, pk_us, pk_us⟩
      · have hne : j ≠ qf_ix f m (X + i) := hj i (by omega)
        show upd b4 (qf_ix f m (X + i)) 0 j = a4 j ∧ upd b5 (qf_ix f m (X + i)) 0 j = a5 j ∧ upd b6 (qf_ix f m (X + i)) 0 j = a6 j
        rw [pk_un hne, pk_un hne, pk_un hne]
        exact hs2 j (fun i' hi' => hj i' (by omega))
theorem qf_takeOut {post : St2 → Prop} {v : Nat} (hR : qf_R f q l a1 a2 a3 a4 a5 a6) (hvl : v ∈ l)
    (H : ∀ rc' c b2 b3 b4 b5 b6 b7, qf_R f q c a1 b2 b3 b4 b5 b6 → (v :: c).Perm l → qf_K f a1 a2 a3 a4 a5 a6 a1 b2 b3 b4 b5 b6 → post (rc', a1, b2, b3, b4, b5, b6, b7)) :
    wpX_takeOut post (rc, a1, a2, a3, a4, a5, a6, a7) (nI f) (nI v) := by
  have hv := qf_R_v hR v hvl
  obtain ⟨hc, h2, E, V, hE, hV, hA, hL, hl⟩ := hR
  have hm := qf_C_m hc
  generalize hM : 2 ^ q = m at hc hE hV hA hL hl hm
  obtain ⟨t, htm, hvt⟩ : ∃ t, m + m ≤ t ∧ v / 2 ^ (8 - q) = t % m := ⟨m + m + v / 2 ^ (8 - q), Nat.le_add_right _ _, by rw [Nat.add_assoc, Nat.add_mod_left, Nat.add_mod_left, Nat.mod_eq_of_lt (qf_C_v' hc hv)]⟩
  -- where v stands
  obtain ⟨y, hy, hy0, hyv⟩ := qf_win_mem ((qf_win_rot hE hV t).mem_iff.mpr (hl.mem_iff.mpr hvl))
  have hy1 := qf_own_eq hE hL (show m ≤ t by omega) (show t ≤ t + y by omega) (by omega) hy0 (by rw [hyv]; exact hvt)
  have hocc : ∀ j, j ≤ y → E (t + j) ≠ 0 := by
    intro j hj
    have := qf_lo hE (show t + j ≤ t + y by omega)
    omega
  obtain ⟨z, hz1, hz2, hz0, ho⟩ := qf_zb hE (t := t) (by omega)
  have hzt : z < t := by
    rcases Nat.lt_or_ge z t with w | w
    · exact w
    · have := hocc 0 (by omega)
      rw [Nat.add_zero, show t = z by omega] at this
      exact absurd hz0 this
  obtain ⟨k, hk, hk0, hk1⟩ := qf_zf hE (z + 1)
  have hyk : t + y < z + 1 + k := by
    rcases Nat.lt_or_ge (t + y) (z + 1 + k) with w | w
    · exact w
    · rcases Nat.lt_or_ge (z + 1 + k) t with w' | w'
      · exact absurd hk0 (ho _ (by omega) (by omega))
      · have := hocc (z + 1 + k - t) (by omega)
        rw [show t + (z + 1 + k - t) = z + 1 + k by omega] at this
        exact absurd hk0 this
  have hvL : v ∈ qf_win E V (z + 1) k := by
    have h1 := qf_mem_win (E := E) (V := V) (a := z + 1) (n := k) (i := t + y - (z + 1)) (by omega) (by rw [show z + 1 + (t + y - (z + 1)) = t + y by omega]; exact hy0)
    rw [show z + 1 + (t + y - (z + 1)) = t + y by omega, hyv] at h1
    exact h1
  unfold wpX_takeOut
  refine qf_slotOf hc hv ?_
  rw [hvt]
  have key := pk_loopD (σ := Unit) (fun n i _ => wX_takeOut_10 post (nI f) (nI v) rc a1 a2 a3 a4 a5 a6 a7 n (nI ((z + i) % m))) (fun i _ => z + i ≤ t) ?_ ?_ (t - z) () (by omega)
  · rw [show z + (t - z) = t by omega] at key
    exact ⟨_, key⟩
  · intro n _ hi
    unfold wX_takeOut_10
    refine qf_isFreeE hc hE hA (fun w => absurd hz0 w) ?_
    refine fun _ => br_f (by decide) (qf_after hc ?_)
    refine qf_readStretch (l := []) (X := z + 1) hc hE hA hL (by omega) hz0 hk0 hk1 (by show 0 + k ≤ 64; omega) (qf_rd_0 _) (fun b7 hb => ?_)
    rw [List.nil_append] at hb
    show ∃ n, wX_takeOut_55 post (nI f) (nI v) (nI ((z + 1 + k) % m)) n (nI ((z + 1) % m)) (nI (0 + k)) a1 a2 a3 a4 a5 a6 b7
    rw [Nat.zero_add]
    exact qf_to55 hc hE hV hA hL hl h2 (by omega) hz0 hk hk0 hk1 hv hvL hb (fun c b2 b3 b4 b5 b6 r p K => H _ c _ _ _ _ _ _ r p K)
  · intro n i _ hi hw
    unfold wX_takeOut_10
    refine qf_isFreeE hc hE hA ?_ (fun w => absurd w (ho _ (by omega) (by omega)))
    refine fun _ => br_t rfl (qf_before hc (by omega) ?_)
    rw [show z + (i + 1) - 1 = z + i by omega]
    exact hw () (by omega)
theorem qf_remove {post : Int32 → St2 → Prop} {x : Int32} (hR : qf_R f q l a1 a2 a3 a4 a5 a6) (hx : qf_pr x ∈ l)
    (H : ∀ n rc' c b2 b3 b4 b5 b6 b7, n < 2 ^ 31 → qf_R f q c a1 b2 b3 b4 b5 b6 → (qf_pr x :: c).Perm l → qf_K f a1 a2 a3 a4 a5 a6 a1 b2 b3 b4 b5 b6 → post (nI n) (rc', a1, b2, b3, b4, b5, b6, b7)) :
    wpX_remove post (rc, a1, a2, a3, a4, a5, a6, a7) (nI f) x := by
  have hn := qf_R_len hR
  have hm := qf_C_m hR.1
  have h1 := List.count_pos_iff.mpr hx
  have h2 := List.count_le_length (a := qf_pr x) (l := l)
  unfold wpX_remove
  refine qf_isFilter hR.1.1 (br_f (by decide) (qf_printOf (qf_timesR hR (qf_pr_lt x) (br_f (nI_ne0 h1 (by omega)) (qf_takeOut hR hx (fun rc' c b2 b3 b4 b5 b6 b7 r p K => ?_))))))
  rw [show nI (l.count (qf_pr x)) - 1 = nI (l.count (qf_pr x) - 1) from pk_sub (b := 1) (by omega)]
  exact H _ _ c _ _ _ _ _ _ (by omega) r p K
end
end
section
/-! print -/
def qf_less (v : Nat) (l : List Nat) : Nat := l.countP (fun w => decide (w < v))
/-- v is the k-th of l by size -/
def qf_good (l : List Nat) (k v : Nat) : Prop := qf_less v l ≤ k ∧ k < qf_less v l + l.count v
theorem qf_less_s (v : Nat) (l : List Nat) : qf_less (v + 1) l = qf_less v l + l.count v := by
  unfold qf_less
  induction l with
  | nil => rfl
  | cons a l ih =>
    rw [List.countP_cons, List.countP_cons, List.count_cons, ih]
    by_cases h : a < v
    · rw [if_pos (by simp; omega), if_pos (by simp; omega), if_neg (by simp; omega)]
      omega
    · by_cases h' : a = v
      · rw [if_pos (by simp; omega), if_neg (by simp; omega), if_pos (by simp; omega)]
        omega
      · rw [if_neg (by simp; omega), if_neg (by simp; omega), if_neg (by simp; omega)]
        omega
theorem qf_less_mono (l : List Nat) {v w : Nat} (h : v ≤ w) : qf_less v l ≤ qf_less w l := by
  induction w with
  | zero => rw [show v = 0 by omega]; exact Nat.le_refl _
  | succ w ih =>
    rcases Nat.lt_or_ge w v with z | z
    · rw [show v = w + 1 by omega]; exact Nat.le_refl _
    · rw [qf_less_s]
      have := ih z
      omega
theorem qf_less_0 (l : List Nat) : qf_less 0 l = 0 := by
  unfold qf_less
  exact List.countP_eq_zero.mpr (fun a _ => by simp)
theorem qf_less_all {l : List Nat} {B : Nat} (h : ∀ v, v ∈ l → v < B) : qf_less B l = l.length := by
  unfold qf_less
  exact List.countP_eq_length.mpr (fun a ha => by simp; exact h a ha)
theorem qf_rank {l : List Nat} {B k : Nat} (h : ∀ v, v ∈ l → v < B) (hk : k < l.length) : ∃ v, v ∈ l ∧ qf_good l k v := by
  obtain ⟨w, hw, hl⟩ := pk_least (fun w => k < qf_less w l) ⟨B, by rw [qf_less_all h]; exact hk⟩
  rcases Nat.eq_zero_or_pos w with z | z
  · rw [z, qf_less_0] at hw
    omega
  · have h1 := hl (w - 1) (by omega)
    have h2 := qf_less_s (w - 1) l
    rw [show w - 1 + 1 = w by omega] at h2
    have h3 : 0 < l.count (w - 1) := by omega
    exact ⟨w - 1, List.count_pos_iff.mp h3, by omega, by omega⟩
theorem qf_good_le {l : List Nat} {k v w : Nat} (h : qf_good l k v) (h' : qf_good l (k + 1) w) : v ≤ w := by
  rcases Nat.lt_or_ge w v with z | z
  · have h1 := qf_less_mono l (show w + 1 ≤ v by omega)
    rw [qf_less_s] at h1
    have h2 := h.1
    have h3 := h'.2
    omega
  · exact z
theorem qf_good_p {l l' : List Nat} {k v : Nat} (h : l.Perm l') : qf_good l k v ↔ qf_good l' k v := by
  unfold qf_good qf_less
  rw [h.countP_eq, h.count_eq]
section
variable {rc : Int32} {a1 a2 a3 a4 a5 a6 a7 : Nat → Int32} {f q m : Nat} {l : List Nat}
theorem qf_pr51 {post : Int32 → St2 → Prop} {J : Int32 → Prop} {L : List Nat} {k i : Nat} (hL : ∀ v, v ∈ L → v < 256) (hl : L.length ≤ 63) (hrd : qf_rd a7 L) (hi : i < L.length) (hk : k < 2 ^ 31)
    (HJ : ¬ qf_good L k (L.getD i 0) → J (nI (i + 1))) (HP : qf_good L k (L.getD i 0) → post (nI (L.getD i 0)) (nI L.length, a1, a2, a3, a4, a5, a6, a7)) :
    ∃ n, wX_print_51 post J (nI k) (nI i) (nI L.length) a1 a2 a3 a4 a5 a6 a7 n 0 0 0 := by
  have hv := hL _ (qf_getD_mem hi)
  have ei : a7 (nI i).toNatClampNeg = nI (L.getD i 0) := by rw [nI_clamp (show i < 2 ^ 31 by omega)]; exact hrd i hi
  generalize hV : L.getD i 0 = v at HJ HP hv ei
  refine pk_loop (σ := Unit) (fun n j _ => wX_print_51 post J (nI k) (nI i) (nI L.length) a1 a2 a3 a4 a5 a6 a7 n (nI (qf_less v (L.take j))) (nI ((L.take j).count v)) (nI j)) (fun _ _ => True) L.length 0 () (by omega) trivial ?_ ?_
  · intro n _ _
    have h1 : qf_less v L ≤ L.length := List.countP_le_length
    have h2 : L.count v ≤ L.length := List.count_le_length
    rw [List.take_length]
    refine pk_le L.length L.length (fun _ => ?_) (fun z => absurd z (by omega))
    refine pk_lt k (qf_less v L) (fun z => nm_r (nI_1 i) (HJ (fun g => ?_))) (fun z => pk_le (qf_less v L + L.count v) k (fun z' => nm_r (nI_1 i) (HJ (fun g => ?_))) (fun z' => ⟨pk_in i 64 (by omega), ?_⟩) (nI_add _ _) rfl (by omega) hk) rfl rfl hk (by omega)
    · have := g.1; omega
    · have := g.2; omega
    · rw [ei]
      exact HP ⟨z, z'⟩
  · intro n j _ hj _ hw
    have h1 : qf_less v (L.take j) ≤ j := Nat.le_trans List.countP_le_length (List.length_take_le _ _)
    have h2 : (L.take j).count v ≤ j := Nat.le_trans List.count_le_length (List.length_take_le _ _)
    have hw' := hw () trivial
    have hvj := hL _ (qf_getD_mem hj)
    have ej : a7 (nI j).toNatClampNeg = nI (L.getD j 0) := by rw [nI_clamp (show j < 2 ^ 31 by omega)]; exact hrd j hj
    have e1 : qf_less v (L.take (j + 1)) = qf_less v (L.take j) + (if L.getD j 0 < v then 1 else 0) := by
      unfold qf_less
      rw [qf_take hj, List.countP_append, List.countP_singleton]
      simp
    have e2 : (L.take (j + 1)).count v = (L.take j).count v + (if L.getD j 0 = v then 1 else 0) := by
      rw [qf_take hj, List.count_append, List.count_singleton]
      simp
    rw [e1, e2] at hw'
    refine pk_le L.length j (fun z => absurd z (by omega)) (fun _ => ⟨pk_in j 64 (by omega), pk_in i 64 (by omega), ?_⟩)
    have h79 : ∀ x4 : Int32, x4 = nI (qf_less v (L.take j) + (if L.getD j 0 < v then 1 else 0)) → wX_print_79 post J (wX_print_51 post J (nI k) (nI i) (nI L.length) a1 a2 a3 a4 a5 a6 a7 n) (nI k) (nI i) x4 (nI ((L.take j).count v)) (nI j) (nI L.length) a1 a2 a3 a4 a5 a6 a7 := by
      intro x4 e
      subst e
      unfold wX_print_79
      refine ⟨pk_in j 64 (by omega), pk_in i 64 (by omega), ?_⟩
      rw [ei, ej]
      refine pk_eq (L.getD j 0) v (fun z => nm_r (nI_1 _) (nm_r (nI_1 j) ?_)) (fun z => nm_r (nI_1 j) ?_)
      · rw [if_pos z] at hw'
        exact hw'
      · rw [if_neg z] at hw'
        exact hw'
    rw [ei, ej]
    refine pk_le v (L.getD j 0) (fun z => h79 _ ?_) (fun z => nm_r (nI_1 _) (h79 _ ?_))
    · rw [if_neg (by omega)]; rfl
    · rw [if_pos z]
theorem qf_print {post : Int32 → St2 → Prop} {k : Nat} (hR : qf_R f q l a1 a2 a3 a4 a5 a6) (hk : k < 2 ^ 31) (HN : l.length ≤ k → post (-3) (rc, a1, a2, a3, a4, a5, a6, a7))
    (H : k < l.length → ∀ v rc' b7, v ∈ l → qf_good l k v → post (nI v) (rc', a1, a2, a3, a4, a5, a6, b7)) : wpX_print post (rc, a1, a2, a3, a4, a5, a6, a7) (nI f) (nI k) := by
  have hc := hR.1
  have hm := qf_C_m hc
  have hn := qf_R_len hR
  have hv := qf_R_v hR
  unfold wpX_print
  refine qf_isFilter hc.1 (br_f (by decide) (br_f (nI_pos hk) ⟨pk_in f 2 hc.1, ?_⟩))
  rw [qf_cf hc, hR.2.1]
  refine pk_lt k l.length (fun z => qf_readAll hR (fun L b7 hp hrd => ?_)) (fun z => HN z) rfl rfl hk (by omega)
  have hlen := hp.length_eq
  have hvL : ∀ v, v ∈ L → v < 256 := fun v h => hv v (hp.mem_iff.mp h)
  obtain ⟨v, hvm, hg⟩ := qf_rank hvL (show k < L.length by omega)
  obtain ⟨i1, hi1, e1⟩ := List.getElem_of_mem hvm
  obtain ⟨i0, ⟨hi0, hg0⟩, hl0⟩ := pk_least (fun i => i < L.length ∧ qf_good L k (L.getD i 0)) ⟨i1, hi1, by rw [List.getD_eq_getElem?_getD, List.getElem?_eq_getElem hi1, e1]; exact hg⟩
  refine pk_loop (σ := Unit) (fun n i _ => wX_print_34 post (nI k) (nI L.length) a1 a2 a3 a4 a5 a6 b7 n (nI i)) (fun _ _ => True) i0 0 () (by omega) trivial ?_ ?_
  · intro n _ _
    refine pk_le L.length i0 (fun z => absurd z (by omega)) (fun _ => qf_pr51 hvL (by omega) hrd hi0 hk (fun z => absurd hg0 z) (fun g => H z _ _ _ (hp.mem_iff.mp (qf_getD_mem hi0)) ((qf_good_p hp).mp g)))
  · intro n i _ hi _ hw
    refine pk_le L.length i (fun z => absurd z (by omega)) (fun _ => qf_pr51 hvL (by omega) hrd (by omega) hk (fun _ => hw () trivial) (fun g => absurd ⟨by omega, g⟩ (hl0 i hi)))
end
end
section
/-! pour -/
section
variable {rc : Int32} {a1 a2 a3 a4 a5 a6 a7 : Nat → Int32} {f q m : Nat} {l : List Nat}
theorem qf_po81 {post : Int32 → St2 → Prop} {L : List Nat} (hL : ∀ v, v ∈ L → v < 256) (hn : L.length + l.length + 1 ≤ 2 ^ q) (hl : L.length ≤ 63) (hrd : qf_rd a7 L) (hR : qf_R f q l a1 a2 a3 a4 a5 a6)
    (H : ∀ b2 b3 b4 b5 b6, qf_R f q (L ++ l) a1 b2 b3 b4 b5 b6 → qf_K f a1 a2 a3 a4 a5 a6 a1 b2 b3 b4 b5 b6 → post (nI (L ++ l).length) (nI L.length, a1, b2, b3, b4, b5, b6, a7)) :
    ∃ n, wX_pour_81 post (nI f) n 0 (nI L.length) a1 a2 a3 a4 a5 a6 a7 := by
  have hc := hR.1
  refine pk_loop (σ := (Nat → Int32) × (Nat → Int32) × (Nat → Int32) × (Nat → Int32) × (Nat → Int32)) (fun n i s => wX_pour_81 post (nI f) n (nI i) (nI L.length) a1 s.1 s.2.1 s.2.2.1 s.2.2.2.1 s.2.2.2.2 a7)
    (fun i s => qf_R f q (L.take i ++ l) a1 s.1 s.2.1 s.2.2.1 s.2.2.2.1 s.2.2.2.2 ∧ qf_K f a1 a2 a3 a4 a5 a6 a1 s.1 s.2.1 s.2.2.1 s.2.2.2.1 s.2.2.2.2) L.length 0 (a2, a3, a4, a5, a6) (by omega) ⟨hR, qf_K_r⟩ ?_ ?_
  · intro n s hs
    rw [List.take_length] at hs
    refine pk_le L.length L.length (fun _ => ⟨pk_in f 2 hc.1, ?_⟩) (fun z => absurd z (by omega))
    rw [qf_cf hc, hs.1.2.1]
    exact H _ _ _ _ _ hs.1 hs.2
  · intro n i s hi hs hw
    refine pk_le L.length i (fun z => absurd z (by omega)) (fun _ => ⟨pk_in i 64 (by omega), ?_⟩)
    rw [nI_clamp (show i < 2 ^ 31 by omega), hrd i hi]
    refine qf_insert hs.1 (hL _ (qf_getD_mem hi)) ?_ (fun b2 b3 b4 b5 b6 r k => nm_r (nI_1 i) (hw (b2, b3, b4, b5, b6) ⟨qf_R_p r ((qf_take_p hi).append_right l), qf_K_t hs.2 k⟩))
    rw [List.length_append, List.length_take]
    omega
theorem qf_po71 {post : Int32 → St2 → Prop} {q0 q1 : Nat} {l0 l1 : List Nat} (hR0 : qf_R 0 q0 l0 a1 a2 a3 a4 a5 a6) (hR1 : qf_R 1 q1 l1 a1 a2 a3 a4 a5 a6) (hn : l0.length + l1.length + 1 ≤ 2 ^ q1)
    (H : ∀ c rc' b2 b3 b4 b5 b6 b7, qf_R 1 q1 c a1 b2 b3 b4 b5 b6 → c.Perm (l0 ++ l1) → qf_R 0 q0 l0 a1 b2 b3 b4 b5 b6 → post (nI (l0.length + l1.length)) (rc', a1, b2, b3, b4, b5, b6, b7)) :
    wX_pour_71 post (nI 1) rc a1 a2 a3 a4 a5 a6 a7 := by
  have hv := qf_R_v hR0
  have hm := qf_C_m hR1.1
  unfold wX_pour_71
  rw [show (1 : Int32) - nI 1 = nI 0 by decide]
  refine qf_readAll hR0 (fun L b7 hp hrd => ?_)
  have hlen := hp.length_eq
  refine qf_po81 (fun v h => hv v (hp.mem_iff.mp h)) (by omega) (by omega) hrd hR1 (fun b2 b3 b4 b5 b6 r k => ?_)
  rw [List.length_append, hlen]
  exact H _ _ _ _ _ _ _ _ r (hp.append_right l1) (qf_keep k (by decide) hR0)
theorem qf_pour {post : Int32 → St2 → Prop} {q0 q1 : Nat} {l0 l1 : List Nat} (hR0 : qf_R 0 q0 l0 a1 a2 a3 a4 a5 a6) (hR1 : qf_R 1 q1 l1 a1 a2 a3 a4 a5 a6)
    (HF : 63 < l0.length + l1.length → post (-2) (rc, a1, a2, a3, a4, a5, a6, a7))
    (H : l0.length + l1.length ≤ 63 → ∀ q' c rc' b1 b2 b3 b4 b5 b6 b7, q1 ≤ q' → q' ≤ 6 → l0.length + l1.length + 1 ≤ 2 ^ q' → (∀ p, q1 ≤ p → p < q' → 2 ^ p < l0.length + l1.length + 1) → qf_R 1 q' c b1 b2 b3 b4 b5 b6 → c.Perm (l0 ++ l1) → qf_R 0 q0 l0 b1 b2 b3 b4 b5 b6 → post (nI (l0.length + l1.length)) (rc', b1, b2, b3, b4, b5, b6, b7)) :
    wpX_pour post (rc, a1, a2, a3, a4, a5, a6, a7) (nI 1) := by
  have hc := hR1.1
  have hm := qf_C_m hc
  have hm0 := qf_C_m hR0.1
  have hn0 := qf_R_len hR0
  have hn1 := qf_R_len hR1
  have h6 := hc.2.2.1
  have h3 := hc.2.1
  unfold wpX_pour
  refine qf_isFilter hc.1 (br_f (by decide) (nm_r (e' := nI (l0.length + l1.length)) (by rw [hR0.2.1, hR1.2.1, nI_add]) ?_))
  refine pk_le (l0.length + l1.length) 63 (fun z => ⟨pk_in 1 2 (by decide), ?_⟩) (fun z => HF z)
  rw [qf_cf hc, hc.2.2.2.2]
  refine nm_e ?_
  obtain ⟨d, hd, hl⟩ := pk_least (fun d => l0.length + l1.length + 1 ≤ 2 ^ (q1 + d)) ⟨6 - q1, by rw [show q1 + (6 - q1) = 6 by omega]; omega⟩
  have hd6 : q1 + d ≤ 6 := by
    rcases Nat.lt_or_ge (6 - q1) d with w | w
    · exact absurd (show l0.length + l1.length + 1 ≤ 2 ^ (q1 + (6 - q1)) by rw [show q1 + (6 - q1) = 6 by omega]; omega) (hl _ w)
    · omega
  have hmin : ∀ p, q1 ≤ p → p < q1 + d → 2 ^ p < l0.length + l1.length + 1 := by
    intro p h1 h2
    have := hl (p - q1) (by omega)
    rw [show q1 + (p - q1) = p by omega] at this
    omega
  have hpw : ∀ i, i ≤ d → ((1 : Int32) <<< (nI (q1 + i) &&& 31)) - 1 = nI (2 ^ (q1 + i) - 1) ∧ 2 ^ (q1 + i) ≤ 64 ∧ 1 ≤ 2 ^ (q1 + i) := by
    intro i hi
    have h9 : 1 ≤ 2 ^ (q1 + i) := Nat.one_le_two_pow
    rw [qf_d_sl (q1 + i) (by omega) (by omega)]
    refine ⟨pk_sub (b := 1) h9, ?_, h9⟩
    have : 2 ^ (q1 + i) ≤ 2 ^ 6 := Nat.pow_le_pow_right (by decide) (by omega)
    omega
  refine pk_loop (σ := Unit) (fun n i _ => wX_pour_40 post (nI 1) (nI (l0.length + l1.length)) rc a1 a2 a3 a4 a5 a6 a7 n (nI (q1 + i))) (fun _ _ => True) d 0 () (by omega) trivial ?_ ?_
  · intro n _ _
    obtain ⟨e1, e2, e3⟩ := hpw d (Nat.le_refl _)
    refine pk_le (l0.length + l1.length) (2 ^ (q1 + d) - 1) (fun _ => ⟨pk_in 1 2 (by decide), ?_⟩) (fun w => absurd w (by omega)) rfl e1
    rw [qf_cf hc, hc.2.2.2.2]
    refine pk_le (q1 + d) q1 (fun w => ?_) (fun w => ?_)
    · have e : d = 0 := by omega
      subst e
      exact qf_po71 hR0 hR1 hd (fun c rc' b2 b3 b4 b5 b6 b7 r p r0 => H z _ c _ _ _ _ _ _ _ _ (by omega) (by omega) hd hmin r p r0)
    · refine qf_resize hR1 (by omega) hd6 (by omega) (fun rc' b1 b2 b3 b4 b5 b6 b7 r k => ?_)
      exact qf_po71 (qf_keep k (by decide) hR0) r hd (fun c rc' b2 b3 b4 b5 b6 b7 r p r0 => H z _ c _ _ _ _ _ _ _ _ (by omega) (by omega) hd hmin r p r0)
  · intro n i _ hi _ hw
    obtain ⟨e1, e2, e3⟩ := hpw i (by omega)
    have h9 := hmin (q1 + i) (by omega) (by omega)
    refine pk_le (l0.length + l1.length) (2 ^ (q1 + i) - 1) (fun w => absurd w (by omega)) (fun _ => nm_r (nI_1 _) (hw () trivial)) rfl e1
end
end
section
/-! the law: the fingerprints that it puts in; its last third -/
def qf_pj (a s : Int32) (j : Nat) : Nat := qf_pr (a + nI j * s)
def qf_pl (a s : Int32) : Nat → List Nat
  | 0 => []
  | n + 1 => qf_pj a s n :: qf_pl a s n
theorem qf_pl_s (a s : Int32) (n : Nat) : qf_pl a s (n + 1) = qf_pj a s n :: qf_pl a s n := rfl
theorem qf_pl_len (a s : Int32) (n : Nat) : (qf_pl a s n).length = n := by
  induction n with
  | zero => rfl
  | succ n ih => rw [qf_pl_s, List.length_cons, ih]
theorem qf_pl_split (a s : Int32) {i n : Nat} (h : i < n) : ∃ t, qf_pl a s n = t ++ qf_pj a s i :: qf_pl a s i := by
  induction n with
  | zero => omega
  | succ n ih =>
    rcases Nat.lt_or_ge i n with z | z
    · obtain ⟨t, e⟩ := ih z
      exact ⟨qf_pj a s n :: t, by rw [qf_pl_s, e]; rfl⟩
    · rw [show i = n by omega]
      exact ⟨[], rfl⟩
theorem qf_pl_mem {a s : Int32} {c : List Nat} {i n : Nat} (h : i < n) (hp : (c ++ qf_pl a s i).Perm (qf_pl a s n)) : qf_pj a s i ∈ c := by
  obtain ⟨t, e⟩ := qf_pl_split a s h
  rw [e, show t ++ qf_pj a s i :: qf_pl a s i = (t ++ [qf_pj a s i]) ++ qf_pl a s i by simp] at hp
  have h1 := (List.perm_append_right_iff _).mp hp
  exact h1.mem_iff.mpr (by simp)
theorem qf_Lprint {post : Int32 → Prop} {x : Int32} (H : post (nI (qf_pr x))) : wpL_print post () x := by
  unfold wpL_print
  rw [qf_pr_e]
  exact H
section
variable {rc : Int32} {a1 a2 a3 a4 a5 a6 a7 : Nat → Int32} {post : Int32 → St0 → Prop} {mc ms kc ks : Nat}
theorem qf_l537 {c : List Nat} (HP : post 1 ()) (hR0 : qf_R 0 6 c a1 a2 a3 a4 a5 a6) : wL_lawOf_537 post mc ms (nI c.length) kc ks rc a1 a2 a3 a4 a5 a6 a7 := by
  unfold wL_lawOf_537
  refine qf_clear (f := 0) hR0 (fun b2 b4 b5 b6 r k => br_t rfl (qf_size (f := 0) r.1 (br_t rfl (qf_shrink (f := 0) r (by decide) (fun z => absurd z (by decide)) (fun _ rc' d1 d2 d3 d4 d5 d6 d7 r' k' => br_t rfl (qf_count (f := 0) (by decide) (br_t ?_ HP)))))))
  exact r'.2.1
theorem qf_l491 {c c1 : List Nat} {q1 : Nat} {x2 z : Int32} (HP : post 1 ()) (hR0 : qf_R 0 6 c a1 a2 a3 a4 a5 a6) (hR1 : c.length < 63 → qf_R 1 q1 c1 a1 a2 a3 a4 a5 a6 ∧ qf_pr x2 ∈ c1) :
    wL_lawOf_491 post mc ms x2 (nI c.length) (nI (2 ^ q1)) z z kc ks rc a1 a2 a3 a4 a5 a6 a7 := by
  have hn := qf_R_len hR0
  unfold wL_lawOf_491
  refine br_t rfl (pk_le 63 c.length (fun _ => qf_l537 HP hR0) (fun w => ?_))
  obtain ⟨r1, hm⟩ := hR1 w
  refine qf_size (f := 1) r1.1 (br_t rfl (qf_maybe (f := 1) r1 hm (br_f (by decide) (qf_count (f := 0) (by decide) (br_t hR0.2.1 (qf_l537 HP hR0))))))
/-- the room that the second filter takes -/
theorem qf_room {n q : Nat} (h3 : 3 ≤ q) (h6 : q ≤ 6) (h : n + 2 ≤ 2 ^ q) (hm : ∀ p, 3 ≤ p → p < q → 2 ^ p < n + 2) :
    (n < 7 → q = 3) ∧ (7 ≤ n → n < 15 → q = 4) ∧ (15 ≤ n → n < 31 → q = 5) ∧ (31 ≤ n → q = 6) := by
  have h4 : q = 3 ∨ q = 4 ∨ q = 5 ∨ q = 6 := by omega
  rcases h4 with e | e | e | e
  · subst e
    omega
  · subst e
    have := hm 3 (by omega) (by omega)
    omega
  · subst e
    have := hm 4 (by omega) (by omega)
    omega
  · subst e
    have := hm 5 (by omega) (by omega)
    omega
theorem qf_lpour {c : List Nat} {x2 : Int32} (HP : post 1 ()) (hR0 : qf_R 0 6 c a1 a2 a3 a4 a5 a6) (hR1 : qf_R 1 3 [qf_pr x2] a1 a2 a3 a4 a5 a6) :
    wpX_pour (fun r_141 u => match u with | (fm0_readCount_142, am4281_145, am4282_148, am4283_151, am4284_154, am4285_157, am4286_160, am4287_163) => (((7 ≤ nI c.length → (((15 ≤ nI c.length → (((31 ≤ nI c.length → (wL_lawOf_471 post mc ms x2 (nI c.length) r_141 64 kc ks fm0_readCount_142 am4281_145 am4282_148 am4283_151 am4284_154 am4285_157 am4286_160 am4287_163)) ∧ (¬ 31 ≤ nI c.length → (wL_lawOf_471 post mc ms x2 (nI c.length) r_141 32 kc ks fm0_readCount_142 am4281_145 am4282_148 am4283_151 am4284_154 am4285_157 am4286_160 am4287_163))))) ∧ (¬ 15 ≤ nI c.length → (wL_lawOf_471 post mc ms x2 (nI c.length) r_141 16 kc ks fm0_readCount_142 am4281_145 am4282_148 am4283_151 am4284_154 am4285_157 am4286_160 am4287_163))))) ∧ (¬ 7 ≤ nI c.length → (wL_lawOf_471 post mc ms x2 (nI c.length) r_141 8 kc ks fm0_readCount_142 am4281_145 am4282_148 am4283_151 am4284_154 am4285_157 am4286_160 am4287_163))))) (rc, a1, a2, a3, a4, a5, a6, a7) 1 := by
  have hn := qf_R_len hR0
  have hl1 : [qf_pr x2].length = 1 := rfl
  refine qf_pour hR0 hR1 (fun z => ?_) (fun z q' c1 rc' b1 b2 b3 b4 b5 b6 b7 h3 h6 hq hm r1 p1 r0 => ?_)
  · have e : c.length = 63 := by omega
    refine pk_le 7 c.length (fun _ => pk_le 15 c.length (fun _ => pk_le 31 c.length (fun _ => ?_) (fun w => absurd w (by omega))) (fun w => absurd w (by omega))) (fun w => absurd w (by omega))
    unfold wL_lawOf_471
    exact pk_eq c.length 63 (fun _ => qf_l491 (q1 := 6) (c1 := []) HP hR0 (fun w => absurd w (by omega))) (fun w => absurd e w)
  · have hr := qf_room (n := c.length) h3 h6 (by omega) (fun p h1 h2 => by have := hm p h1 h2; omega)
    have hx : qf_pr x2 ∈ c1 := p1.mem_iff.mpr (by simp)
    have fin : ∀ room : Int32, room = nI (2 ^ q') → wL_lawOf_471 post mc ms x2 (nI c.length) (nI (c.length + 1)) room kc ks rc' b1 b2 b3 b4 b5 b6 b7 := by
      intro room e
      subst e
      unfold wL_lawOf_471
      refine pk_eq c.length 63 (fun w => absurd w (by omega)) (fun _ => ?_)
      rw [nI_1]
      exact qf_l491 HP r0 (fun _ => ⟨r1, hx⟩)
    refine pk_le 7 c.length (fun w7 => pk_le 15 c.length (fun w15 => pk_le 31 c.length (fun w31 => fin _ ?_) (fun w31 => fin _ ?_)) (fun w15 => fin _ ?_)) (fun w7 => fin _ ?_)
    · rw [hr.2.2.2 w31]; rfl
    · rw [hr.2.2.1 w15 w31]; rfl
    · rw [hr.2.1 w7 w15]; rfl
    · rw [hr.1 w7]; rfl
theorem qf_l368 {x0 x1 x2 : Int32} {o : Nat} (HP : post 1 ()) (ho : o < 64) (hR0 : qf_R 0 6 (qf_pl x0 x1 63) a1 a2 a3 a4 a5 a6) (hR1 : qf_R 1 3 [qf_pr x2] a1 a2 a3 a4 a5 a6) :
    ∃ n, wL_lawOf_368 post mc ms x0 x1 x2 (nI o) kc ks n 0 rc a1 a2 a3 a4 a5 a6 a7 := by
  refine pk_loop (σ := Int32 × (Nat → Int32) × (Nat → Int32) × (Nat → Int32) × (Nat → Int32) × (Nat → Int32) × (Nat → Int32) × (Nat → Int32)) (fun n i s => wL_lawOf_368 post mc ms x0 x1 x2 (nI o) kc ks n (nI i) s.1 s.2.1 s.2.2.1 s.2.2.2.1 s.2.2.2.2.1 s.2.2.2.2.2.1 s.2.2.2.2.2.2.1 s.2.2.2.2.2.2.2)
    (fun i s => ∃ c, qf_R 0 6 c s.2.1 s.2.2.1 s.2.2.2.1 s.2.2.2.2.1 s.2.2.2.2.2.1 s.2.2.2.2.2.2.1 ∧ qf_R 1 3 [qf_pr x2] s.2.1 s.2.2.1 s.2.2.2.1 s.2.2.2.2.1 s.2.2.2.2.2.1 s.2.2.2.2.2.2.1 ∧ (c ++ qf_pl x0 x1 (min i o)).Perm (qf_pl x0 x1 63)) 63 0 (rc, a1, a2, a3, a4, a5, a6, a7) (by omega)
    ⟨_, hR0, hR1, by rw [Nat.zero_min]; simp [qf_pl]⟩ ?_ ?_
  · rintro n ⟨rc, a1, a2, a3, a4, a5, a6, a7⟩ ⟨c, r0, r1, hp⟩
    dsimp only at r0 r1
    have hlen := hp.length_eq
    rw [List.length_append, qf_pl_len, qf_pl_len] at hlen
    refine pk_le 63 63 (fun _ => nm_r (e' := nI c.length) ?_ ?_) (fun z => absurd z (by omega))
    · rw [show (63 : Int32) - nI o = nI (63 - o) from pk_sub (a := 63) (by omega)]
      congr 1
      omega
    · refine qf_count (f := 0) (by decide) (br_t r0.2.1 (qf_lpour HP r0 r1))
  · rintro n i ⟨rc, a1, a2, a3, a4, a5, a6, a7⟩ hi ⟨c, r0, r1, hp⟩ hw
    dsimp only at r0 r1
    refine pk_le 63 i (fun z => absurd z (by omega)) (fun _ => ?_)
    refine pk_le o i (fun z => nm_r (nI_1 i) (hw (rc, a1, a2, a3, a4, a5, a6, a7) ⟨c, r0, r1, ?_⟩)) (fun z => ?_)
    · rw [show min (i + 1) o = min i o by omega]
      exact hp
    · rw [show min i o = i by omega] at hp
      have hm := qf_pl_mem (by omega) hp
      refine qf_remove (f := 0) r0 hm (fun n' rc' c' b2 b3 b4 b5 b6 b7 hn' r p k => br_t (nI_pos' hn') (nm_r (nI_1 i) (hw (rc', a1, b2, b3, b4, b5, b6, b7) ⟨c', r, qf_keep k (by decide) r1, ?_⟩)))
      rw [show min (i + 1) o = i + 1 by omega, qf_pl_s]
      refine List.Perm.trans ?_ ((p.append_right _).trans hp)
      exact List.perm_middle
end
end
section
/-! the law: its middle and its first third -/
section
variable {rc : Int32} {a1 a2 a3 a4 a5 a6 a7 : Nat → Int32} {post : Int32 → St0 → Prop} {mc ms kc ks : Nat} {x0 x1 x2 x3 : Int32}
theorem qf_count_le (v : Nat) (n : Nat) : (qf_pl x0 x1 n).count v ≤ n := by
  have := List.count_le_length (a := v) (l := qf_pl x0 x1 n)
  rw [qf_pl_len] at this
  exact this
theorem qf_l234 {J : Int32 → Int32 → Int32 → (Nat → Int32) → (Nat → Int32) → (Nat → Int32) → (Nat → Int32) → (Nat → Int32) → (Nat → Int32) → (Nat → Int32) → Prop} {x7 : Int32} {i v : Nat} (hR0 : qf_R 0 6 (qf_pl x0 x1 63) a1 a2 a3 a4 a5 a6) (hv : v ∈ qf_pl x0 x1 63) (h7 : ¬ nI v < x7)
    (H : J (nI v) (nI (i + 1)) rc a1 a2 a3 a4 a5 a6 a7) : ∃ n, wL_lawOf_234 post mc ms J x0 x1 x2 x3 x7 (nI i) (nI v) kc ks rc a1 a2 a3 a4 a5 a6 a7 n 0 0 := by
  have hv2 := qf_R_v hR0 v hv
  refine pk_loop (σ := Unit) (fun n j _ => wL_lawOf_234 post mc ms J x0 x1 x2 x3 x7 (nI i) (nI v) kc ks rc a1 a2 a3 a4 a5 a6 a7 n (nI ((qf_pl x0 x1 j).count v)) (nI j)) (fun _ _ => True) 63 0 () (by omega) trivial ?_ ?_
  · intro n _ _
    have h1 := List.count_pos_iff.mpr hv
    have h2 := qf_count_le (x0 := x0) (x1 := x1) v 63
    exact pk_le 63 63 (fun _ => br_f h7 (qf_times (f := 0) hR0 hv2 (br_t rfl (br_f (nI_ne0 h1 (by omega)) (nm_r (nI_1 i) H))))) (fun z => absurd z (by omega))
  · intro n j _ hj _ hw
    have hw' := hw () trivial
    have h3 := qf_pr_lt (x0 + nI j * x1)
    refine pk_le 63 j (fun z => absurd z (by omega)) (fun _ => qf_Lprint ?_)
    rw [qf_pl_s, List.count_cons] at hw'
    refine pk_eq (qf_pr (x0 + nI j * x1)) v (fun e => nm_r (nI_1 _) (nm_r (nI_1 j) ?_)) (fun e => nm_r (nI_1 j) ?_)
    · rw [if_pos (by simp; exact e)] at hw'
      exact hw'
    · rw [if_neg (by simp; exact e)] at hw'
      exact hw'
theorem qf_l211 (HP : post 1 ()) (hR0 : qf_R 0 6 (qf_pl x0 x1 63) a1 a2 a3 a4 a5 a6) (hR1 : qf_R 1 3 [] a1 a2 a3 a4 a5 a6) :
    ∃ n, wL_lawOf_211 post mc ms x0 x1 x2 x3 kc ks n (-1) 0 rc a1 a2 a3 a4 a5 a6 a7 := by
  refine pk_loop (σ := Int32 × Int32 × (Nat → Int32)) (fun n i s => wL_lawOf_211 post mc ms x0 x1 x2 x3 kc ks n s.1 (nI i) s.2.1 a1 a2 a3 a4 a5 a6 s.2.2)
    (fun i s => (i = 0 ∧ s.1 = -1) ∨ (0 < i ∧ ∃ v, v < 256 ∧ s.1 = nI v ∧ qf_good (qf_pl x0 x1 63) (i - 1) v)) 63 0 (-1, rc, a7) (by omega) (Or.inl ⟨rfl, rfl⟩) ?_ ?_
  · rintro n ⟨last, rc, a7⟩ _
    have hl := qf_pl_len x0 x1 63
    refine pk_le 63 63 (fun _ => ?_) (fun z => absurd z (by omega))
    refine qf_print (f := 0) (k := 63) hR0 (by decide) (fun _ => br_t rfl ?_) (fun z => absurd z (by omega))
    refine qf_add (f := 1) hR1 (fun z => absurd z (by decide)) (fun _ b2 b3 b4 b5 b6 r1 k => br_t rfl ?_)
    have r0 := qf_keep k (show 0 ≠ 1 by decide) hR0
    have hl1 : [qf_pr x2].length = 1 := rfl
    refine qf_pour r0 r1 (fun _ => br_t rfl (qf_count (f := 1) (by decide) (br_t r1.2.1 (qf_size (f := 1) r1.1 (br_t rfl ?_))))) (fun z => absurd z (by omega))
    obtain ⟨o, ho, e⟩ := pk_andE x3 (m := 63) 6 (by decide)
    exact nm_r e (qf_l368 HP (by omega) r0 r1)
  · rintro n i ⟨last, rc, a7⟩ hi hs hw
    dsimp only at hs
    have hl := qf_pl_len x0 x1 63
    refine pk_le 63 i (fun z => absurd z (by omega)) (fun _ => ?_)
    refine qf_print (f := 0) (k := i) hR0 (by omega) (fun z => absurd z (by omega)) (fun _ v rc' b7 hv hg => ?_)
    have hv2 := qf_R_v hR0 v hv
    refine qf_l234 hR0 hv ?_ (hw (nI v, rc', b7) (Or.inr ⟨by omega, v, hv2, rfl, hg⟩))
    show ¬ nI v < last
    rcases hs with ⟨_, e⟩ | ⟨h0, w, hw2, e, hgw⟩
    · rw [e]
      intro z
      have h1 : (nI v).toInt < (-1 : Int32).toInt := Int32.lt_iff_toInt_lt.mp z
      rw [nI_toInt (by omega)] at h1
      have h2 : (-1 : Int32).toInt = -1 := by decide
      omega
    · rw [e]
      obtain ⟨i', rfl⟩ : ∃ i', i = i' + 1 := ⟨i - 1, by omega⟩
      have h1 := qf_good_le hgw hg
      exact nI_nlt h1 (by omega)
theorem qf_l89 {J : Int32 → Int32 → Int32 → Int32 → (Nat → Int32) → (Nat → Int32) → (Nat → Int32) → (Nat → Int32) → (Nat → Int32) → (Nat → Int32) → (Nat → Int32) → Prop} {n q i : Nat} {z0 : Int32}
    (hR0 : qf_R 0 q (qf_pl x0 x1 n) a1 a2 a3 a4 a5 a6) (hR1 : qf_R 1 3 [] a1 a2 a3 a4 a5 a6)
    (hz : (n + 1 = 2 ^ q → z0 = -2) ∧ (n + 1 < 2 ^ q → z0 = nI ((qf_pl x0 x1 (n + 1)).count (qf_pj x0 x1 n))))
    (H : ∀ n' q' rc b1 b2 b3 b4 b5 b6 b7, qf_R 0 q' (qf_pl x0 x1 n') b1 b2 b3 b4 b5 b6 → qf_R 1 3 [] b1 b2 b3 b4 b5 b6 → ((n' = n + 1 ∧ q' = q ∧ n + 1 < 2 ^ q) ∨ (n' = n ∧ q' = q + 1 ∧ q < 6) ∨ (n' = n ∧ q' = q ∧ q = 6 ∧ n = 63)) → J (nI n') (nI (2 ^ q')) (nI (i + 1)) rc b1 b2 b3 b4 b5 b6 b7) :
    wL_lawOf_89 post mc ms J x0 x1 x2 x3 (nI n) (nI (2 ^ q)) (nI i) (x0 + nI n * x1) z0 kc ks rc a1 a2 a3 a4 a5 a6 a7 := by
  have hl := qf_pl_len x0 x1 n
  have hc := hR0.1
  have hm := qf_C_m hc
  have h3 := hc.2.1
  have h6 := hc.2.2.1
  unfold wL_lawOf_89
  refine qf_add (f := 0) hR0 (fun z => ?_) (fun z b2 b3 b4 b5 b6 r0 k => ?_)
  · rw [hl] at z
    rw [hz.1 z]
    refine br_t rfl (qf_size (f := 0) hc (br_t rfl (br_t (by decide) ?_)))
    have h150 : ∀ (q' : Nat) (rc' : Int32) (b1 b2 b3 b4 b5 b6 b7 : Nat → Int32) (r z0 : Int32), r = z0 → qf_R 0 q' (qf_pl x0 x1 n) b1 b2 b3 b4 b5 b6 → qf_R 1 3 [] b1 b2 b3 b4 b5 b6 → ((q' = q + 1 ∧ q < 6) ∨ (q' = q ∧ q = 6 ∧ n = 63)) → wL_lawOf_150 post mc ms J x0 x1 x2 x3 (nI n) (nI (2 ^ q)) (nI i) z0 r kc ks rc' b1 b2 b3 b4 b5 b6 b7 := by
      intro q' rc' b1 b2 b3 b4 b5 b6 b7 r z0 e r0 r1 hq
      unfold wL_lawOf_150
      refine br_t e (pk_le 64 (2 ^ q) (fun w => nm_r (nI_1 i) ?_) (fun w => nm_r (e' := nI (2 ^ (q + 1))) ?_ (nm_r (nI_1 i) ?_)))
      · rcases hq with ⟨e1, e2⟩ | ⟨e1, e2, e3⟩
        · have : 2 ^ q ≤ 2 ^ 5 := Nat.pow_le_pow_right (by decide) (by omega)
          omega
        · rw [← e1]
          exact H _ _ _ _ _ _ _ _ _ _ r0 r1 (Or.inr (Or.inr ⟨rfl, e1, e2, e3⟩))
      · rw [show (2 : Int32) * nI (2 ^ q) = nI (2 * 2 ^ q) from pk_mul 2 (2 ^ q), Nat.pow_succ, Nat.mul_comm]
      · rcases hq with ⟨e1, e2⟩ | ⟨e1, e2, e3⟩
        · rw [← e1]
          exact H _ _ _ _ _ _ _ _ _ _ r0 r1 (Or.inr (Or.inl ⟨rfl, e1, e2⟩))
        · rw [e2] at w
          omega
    refine qf_grow (f := 0) hR0 (fun e => ?_) (fun e rc' b1 b2 b3 b4 b5 b6 b7 r0 k => ?_)
    · refine br_t (by rw [e]; rfl) (h150 q _ _ _ _ _ _ _ _ _ _ rfl hR0 hR1 (Or.inr ⟨rfl, e, ?_⟩))
      rw [e] at z
      omega
    · refine br_f (fun w => ?_) (h150 (q + 1) _ _ _ _ _ _ _ _ _ _ ?_ r0 (qf_keep k (by decide) hR1) (Or.inl ⟨rfl, by omega⟩))
      · have h7 : 2 ^ q ≤ 2 ^ 5 := Nat.pow_le_pow_right (by decide) (by omega)
        have h8 := (nI_eq (a := 2 ^ q) (b := 64) (by omega) (by decide)).mp w
        omega
      · rw [show (2 : Int32) * nI (2 ^ q) = nI (2 * 2 ^ q) from pk_mul 2 (2 ^ q), Nat.pow_succ, Nat.mul_comm]
  · rw [hl] at z
    rw [hz.2 z]
    have h9 : (qf_pl x0 x1 (n + 1)).count (qf_pj x0 x1 n) = (qf_pl x0 x1 n).count (qf_pr (x0 + nI n * x1)) + 1 := by
      rw [qf_pl_s, List.count_cons_self]
      rfl
    have h10 := qf_count_le (x0 := x0) (x1 := x1) (qf_pr (x0 + nI n * x1)) n
    rw [h9]
    refine br_t rfl (qf_size (f := 0) r0.1 (br_t rfl (br_f (nI_nle (by omega) (by omega)) (nm_r (nI_1 n) (nm_r (nI_1 i) ?_)))))
    exact H (n + 1) q _ _ _ _ _ _ _ _ r0 (qf_keep k (by decide) hR1) (Or.inl ⟨rfl, rfl, z⟩)
theorem qf_l40 {J : Int32 → Int32 → Int32 → Int32 → (Nat → Int32) → (Nat → Int32) → (Nat → Int32) → (Nat → Int32) → (Nat → Int32) → (Nat → Int32) → (Nat → Int32) → Prop} {n q i : Nat}
    (hR0 : qf_R 0 q (qf_pl x0 x1 n) a1 a2 a3 a4 a5 a6) (hR1 : qf_R 1 3 [] a1 a2 a3 a4 a5 a6)
    (H : ∀ n' q' rc b1 b2 b3 b4 b5 b6 b7, qf_R 0 q' (qf_pl x0 x1 n') b1 b2 b3 b4 b5 b6 → qf_R 1 3 [] b1 b2 b3 b4 b5 b6 → ((n' = n + 1 ∧ q' = q ∧ n + 1 < 2 ^ q) ∨ (n' = n ∧ q' = q + 1 ∧ q < 6) ∨ (n' = n ∧ q' = q ∧ q = 6 ∧ n = 63)) → J (nI n') (nI (2 ^ q')) (nI (i + 1)) rc b1 b2 b3 b4 b5 b6 b7) :
    ∃ k, wL_lawOf_40 post mc ms J x0 x1 x2 x3 (nI n) (nI (2 ^ q)) (nI i) (x0 + nI n * x1) kc ks rc a1 a2 a3 a4 a5 a6 a7 k 0 0 := by
  have hl := qf_pl_len x0 x1 n
  have hn := qf_R_len hR0
  rw [hl] at hn
  have hm := qf_C_m hR0.1
  refine pk_loop (σ := Unit) (fun k j _ => wL_lawOf_40 post mc ms J x0 x1 x2 x3 (nI n) (nI (2 ^ q)) (nI i) (x0 + nI n * x1) kc ks rc a1 a2 a3 a4 a5 a6 a7 k (nI ((qf_pl x0 x1 j).count (qf_pj x0 x1 n))) (nI j)) (fun _ _ => True) (n + 1) 0 () (by omega) trivial ?_ ?_
  · intro k _ _
    refine pk_lt n (n + 1) (fun _ => ?_) (fun z => absurd z (by omega))
    refine pk_eq n (2 ^ q - 1) (fun e => qf_l89 hR0 hR1 ⟨fun _ => rfl, fun z => absurd z (by omega)⟩ H) (fun e => qf_l89 hR0 hR1 ⟨fun z => absurd z (by omega), fun _ => rfl⟩ H) rfl (pk_sub (b := 1) (by omega))
  · intro k j _ hj _ hw
    have hw' := hw () trivial
    have h3 := qf_pr_lt (x0 + nI j * x1)
    have h4 := qf_pr_lt (x0 + nI n * x1)
    refine pk_lt n j (fun z => absurd z (by omega)) (fun _ => qf_Lprint (qf_Lprint ?_))
    rw [qf_pl_s, List.count_cons] at hw'
    refine pk_eq (qf_pr (x0 + nI j * x1)) (qf_pr (x0 + nI n * x1)) (fun e => nm_r (nI_1 _) (nm_r (nI_1 j) ?_)) (fun e => nm_r (nI_1 j) ?_)
    · rw [if_pos (by simp; exact e)] at hw'
      exact hw'
    · rw [if_neg (by simp; exact e)] at hw'
      exact hw'
theorem qf_l19 (HP : post 1 ()) (hR0 : qf_R 0 3 [] a1 a2 a3 a4 a5 a6) (hR1 : qf_R 1 3 [] a1 a2 a3 a4 a5 a6) :
    ∃ k, wL_lawOf_19 post mc ms x0 x1 x2 x3 kc ks k 0 8 0 rc a1 a2 a3 a4 a5 a6 a7 := by
  refine pk_loop (σ := Nat × Nat × Int32 × (Nat → Int32) × (Nat → Int32) × (Nat → Int32) × (Nat → Int32) × (Nat → Int32) × (Nat → Int32) × (Nat → Int32)) (fun k i s => wL_lawOf_19 post mc ms x0 x1 x2 x3 kc ks k (nI s.1) (nI (2 ^ s.2.1)) (nI i) s.2.2.1 s.2.2.2.1 s.2.2.2.2.1 s.2.2.2.2.2.1 s.2.2.2.2.2.2.1 s.2.2.2.2.2.2.2.1 s.2.2.2.2.2.2.2.2.1 s.2.2.2.2.2.2.2.2.2)
    (fun i s => qf_R 0 s.2.1 (qf_pl x0 x1 s.1) s.2.2.2.1 s.2.2.2.2.1 s.2.2.2.2.2.1 s.2.2.2.2.2.2.1 s.2.2.2.2.2.2.2.1 s.2.2.2.2.2.2.2.2.1 ∧ qf_R 1 3 [] s.2.2.2.1 s.2.2.2.2.1 s.2.2.2.2.2.1 s.2.2.2.2.2.2.1 s.2.2.2.2.2.2.2.1 s.2.2.2.2.2.2.2.2.1 ∧ (s.1 + s.2.1 = i + 3 ∨ (s.1 = 63 ∧ s.2.1 = 6))) 80 0 (0, 3, rc, a1, a2, a3, a4, a5, a6, a7) (by omega) ⟨hR0, hR1, Or.inl rfl⟩ ?_ ?_
  · rintro k ⟨n, q, rc, a1, a2, a3, a4, a5, a6, a7⟩ ⟨r0, r1, h⟩
    dsimp only at r0 r1 h
    have hl := qf_pl_len x0 x1 n
    have hn := qf_R_len r0
    have hm := qf_C_m r0.1
    have h6 := r0.1.2.2.1
    have e : n = 63 ∧ q = 6 := by omega
    obtain ⟨rfl, rfl⟩ := e
    refine pk_le 80 80 (fun _ => br_t rfl (qf_count (f := 0) (by decide) (br_t ?_ (qf_shrink (f := 0) r0 (by decide) (fun _ => br_t rfl (qf_l211 HP r0 r1)) (fun z => absurd z ?_))))) (fun z => absurd z (by omega))
    · have h9 := r0.2.1
      rw [hl] at h9
      exact h9
    · rw [hl]
      decide
  · rintro k i ⟨n, q, rc, a1, a2, a3, a4, a5, a6, a7⟩ hi ⟨r0, r1, h⟩ hw
    dsimp only at r0 r1 h
    refine pk_le 80 i (fun z => absurd z (by omega)) (fun _ => nm_e (qf_l40 r0 r1 (fun n' q' rc b1 b2 b3 b4 b5 b6 b7 r0' r1' h' => ?_)))
    refine hw (n', q', rc, b1, b2, b3, b4, b5, b6, b7) ⟨r0', r1', ?_⟩
    dsimp only at h'
    show n' + q' = i + 1 + 3 ∨ (n' = 63 ∧ q' = 6)
    rcases h' with ⟨e1, e2, e3⟩ | ⟨e1, e2, e3⟩ | ⟨e1, e2, e3, e4⟩
    · rcases h with h | ⟨h, h'⟩
      · left; omega
      · rw [h, h'] at e3
        exact absurd e3 (by decide)
    · left; omega
    · right; omega
end
theorem qf_cell {post : Int32 → Prop} {L : Nat} {xs : Nat → Int32} (hL : L ≤ 4) (j : Nat) (hj : j < 4) (H : ∀ x, post x) : wpL_cellAt post L xs () (nI j) := by
  unfold wpL_cellAt
  exact pk_le L j (fun _ => H _) (fun z => ⟨pk_in j L z, H _⟩)
theorem qf_lawOf {post : Int32 → St0 → Prop} (HP : post 1 ()) (p0 p1 p2 p3 : Int32) : wpL_lawOf post 102 1632 () p0 p1 p2 p3 := by
  unfold wpL_lawOf
  refine ⟨by omega, by omega, 7, 580, by omega, by omega, ?_⟩
  unfold wpX_init
  refine ⟨by omega, by omega, by omega, by omega, by omega, by omega, by omega, by omega, by omega, by omega, by omega, by omega, by omega, by omega, nm_e (nm_e ?_)⟩
  have hq : ∀ f, qf_Q f (2 ^ 3) (8 - 3) [] (fun _ => 0) (fun _ => 0) (fun _ => 0) (fun _ => 0) := fun f => qf_Q_0 (by decide) (by decide) (fun j _ => ⟨rfl, rfl, rfl⟩)
  refine qf_l19 HP ⟨⟨by decide, by decide, by decide, rfl, ?_⟩, rfl, hq 0⟩ ⟨⟨by decide, by decide, by decide, rfl, ?_⟩, rfl, hq 1⟩
  · rfl
  · rfl
theorem i_vc (xs : Nat → Int32) (L : Nat) (hL : L ≤ 4) : wpL_law (fun r => r = 1) L xs := by
  unfold wpL_law
  refine qf_cell hL 0 (by omega) (fun p0 => qf_cell hL 1 (by omega) (fun p1 => qf_cell hL 2 (by omega) (fun p2 => qf_cell hL 3 (by omega) (fun p3 => ⟨102, 1632, by omega, by omega, qf_lawOf rfl p0 p1 p2 p3⟩))))
end
