section
/-! pure part: sums, words, codes, the machine, counting -/
def rc_sm (f : Nat → Nat) : Nat → Nat
  | 0 => 0
  | n + 1 => rc_sm f n + f n
theorem rc_sm_s (f : Nat → Nat) (n : Nat) : rc_sm f (n + 1) = rc_sm f n + f n := rfl
theorem rc_sm_congr {f g : Nat → Nat} {n : Nat} (h : ∀ i, i < n → f i = g i) : rc_sm f n = rc_sm g n := by
  induction n with
  | zero => rfl
  | succ n ih =>
    rw [rc_sm_s, rc_sm_s, ih (fun i hi => h i (by omega)), h n (by omega)]
theorem rc_sm_add (f g : Nat → Nat) (n : Nat) : rc_sm (fun i => f i + g i) n = rc_sm f n + rc_sm g n := by
  induction n with
  | zero => rfl
  | succ n ih =>
    rw [rc_sm_s, rc_sm_s, rc_sm_s, ih]
    omega
theorem rc_sm_split (f : Nat → Nat) (m n : Nat) : rc_sm f (m + n) = rc_sm f m + rc_sm (fun i => f (m + i)) n := by
  induction n with
  | zero => rfl
  | succ n ih =>
    rw [← Nat.add_assoc, rc_sm_s, rc_sm_s, ih]
    omega
theorem rc_sm_0 {f : Nat → Nat} {n : Nat} (h : ∀ i, i < n → f i = 0) : rc_sm f n = 0 := by
  induction n with
  | zero => rfl
  | succ n ih =>
    rw [rc_sm_s, ih (fun i hi => h i (by omega)), h n (by omega)]
theorem rc_sm_swap (f : Nat → Nat → Nat) (m n : Nat) : rc_sm (fun i => rc_sm (fun j => f i j) n) m = rc_sm (fun j => rc_sm (fun i => f i j) m) n := by
  induction m with
  | zero => exact (rc_sm_0 (fun _ _ => rfl)).symm
  | succ m ih =>
    rw [rc_sm_s, ih, ← rc_sm_add]
    rfl
theorem rc_sm_le {f g : Nat → Nat} {n : Nat} (h : ∀ i, i < n → f i ≤ g i) : rc_sm f n ≤ rc_sm g n := by
  induction n with
  | zero => exact Nat.le_refl 0
  | succ n ih =>
    rw [rc_sm_s, rc_sm_s]
    have h1 := ih (fun i hi => h i (by omega))
    have h2 := h n (by omega)
    omega
theorem rc_sm_1 (n : Nat) : rc_sm (fun _ => 1) n = n := by
  induction n with
  | zero => rfl
  | succ n ih => rw [rc_sm_s, ih]
theorem rc_sm_mono (f : Nat → Nat) {m n : Nat} (h : m ≤ n) : rc_sm f m ≤ rc_sm f n := by
  obtain ⟨d, rfl⟩ := Nat.exists_eq_add_of_le h
  rw [rc_sm_split]
  omega
theorem rc_sm_ge (f : Nat → Nat) {i n : Nat} (h : i < n) : f i ≤ rc_sm f n := by
  have h1 := rc_sm_mono f (show i + 1 ≤ n by omega)
  rw [rc_sm_s] at h1
  omega
theorem rc_sm_pt {f : Nat → Nat} {n c : Nat} (hc : c < n) (h1 : f c = 1) (h0 : ∀ i, i < n → i ≠ c → f i = 0) : rc_sm f n = 1 := by
  obtain ⟨d, rfl⟩ := Nat.exists_eq_add_of_le (show c + 1 ≤ n by omega)
  rw [rc_sm_split, rc_sm_s, rc_sm_0 (fun i hi => h0 i (by omega) (by omega)), rc_sm_0 (fun i hi => h0 _ (by omega) (by omega)), h1]
theorem rc_sm_ub {f : Nat → Nat} {n : Nat} (h : ∀ i, i < n → f i ≤ 1) : rc_sm f n ≤ n := by
  have h1 := rc_sm_le (g := fun _ => 1) h
  rw [rc_sm_1] at h1
  exact h1

/-- equality of lists as a number -/
def rc_eq (a b : List Nat) : Nat := if a = b then 1 else 0
theorem rc_eq_t {a b : List Nat} (h : a = b) : rc_eq a b = 1 := if_pos h
theorem rc_eq_f {a b : List Nat} (h : ¬ a = b) : rc_eq a b = 0 := if_neg h
theorem rc_eq_ub (a b : List Nat) : rc_eq a b ≤ 1 := by
  unfold rc_eq
  split <;> omega
theorem rc_summed (f : Nat → List Nat) (N : Nat) : rc_sm (fun c => if rc_sm (fun u => rc_eq (f u) (f c)) c = 0 then rc_sm (fun w => rc_eq (f w) (f c)) N else 0) N = N := by
  have h1 : rc_sm (fun c => if rc_sm (fun u => rc_eq (f u) (f c)) c = 0 then rc_sm (fun w => rc_eq (f w) (f c)) N else 0) N = rc_sm (fun c => rc_sm (fun w => if rc_sm (fun u => rc_eq (f u) (f c)) c = 0 then rc_eq (f w) (f c) else 0) N) N := by
    refine rc_sm_congr (fun c _ => ?_)
    by_cases h : rc_sm (fun u => rc_eq (f u) (f c)) c = 0
    · simp only [h, if_true]
    · simp only [h, if_false]
      exact (rc_sm_0 (fun _ _ => rfl)).symm
  have h2 : ∀ w, w < N → rc_sm (fun c => if rc_sm (fun u => rc_eq (f u) (f c)) c = 0 then rc_eq (f w) (f c) else 0) N = 1 := by
    intro w hw
    obtain ⟨c0, hc0, hm⟩ := pk_least (fun c => f c = f w) ⟨w, rfl⟩
    have hc : c0 < N := by
      rcases Nat.lt_or_ge w c0 with h | h
      · exact absurd rfl (hm w h)
      · omega
    refine rc_sm_pt hc ?_ ?_
    · have hz : rc_sm (fun u => rc_eq (f u) (f c0)) c0 = 0 := rc_sm_0 (fun i hi => rc_eq_f (fun z => hm i hi (z.trans hc0)))
      simp only [hz, if_true]
      exact rc_eq_t hc0.symm
    · intro i hi hne
      by_cases he : f w = f i
      · have hlt : c0 < i := by
          rcases Nat.lt_or_ge i c0 with h | h
          · exact absurd he.symm (hm i h)
          · omega
        have hge := rc_sm_ge (fun u => rc_eq (f u) (f i)) hlt
        have h1 : rc_eq (f c0) (f i) = 1 := rc_eq_t (hc0.trans he)
        have hnz : ¬ rc_sm (fun u => rc_eq (f u) (f i)) i = 0 := by
          intro z
          simp only [z, h1] at hge
          omega
        simp only [hnz, if_false]
      · have h0 : rc_eq (f w) (f i) = 0 := rc_eq_f he
        simp only [h0]
        split <;> rfl
  rw [h1, rc_sm_swap, rc_sm_congr h2, rc_sm_1]

/-- a code that is new at place w -/
def rc_nw (c : Nat → Nat) (w : Nat) : Nat := if rc_sm (fun u => if c u = c w then 1 else 0) w = 0 then 1 else 0
theorem rc_nw_ub (c : Nat → Nat) (w : Nat) : rc_nw c w ≤ 1 := by
  unfold rc_nw
  split <;> omega
theorem rc_nw_1 {c : Nat → Nat} {w : Nat} (h : ∀ u, u < w → c u ≠ c w) : rc_nw c w = 1 := by
  have hz : rc_sm (fun u => if c u = c w then 1 else 0) w = 0 := rc_sm_0 (fun i hi => if_neg (h i hi))
  unfold rc_nw
  rw [if_pos hz]
theorem rc_nw_0 {c : Nat → Nat} {w u : Nat} (hu : u < w) (h : c u = c w) : rc_nw c w = 0 := by
  have hge := rc_sm_ge (fun u => if c u = c w then 1 else 0) hu
  have h1 : (if c u = c w then 1 else 0) = 1 := if_pos h
  unfold rc_nw
  rw [if_neg]
  intro z
  rw [z] at hge
  omega
theorem rc_one (c N b : Nat) : ∀ n : Nat, (c < N + n → rc_sm (fun w => if c = N + w then b else 0) n ≤ b) ∧ (N + n ≤ c → rc_sm (fun w => if c = N + w then b else 0) n = 0) := by
  intro n
  induction n with
  | zero => exact ⟨fun _ => Nat.zero_le b, fun _ => rfl⟩
  | succ n ih =>
    obtain ⟨i1, i2⟩ := ih
    rw [rc_sm_s]
    by_cases e : c = N + n
    · simp only [if_pos e]
      refine ⟨fun _ => ?_, fun z => absurd z (by omega)⟩
      rw [i2 (by omega)]
      omega
    · simp only [if_neg e]
      exact ⟨fun z => i1 (by omega), fun z => i2 (by omega)⟩
theorem rc_still_le (c : Nat → Nat) (N : Nat) : rc_sm (fun w => if c w = N + w then 1 else 0) N ≤ rc_sm (rc_nw c) N := by
  have h1 : ∀ w, w < N → (if c w = N + w then 1 else 0) ≤ rc_sm (fun i => if c i = N + w then rc_nw c i else 0) N := by
    intro w hw
    by_cases e : c w = N + w
    · rw [if_pos e]
      obtain ⟨i0, hi0, hm⟩ := pk_least (fun i => c i = N + w) ⟨w, e⟩
      have hi : i0 < N := by
        rcases Nat.lt_or_ge w i0 with h | h
        · exact absurd e (hm w h)
        · omega
      have hge := rc_sm_ge (fun i => if c i = N + w then rc_nw c i else 0) hi
      have h1 : rc_nw c i0 = 1 := rc_nw_1 (fun u hu z => hm u hu (z.trans hi0))
      rw [if_pos hi0, h1] at hge
      exact hge
    · rw [if_neg e]
      exact Nat.zero_le _
  refine Nat.le_trans (rc_sm_le h1) ?_
  rw [rc_sm_swap]
  refine rc_sm_le (fun i _ => ?_)
  have h2 := rc_one (c i) N (rc_nw c i) N
  rcases Nat.lt_or_ge (c i) (N + N) with h | h
  · exact h2.1 h
  · rw [h2.2 h]
    exact Nat.zero_le _
theorem rc_im_pos (c : Nat → Nat) {N : Nat} (h : 0 < N) : 1 ≤ rc_sm (rc_nw c) N := by
  have h1 := rc_sm_ge (rc_nw c) h
  rw [rc_nw_1 (fun u hu => absurd hu (by omega))] at h1
  exact h1
theorem rc_im_ub (c : Nat → Nat) (N : Nat) : rc_sm (rc_nw c) N ≤ N := rc_sm_ub (fun i _ => rc_nw_ub c i)

/-! words and codes -/
def rc_l4 (xs : List Nat) : Prop := ∀ x, x ∈ xs → x < 4
theorem rc_l4_nil : rc_l4 [] := fun x h => absurd h (List.not_mem_nil)
theorem rc_l4_cons {x : Nat} {xs : List Nat} (h : x < 4) (hs : rc_l4 xs) : rc_l4 (x :: xs) := by
  intro y hy
  rcases List.mem_cons.mp hy with e | e
  · rw [e]
    exact h
  · exact hs y e
theorem rc_l4_app {xs ys : List Nat} (hx : rc_l4 xs) (hy : rc_l4 ys) : rc_l4 (xs ++ ys) := by
  intro y h
  rcases List.mem_append.mp h with e | e
  · exact hx y e
  · exact hy y e
theorem rc_l4_tl {x : Nat} {xs : List Nat} (h : rc_l4 (x :: xs)) : x < 4 ∧ rc_l4 xs :=
  ⟨h x (List.mem_cons.mpr (Or.inl rfl)), fun y hy => h y (List.mem_cons.mpr (Or.inr hy))⟩
def rc_cf : List Nat → Nat → Nat
  | [], c => c
  | x :: xs, c => rc_cf xs (4 * c + x)
def rc_cd (o : List Nat) : Nat := rc_cf o 1
def rc_nm : List Nat → Nat
  | [] => 0
  | x :: xs => x * 4 ^ xs.length + rc_nm xs
theorem rc_cf_eq (xs : List Nat) : ∀ c, rc_cf xs c = c * 4 ^ xs.length + rc_nm xs := by
  induction xs with
  | nil => intro c; show c = c * 4 ^ 0 + 0; omega
  | cons x xs ih =>
    intro c
    show rc_cf xs (4 * c + x) = c * 4 ^ (xs.length + 1) + (x * 4 ^ xs.length + rc_nm xs)
    rw [ih, Nat.add_mul, Nat.pow_succ]
    have : 4 * c * 4 ^ xs.length = c * (4 ^ xs.length * 4) := by
      rw [Nat.mul_comm 4 c, Nat.mul_assoc, Nat.mul_comm 4]
    omega
theorem rc_nm_lt {xs : List Nat} (h : rc_l4 xs) : rc_nm xs < 4 ^ xs.length := by
  induction xs with
  | nil => exact Nat.one_pos
  | cons x xs ih =>
    have h2 := rc_l4_tl h
    have h3 := ih h2.2
    show x * 4 ^ xs.length + rc_nm xs < 4 ^ (xs.length + 1)
    rw [Nat.pow_succ]
    have h4 : x * 4 ^ xs.length ≤ 3 * 4 ^ xs.length := Nat.mul_le_mul_right _ (by omega)
    omega
theorem rc_cd_eq (xs : List Nat) : rc_cd xs = 4 ^ xs.length + rc_nm xs := by
  unfold rc_cd
  rw [rc_cf_eq, Nat.one_mul]
theorem rc_cd_pos (xs : List Nat) : 1 ≤ rc_cd xs := by
  rw [rc_cd_eq]
  have : 0 < 4 ^ xs.length := Nat.pow_pos (by decide)
  omega
theorem rc_cd_lt {xs : List Nat} (h : rc_l4 xs) (hl : xs.length ≤ 12) : rc_cd xs < 33554432 := by
  rw [rc_cd_eq]
  have h1 := rc_nm_lt h
  have h2 : 4 ^ xs.length ≤ 4 ^ 12 := Nat.pow_le_pow_right (by decide) hl
  have h3 : 4 ^ 12 = 16777216 := by decide
  omega
theorem rc_dm {a b p r s : Nat} (hp : 0 < p) (h : a * p + r = b * p + s) (hr : r < p) (hs : s < p) : a = b ∧ r = s := by
  have h1 : (a * p + r) / p = a := by rw [Nat.mul_comm, Nat.mul_add_div hp, Nat.div_eq_of_lt hr, Nat.add_zero]
  have h2 : (b * p + s) / p = b := by rw [Nat.mul_comm, Nat.mul_add_div hp, Nat.div_eq_of_lt hs, Nat.add_zero]
  have e : a = b := by rw [← h1, ← h2, h]
  subst e
  exact ⟨rfl, by omega⟩
theorem rc_nm_inj {xs : List Nat} : ∀ {ys : List Nat}, xs.length = ys.length → rc_l4 xs → rc_l4 ys → rc_nm xs = rc_nm ys → xs = ys := by
  induction xs with
  | nil =>
    intro ys hl _ _ _
    exact (List.length_eq_zero_iff.mp hl.symm).symm
  | cons x xs ih =>
    intro ys hl hx hy h
    cases ys with
    | nil => exact absurd hl (by simp)
    | cons y ys =>
      have hl' : xs.length = ys.length := by simpa using hl
      have e : x * 4 ^ xs.length + rc_nm xs = y * 4 ^ xs.length + rc_nm ys := by
        have h' : x * 4 ^ xs.length + rc_nm xs = y * 4 ^ ys.length + rc_nm ys := h
        rw [← hl'] at h'
        exact h'
      have hy2 := rc_nm_lt (rc_l4_tl hy).2
      rw [← hl'] at hy2
      have d := rc_dm (Nat.pow_pos (by decide)) e (rc_nm_lt (rc_l4_tl hx).2) hy2
      rw [d.1, ih hl' (rc_l4_tl hx).2 (rc_l4_tl hy).2 d.2]
theorem rc_len_le {m n a b : Nat} (h : 4 ^ m + a = 4 ^ n + b) (ha : a < 4 ^ m) : n ≤ m := by
  rcases Nat.lt_or_ge m n with z | z
  · have h1 : 4 ^ (m + 1) ≤ 4 ^ n := Nat.pow_le_pow_right (by decide) z
    rw [Nat.pow_succ] at h1
    omega
  · exact z
theorem rc_cd_inj {xs ys : List Nat} (hx : rc_l4 xs) (hy : rc_l4 ys) (h : rc_cd xs = rc_cd ys) : xs = ys := by
  rw [rc_cd_eq, rc_cd_eq] at h
  have l1 := rc_len_le h (rc_nm_lt hx)
  have l2 := rc_len_le h.symm (rc_nm_lt hy)
  have l : xs.length = ys.length := by omega
  rw [l] at h
  exact rc_nm_inj l hx hy (by omega)
/-- the n letters of the number v -/
def rc_dg : Nat → Nat → List Nat
  | 0, _ => []
  | n + 1, v => (v / 4 ^ n % 4) :: rc_dg n v
theorem rc_dg_s (n v : Nat) : rc_dg (n + 1) v = (v / 4 ^ n % 4) :: rc_dg n v := rfl
theorem rc_dg_len (n v : Nat) : (rc_dg n v).length = n := by
  induction n with
  | zero => rfl
  | succ n ih => rw [rc_dg_s, List.length_cons, ih]
theorem rc_dg_l4 (n v : Nat) : rc_l4 (rc_dg n v) := by
  induction n with
  | zero => exact rc_l4_nil
  | succ n ih => exact rc_l4_cons (Nat.mod_lt _ (by decide)) ih
theorem rc_dg_nm (n v : Nat) : rc_nm (rc_dg n v) = v % 4 ^ n := by
  induction n with
  | zero => show 0 = v % 1; omega
  | succ n ih =>
    show v / 4 ^ n % 4 * 4 ^ (rc_dg n v).length + rc_nm (rc_dg n v) = v % 4 ^ (n + 1)
    rw [rc_dg_len, ih, Nat.pow_succ, Nat.mod_mul, Nat.mul_comm]
    omega
theorem rc_dg_cd {n v : Nat} (h : v < 4 ^ n) : rc_cd (rc_dg n v) = 4 ^ n + v := by
  rw [rc_cd_eq, rc_dg_len, rc_dg_nm, Nat.mod_eq_of_lt h]
theorem rc_dg_lo (m : Nat) : ∀ c i : Nat, rc_dg m (c * 4 ^ m + i) = rc_dg m i := by
  induction m with
  | zero => intro c i; rfl
  | succ m ih =>
    intro c i
    have e : c * 4 ^ (m + 1) + i = (c * 4) * 4 ^ m + i := by
      rw [Nat.pow_succ, Nat.mul_assoc, Nat.mul_comm 4]
    have hp : 0 < 4 ^ m := Nat.pow_pos (by decide)
    rw [rc_dg_s, rc_dg_s, e, ih, Nat.mul_comm (c * 4), Nat.mul_add_div hp]
    congr 1
    omega
theorem rc_dg_bl {m l i : Nat} (hl : l < 4) (hi : i < 4 ^ m) : rc_dg (m + 1) (l * 4 ^ m + i) = l :: rc_dg m i := by
  have hp : 0 < 4 ^ m := Nat.pow_pos (by decide)
  rw [rc_dg_s, rc_dg_lo, Nat.mul_comm l, Nat.mul_add_div hp, Nat.div_eq_of_lt hi]
  congr 1
  omega
end
section
/-! the machine, pure -/
abbrev rc_M : Type := Nat → Nat × Nat × Nat
abbrev rc_R : Type := Int32 × Int32 × Nat × Int32 × Int32
abbrev rc_T : Type := Nat → rc_M → rc_M × List Nat
abbrev rc_Q : Type := rc_M × Nat × Bool
def rc_ho (c l : Nat) : Nat × List Nat := if 12 ≤ c then (c, []) else (c + 1, [l])
def rc_al (set : Int32) (x : Nat) : Bool := decide (((set >>> (nI x &&& 31)) &&& 1) = 1)
/-- what kind 2 hands on ahead of the letter -/
def rc_m1 (R : rc_R) (m : Nat × Nat × Nat) (x : Nat) : Nat × List Nat :=
  if rc_al R.2.2.2.1 m.1 = true ∧ rc_al R.2.2.2.2 x = true then rc_ho m.2.2 R.2.2.1 else (m.2.2, [])
/-- what the other kinds hand on -/
def rc_m2 (R : rc_R) (m : Nat × Nat × Nat) (x : Nat) : Nat × List Nat :=
  if nI m.2.1 = R.2.1 ∧ rc_al R.2.2.2.1 m.1 = true ∧ rc_al R.2.2.2.2 x = true then (if R.1 = 0 then rc_ho m.2.2 R.2.2.1 else (m.2.2, [])) else rc_ho m.2.2 m.2.1
def rc_hd (x : Nat) : Nat := if x = 4 then 5 else x
def rc_m3 (c x : Nat) : Nat × List Nat := if x = 4 then (c, []) else rc_ho c x
def rc_mt (R : rc_R) (m : Nat × Nat × Nat) (x : Nat) : (Nat × Nat × Nat) × List Nat :=
  if R.1 = 2 then ((x, m.2.1, (rc_m3 (rc_m1 R m x).1 x).1), (rc_m1 R m x).2 ++ (rc_m3 (rc_m1 R m x).1 x).2)
  else if m.2.1 = 5 then ((m.1, rc_hd x, m.2.2), [])
  else ((m.2.1, rc_hd x, (rc_m2 R m x).1), (rc_m2 R m x).2)
def rc_ps (R : rc_R) : List Nat → Nat × Nat × Nat → (Nat × Nat × Nat) × List Nat
  | [], m => (m, [])
  | x :: xs, m => ((rc_ps R xs (rc_mt R m x).1).1, (rc_mt R m x).2 ++ (rc_ps R xs (rc_mt R m x).1).2)
def rc_up (M : rc_M) (s : Nat) (m : Nat × Nat × Nat) : rc_M := fun j => if j = s then m else M j
def rc_fd (R : Nat → rc_R) (e : List Nat) (M : rc_M) (xs : List Nat) : Nat → rc_M × List Nat
  | 0 => (M, xs)
  | s + 1 => (rc_up (rc_fd R e M xs s).1 s (rc_ps (R s) ((rc_fd R e M xs s).2 ++ e) ((rc_fd R e M xs s).1 s)).1, (rc_ps (R s) ((rc_fd R e M xs s).2 ++ e) ((rc_fd R e M xs s).1 s)).2)
def rc_ed (x : Nat) : List Nat := if x = 4 then [4] else []
def rc_in (x : Nat) : List Nat := if x = 4 then [] else [x]
def rc_tm (R : Nat → rc_R) (k : Nat) : rc_T := fun x M => rc_fd R (rc_ed x) M (rc_in x) k
/-! what is right about a memory -/
def rc_vm (m : Nat × Nat × Nat) : Prop := m.1 ≤ 4 ∧ (m.2.1 < 4 ∨ m.2.1 = 5) ∧ m.2.2 ≤ 12
def rc_vM (k : Nat) (M : rc_M) : Prop := (∀ s, rc_vm (M s)) ∧ ∀ s, k ≤ s → M s = (4, 5, 0)
def rc_M0 : rc_M := fun _ => (4, 5, 0)
theorem rc_vM0 (k : Nat) : rc_vM k rc_M0 := ⟨fun _ => show rc_vm (4, 5, 0) from ⟨by decide, by decide, by decide⟩, fun _ _ => rfl⟩
theorem rc_ho_ok {c l : Nat} (hc : c ≤ 12) (hl : l < 4) : (rc_ho c l).1 = c + (rc_ho c l).2.length ∧ (rc_ho c l).1 ≤ 12 ∧ rc_l4 (rc_ho c l).2 := by
  unfold rc_ho
  split
  · exact ⟨rfl, hc, rc_l4_nil⟩
  · exact ⟨rfl, by dsimp only; omega, rc_l4_cons hl rc_l4_nil⟩
theorem rc_m1_ok {R : rc_R} {m : Nat × Nat × Nat} {x : Nat} (hR : R.2.2.1 < 4) (hm : rc_vm m) : (rc_m1 R m x).1 = m.2.2 + (rc_m1 R m x).2.length ∧ (rc_m1 R m x).1 ≤ 12 ∧ rc_l4 (rc_m1 R m x).2 := by
  unfold rc_m1
  split
  · exact rc_ho_ok hm.2.2 hR
  · exact ⟨rfl, hm.2.2, rc_l4_nil⟩
theorem rc_m2_ok {R : rc_R} {m : Nat × Nat × Nat} {x : Nat} (hR : R.2.2.1 < 4) (hm : rc_vm m) (h5 : ¬ m.2.1 = 5) : (rc_m2 R m x).1 = m.2.2 + (rc_m2 R m x).2.length ∧ (rc_m2 R m x).1 ≤ 12 ∧ rc_l4 (rc_m2 R m x).2 := by
  have h4 : m.2.1 < 4 := by
    rcases hm.2.1 with h | h
    · exact h
    · exact absurd h h5
  unfold rc_m2
  split
  · split
    · exact rc_ho_ok hm.2.2 hR
    · exact ⟨rfl, hm.2.2, rc_l4_nil⟩
  · exact rc_ho_ok hm.2.2 h4
theorem rc_m3_ok {c x : Nat} (hc : c ≤ 12) (hx : x ≤ 4) : (rc_m3 c x).1 = c + (rc_m3 c x).2.length ∧ (rc_m3 c x).1 ≤ 12 ∧ rc_l4 (rc_m3 c x).2 := by
  unfold rc_m3
  split
  · exact ⟨rfl, hc, rc_l4_nil⟩
  · exact rc_ho_ok hc (by omega)
theorem rc_hd_ok {x : Nat} (hx : x ≤ 4) : rc_hd x < 4 ∨ rc_hd x = 5 := by
  unfold rc_hd
  split <;> omega
theorem rc_mt_ok {R : rc_R} {m : Nat × Nat × Nat} {x : Nat} (hR : R.2.2.1 < 4) (hm : rc_vm m) (hx : x ≤ 4) : rc_vm (rc_mt R m x).1 ∧ (rc_mt R m x).1.2.2 = m.2.2 + (rc_mt R m x).2.length ∧ rc_l4 (rc_mt R m x).2 := by
  unfold rc_mt
  split
  · have h1 := rc_m1_ok (x := x) hR hm
    have h3 := rc_m3_ok (c := (rc_m1 R m x).1) h1.2.1 hx
    refine ⟨⟨hx, hm.2.1, h3.2.1⟩, ?_, rc_l4_app h1.2.2 h3.2.2⟩
    show (rc_m3 (rc_m1 R m x).1 x).1 = m.2.2 + ((rc_m1 R m x).2 ++ (rc_m3 (rc_m1 R m x).1 x).2).length
    rw [List.length_append]
    omega
  · split
    · exact ⟨⟨hm.1, rc_hd_ok hx, hm.2.2⟩, rfl, rc_l4_nil⟩
    · rename_i h5
      have h2 := rc_m2_ok (x := x) hR hm h5
      refine ⟨⟨?_, rc_hd_ok hx, h2.2.1⟩, h2.1, h2.2.2⟩
      have := hm.2.1
      dsimp only
      omega
theorem rc_ps_ok {R : rc_R} (hR : R.2.2.1 < 4) : ∀ {xs : List Nat} {m : Nat × Nat × Nat}, rc_vm m → (∀ x, x ∈ xs → x ≤ 4) → rc_vm (rc_ps R xs m).1 ∧ (rc_ps R xs m).1.2.2 = m.2.2 + (rc_ps R xs m).2.length ∧ rc_l4 (rc_ps R xs m).2 := by
  intro xs
  induction xs with
  | nil => intro m hm _; exact ⟨hm, rfl, rc_l4_nil⟩
  | cons x xs ih =>
    intro m hm hx
    have h1 := rc_mt_ok hR hm (hx x (List.mem_cons.mpr (Or.inl rfl)))
    have h2 := ih h1.1 (fun y hy => hx y (List.mem_cons.mpr (Or.inr hy)))
    refine ⟨h2.1, ?_, rc_l4_app h1.2.2 h2.2.2⟩
    show (rc_ps R xs (rc_mt R m x).1).1.2.2 = m.2.2 + ((rc_mt R m x).2 ++ (rc_ps R xs (rc_mt R m x).1).2).length
    rw [List.length_append]
    omega
theorem rc_ps_12 {R : rc_R} (hR : R.2.2.1 < 4) {xs : List Nat} {m : Nat × Nat × Nat} (hm : rc_vm m) (hx : ∀ x, x ∈ xs → x ≤ 4) : (rc_ps R xs m).2.length ≤ 12 := by
  have h := rc_ps_ok hR hm hx
  have h2 := h.1.2.2
  omega
theorem rc_ed_4 {x : Nat} : ∀ y, y ∈ rc_ed x → y ≤ 4 := by
  intro y
  unfold rc_ed
  split
  · intro h
    rcases List.mem_cons.mp h with e | e
    · omega
    · exact absurd e List.not_mem_nil
  · intro h
    exact absurd h List.not_mem_nil
theorem rc_le4_app {xs e : List Nat} (hx : rc_l4 xs) (he : ∀ y, y ∈ e → y ≤ 4) : ∀ y, y ∈ xs ++ e → y ≤ 4 := by
  intro y h
  rcases List.mem_append.mp h with z | z
  · have := hx y z
    omega
  · exact he y z
theorem rc_in_l4 {x : Nat} (hx : x ≤ 4) : rc_l4 (rc_in x) ∧ (rc_in x).length ≤ 12 := by
  unfold rc_in
  split
  · exact ⟨rc_l4_nil, by decide⟩
  · exact ⟨rc_l4_cons (by omega) rc_l4_nil, by simp⟩
theorem rc_up_s (M : rc_M) (s : Nat) (m : Nat × Nat × Nat) : rc_up M s m s = m := if_pos rfl
theorem rc_up_n {M : rc_M} {s j : Nat} {m : Nat × Nat × Nat} (h : j ≠ s) : rc_up M s m j = M j := if_neg h
theorem rc_up_v {k : Nat} {M : rc_M} {s : Nat} {m : Nat × Nat × Nat} (hM : rc_vM k M) (hs : s < k) (hm : rc_vm m) : rc_vM k (rc_up M s m) := by
  refine ⟨fun j => ?_, fun j hj => ?_⟩
  · by_cases e : j = s
    · rw [e, rc_up_s]
      exact hm
    · rw [rc_up_n e]
      exact hM.1 j
  · rw [rc_up_n (by omega)]
    exact hM.2 j hj
theorem rc_fd_ok {k : Nat} {R : Nat → rc_R} {e : List Nat} {M : rc_M} {xs : List Nat} (hR : ∀ s, s < k → (R s).2.2.1 < 4) (he : ∀ y, y ∈ e → y ≤ 4) (hM : rc_vM k M) (hx : rc_l4 xs) (hl : xs.length ≤ 12) : ∀ s, s ≤ k → rc_vM k (rc_fd R e M xs s).1 ∧ rc_l4 (rc_fd R e M xs s).2 ∧ (rc_fd R e M xs s).2.length ≤ 12 := by
  intro s
  induction s with
  | zero => intro _; exact ⟨hM, hx, hl⟩
  | succ s ih =>
    intro hs
    obtain ⟨h1, h2, h3⟩ := ih (by omega)
    have hp := rc_ps_ok (hR s (by omega)) (h1.1 s) (rc_le4_app h2 he)
    exact ⟨rc_up_v h1 (by omega) hp.1, hp.2.2, rc_ps_12 (hR s (by omega)) (h1.1 s) (rc_le4_app h2 he)⟩
/-- a machine that keeps memories right -/
def rc_vT (k : Nat) (T : rc_T) : Prop := ∀ M x, rc_vM k M → x ≤ 4 → rc_vM k (T x M).1 ∧ rc_l4 (T x M).2
theorem rc_tm_v {R : Nat → rc_R} {k : Nat} (hR : ∀ s, s < k → (R s).2.2.1 < 4) : rc_vT k (rc_tm R k) := by
  intro M x hM hx
  have hi := rc_in_l4 hx
  have h := rc_fd_ok hR (rc_ed_4 (x := x)) hM hi.1 hi.2 k (Nat.le_refl k)
  exact ⟨h.1, h.2.1⟩
theorem rc_fd_congr {R R' : Nat → rc_R} {e : List Nat} {M : rc_M} {xs : List Nat} : ∀ {k : Nat}, (∀ s, s < k → R s = R' s) → rc_fd R e M xs k = rc_fd R' e M xs k := by
  intro k
  induction k with
  | zero => intro _; rfl
  | succ k ih =>
    intro h
    have h1 := ih (fun s hs => h s (by omega))
    unfold rc_fd
    rw [h1, h k (by omega)]
theorem rc_tm_congr {R R' : Nat → rc_R} {k : Nat} (h : ∀ s, s < k → R s = R' s) : rc_tm R k = rc_tm R' k := by
  funext x M
  exact rc_fd_congr h
/-! what comes out -/
def rc_eo : List Nat → List Nat → List Nat
  | [], o => o
  | y :: ys, o => rc_eo ys (if 12 ≤ o.length then o else o ++ [y])
def rc_em (W : List Nat) : List Nat → Nat × Bool → Nat × Bool
  | [], p => p
  | y :: ys, p => rc_em W ys (if 12 ≤ p.1 then p else (p.1 + 1, p.2 && decide (W[p.1]? = some y)))
def rc_pf (o W : List Nat) : Bool := decide (W.take o.length = o)
theorem rc_eo_len (ys : List Nat) : ∀ {o : List Nat}, o.length ≤ 12 → (rc_eo ys o).length ≤ 12 := by
  induction ys with
  | nil => intro o h; exact h
  | cons y ys ih =>
    intro o h
    show (rc_eo ys (if 12 ≤ o.length then o else o ++ [y])).length ≤ 12
    refine ih ?_
    split
    · exact h
    · rw [List.length_append, List.length_cons, List.length_nil]
      omega
theorem rc_eo_l4 {ys : List Nat} : ∀ {o : List Nat}, rc_l4 ys → rc_l4 o → rc_l4 (rc_eo ys o) := by
  induction ys with
  | nil => intro o _ h; exact h
  | cons y ys ih =>
    intro o hy h
    refine ih (rc_l4_tl hy).2 ?_
    split
    · exact h
    · exact rc_l4_app h (rc_l4_cons (rc_l4_tl hy).1 rc_l4_nil)
theorem rc_pf_s (o W : List Nat) (y : Nat) : rc_pf (o ++ [y]) W = (rc_pf o W && decide (W[o.length]? = some y)) := by
  unfold rc_pf
  rw [List.length_append, List.length_cons, List.length_nil, Nat.zero_add, List.take_add_one, ← Bool.decide_and]
  refine decide_eq_decide.mpr ?_
  constructor
  · intro h
    have h1 := congrArg List.length h
    cases e : W[o.length]? with
    | none =>
      rw [e] at h h1
      have h2 : (W.take o.length).length ≤ o.length := by
        rw [List.length_take]
        omega
      simp only [Option.toList_none, List.append_nil, List.length_append, List.length_cons, List.length_nil] at h1
      omega
    | some z =>
      rw [e] at h
      simp only [Option.toList_some] at h
      have h2 := List.append_inj' h rfl
      refine ⟨h2.1, ?_⟩
      have h3 := h2.2
      simp only [List.cons.injEq, and_true] at h3
      rw [h3]
  · intro h
    rw [h.1, h.2]
    rfl
theorem rc_em_eo (W ys : List Nat) : ∀ o : List Nat, rc_em W ys (o.length, rc_pf o W) = ((rc_eo ys o).length, rc_pf (rc_eo ys o) W) := by
  induction ys with
  | nil => intro o; rfl
  | cons y ys ih =>
    intro o
    show rc_em W ys (if 12 ≤ o.length then (o.length, rc_pf o W) else (o.length + 1, rc_pf o W && decide (W[o.length]? = some y))) = _
    show _ = ((rc_eo ys (if 12 ≤ o.length then o else o ++ [y])).length, rc_pf (rc_eo ys (if 12 ≤ o.length then o else o ++ [y])) W)
    by_cases h : 12 ≤ o.length
    · rw [if_pos h, if_pos h]
      exact ih o
    · rw [if_neg h, if_neg h, ← ih (o ++ [y]), rc_pf_s, List.length_append, List.length_cons, List.length_nil]
theorem rc_em_12 (W ys : List Nat) : ∀ {p : Nat × Bool}, p.1 ≤ 12 → (rc_em W ys p).1 ≤ 12 := by
  induction ys with
  | nil => intro p h; exact h
  | cons y ys ih =>
    intro p h
    show (rc_em W ys (if 12 ≤ p.1 then p else (p.1 + 1, p.2 && decide (W[p.1]? = some y)))).1 ≤ 12
    refine ih ?_
    split
    · exact h
    · dsimp only
      omega
theorem rc_em_f (W ys : List Nat) : ∀ {p : Nat × Bool}, p.2 = false → (rc_em W ys p).2 = false := by
  induction ys with
  | nil => intro p h; exact h
  | cons y ys ih =>
    intro p h
    show (rc_em W ys (if 12 ≤ p.1 then p else (p.1 + 1, p.2 && decide (W[p.1]? = some y)))).2 = false
    refine ih ?_
    split
    · exact h
    · dsimp only
      rw [h]
      rfl
theorem rc_pf_all {o W : List Nat} : (rc_pf o W = true ∧ o.length = W.length) ↔ o = W := by
  constructor
  · intro h
    have h1 : W.take o.length = o := of_decide_eq_true h.1
    rw [h.2, List.take_length] at h1
    exact h1.symm
  · intro h
    rw [h]
    refine ⟨?_, rfl⟩
    unfold rc_pf
    rw [List.take_length]
    exact decide_eq_true rfl
/-! runs -/
def rc_st (T : rc_T) (W : List Nat) (q : rc_Q) (x : Nat) : rc_Q := ((T x q.1).1, rc_em W (T x q.1).2 q.2)
def rc_ac (W : List Nat) (q : rc_Q) : Nat := if q.2.2 = true ∧ q.2.1 = W.length then 1 else 0
def rc_ct (T : rc_T) (W : List Nat) : Nat → rc_Q → Nat
  | 0, q => rc_ac W (rc_st T W q 4)
  | n + 1, q => rc_sm (fun l => rc_ct T W n (rc_st T W q l)) 4
def rc_gl (T : rc_T) (W : List Nat) : List Nat → rc_Q → rc_Q
  | [], q => q
  | x :: xs, q => rc_gl T W xs (rc_st T W q x)
def rc_av (T : rc_T) (W : List Nat) (n : Nat) (q : rc_Q) (v : Nat) : Nat := rc_ac W (rc_gl T W (rc_dg n v ++ [4]) q)
def rc_rn (T : rc_T) : List Nat → rc_M × List Nat → rc_M × List Nat
  | [], p => p
  | x :: xs, p => rc_rn T xs ((T x p.1).1, rc_eo (T x p.1).2 p.2)
def rc_F (T : rc_T) (w : List Nat) : List Nat := (rc_rn T (w ++ [4]) (rc_M0, [])).2
theorem rc_st_f {T : rc_T} {W : List Nat} {q : rc_Q} {x : Nat} (h : q.2.2 = false) : (rc_st T W q x).2.2 = false := rc_em_f W _ h
theorem rc_ac_f {W : List Nat} {q : rc_Q} (h : q.2.2 = false) : rc_ac W q = 0 := by
  unfold rc_ac
  rw [if_neg]
  intro z
  rw [h] at z
  exact absurd z.1 (by decide)
theorem rc_ac_ub (W : List Nat) (q : rc_Q) : rc_ac W q ≤ 1 := by
  unfold rc_ac
  split <;> omega
theorem rc_ct_f {T : rc_T} {W : List Nat} : ∀ {n : Nat} {q : rc_Q}, q.2.2 = false → rc_ct T W n q = 0 := by
  intro n
  induction n with
  | zero => intro q h; exact rc_ac_f (rc_st_f h)
  | succ n ih => intro q h; exact rc_sm_0 (fun i _ => ih (rc_st_f h))
theorem rc_av_bl {T : rc_T} {W : List Nat} {m l i : Nat} {q : rc_Q} (hl : l < 4) (hi : i < 4 ^ m) : rc_av T W (m + 1) q (l * 4 ^ m + i) = rc_av T W m (rc_st T W q l) i := by
  unfold rc_av
  rw [rc_dg_bl hl hi]
  rfl
theorem rc_av_ub (T : rc_T) (W : List Nat) (n : Nat) (q : rc_Q) (v : Nat) : rc_av T W n q v ≤ 1 := rc_ac_ub W _
theorem rc_bl0 {T : rc_T} {W : List Nat} {m : Nat} {q : rc_Q} (A : ∀ q, rc_ct T W m q = rc_sm (rc_av T W m q) (4 ^ m)) : ∀ l, l ≤ 4 → rc_sm (rc_av T W (m + 1) q) (l * 4 ^ m) = rc_sm (fun j => rc_ct T W m (rc_st T W q j)) l := by
  intro l
  induction l with
  | zero => intro _; rw [Nat.zero_mul]; rfl
  | succ l ih =>
    intro hl
    rw [Nat.succ_mul, rc_sm_split, ih (by omega), rc_sm_s, A]
    congr 1
    exact rc_sm_congr (fun i hi => rc_av_bl (by omega) hi)
theorem rc_ct_av {T : rc_T} {W : List Nat} : ∀ (m : Nat) (q : rc_Q), rc_ct T W m q = rc_sm (rc_av T W m q) (4 ^ m) := by
  intro m
  induction m with
  | zero => intro q; show rc_ac W (rc_st T W q 4) = 0 + rc_av T W 0 q 0; rw [Nat.zero_add]; rfl
  | succ m ih =>
    intro q
    have h := rc_bl0 (q := q) ih 4 (Nat.le_refl 4)
    rw [Nat.pow_succ, Nat.mul_comm, h]
    rfl
theorem rc_bl {T : rc_T} {W : List Nat} {m l u : Nat} {q : rc_Q} (hl : l < 4) (hu : u ≤ 4 ^ m) : rc_sm (rc_av T W (m + 1) q) (l * 4 ^ m + u) = rc_sm (fun j => rc_ct T W m (rc_st T W q j)) l + rc_sm (rc_av T W m (rc_st T W q l)) u := by
  rw [rc_sm_split, rc_bl0 (rc_ct_av m) l (by omega)]
  congr 1
  exact rc_sm_congr (fun i hi => rc_av_bl hl (by omega))
theorem rc_gl_rn (T : rc_T) (W : List Nat) (xs : List Nat) : ∀ (M : rc_M) (o : List Nat), rc_gl T W xs (M, (o.length, rc_pf o W)) = ((rc_rn T xs (M, o)).1, ((rc_rn T xs (M, o)).2.length, rc_pf (rc_rn T xs (M, o)).2 W)) := by
  induction xs with
  | nil => intro M o; rfl
  | cons x xs ih =>
    intro M o
    show rc_gl T W xs ((T x M).1, rc_em W (T x M).2 (o.length, rc_pf o W)) = _
    rw [rc_em_eo, ih]
    rfl
/-- the start -/
def rc_q0 : rc_Q := (rc_M0, (0, true))
theorem rc_av_F (T : rc_T) (W : List Nat) (n v : Nat) : rc_av T W n rc_q0 v = rc_eq (rc_F T (rc_dg n v)) W := by
  have h : rc_gl T W (rc_dg n v ++ [4]) rc_q0 = _ := rc_gl_rn T W (rc_dg n v ++ [4]) rc_M0 []
  unfold rc_av
  rw [h]
  unfold rc_ac rc_eq
  by_cases e : rc_F T (rc_dg n v) = W
  · rw [if_pos e, if_pos]
    exact rc_pf_all.mpr e
  · rw [if_neg e, if_neg]
    intro z
    exact e (rc_pf_all.mp z)
theorem rc_ct_F (T : rc_T) (W : List Nat) (n : Nat) : rc_ct T W n rc_q0 = rc_sm (fun v => rc_eq (rc_F T (rc_dg n v)) W) (4 ^ n) := by
  rw [rc_ct_av]
  exact rc_sm_congr (fun i _ => rc_av_F T W n i)
theorem rc_rn_ok {k : Nat} {T : rc_T} (hT : rc_vT k T) : ∀ {xs : List Nat} {p : rc_M × List Nat}, (∀ x, x ∈ xs → x ≤ 4) → rc_vM k p.1 → rc_l4 p.2 → p.2.length ≤ 12 → rc_vM k (rc_rn T xs p).1 ∧ rc_l4 (rc_rn T xs p).2 ∧ (rc_rn T xs p).2.length ≤ 12 := by
  intro xs
  induction xs with
  | nil => intro p _ h1 h2 h3; exact ⟨h1, h2, h3⟩
  | cons x xs ih =>
    intro p hx h1 h2 h3
    have h := hT p.1 x h1 (hx x (List.mem_cons.mpr (Or.inl rfl)))
    exact ih (fun y hy => hx y (List.mem_cons.mpr (Or.inr hy))) h.1 (rc_eo_l4 h.2 h2) (rc_eo_len _ h3)
theorem rc_F_ok {k : Nat} {T : rc_T} (hT : rc_vT k T) {w : List Nat} (hw : rc_l4 w) : rc_l4 (rc_F T w) ∧ (rc_F T w).length ≤ 12 := by
  have h := rc_rn_ok hT (xs := w ++ [4]) (p := (rc_M0, [])) (rc_le4_app hw (fun y hy => by rcases List.mem_cons.mp hy with e | e; omega; exact absurd e List.not_mem_nil)) (rc_vM0 k) rc_l4_nil (by simp)
  exact h.2
/-- with no rule the word comes out -/
theorem rc_eo_app (ys : List Nat) : ∀ o : List Nat, o.length + ys.length ≤ 12 → rc_eo ys o = o ++ ys := by
  induction ys with
  | nil => intro o _; exact (List.append_nil o).symm
  | cons y ys ih =>
    intro o h
    rw [List.length_cons] at h
    show rc_eo ys (if 12 ≤ o.length then o else o ++ [y]) = _
    rw [if_neg (by omega), ih (o ++ [y]) (by rw [List.length_append, List.length_cons, List.length_nil]; omega), List.append_assoc]
    rfl
theorem rc_F_id0 (R : Nat → rc_R) : ∀ (xs o : List Nat) (M : rc_M), rc_l4 xs → o.length + xs.length ≤ 12 → (rc_rn (rc_tm R 0) (xs ++ [4]) (M, o)).2 = o ++ xs := by
  intro xs
  induction xs with
  | nil => intro o M _ _; exact (List.append_nil o).symm
  | cons x xs ih =>
    intro o M hx h
    rw [List.length_cons] at h
    have hx4 := (rc_l4_tl hx).1
    have e : (rc_tm R 0 x M).2 = [x] := if_neg (show ¬ x = 4 by omega)
    show (rc_rn (rc_tm R 0) (xs ++ [4]) ((rc_tm R 0 x M).1, rc_eo (rc_tm R 0 x M).2 o)).2 = _
    rw [e, rc_eo_app [x] o (by rw [List.length_cons, List.length_nil]; omega), ih (o ++ [x]) _ (rc_l4_tl hx).2 (by rw [List.length_append, List.length_cons, List.length_nil]; omega), List.append_assoc]
    rfl
theorem rc_F_id {R : Nat → rc_R} {w : List Nat} (hw : rc_l4 w) (hl : w.length ≤ 12) : rc_F (rc_tm R 0) w = w := by
  have h := rc_F_id0 R w [] rc_M0 hw (by rw [List.length_nil]; omega)
  rw [List.nil_append] at h
  exact h
end
section
/-! arrays and one stage -/
def rc_at (a : Nat → Int32) : Nat → List Nat → Prop
  | _, [] => True
  | i, x :: xs => a i = nI x ∧ x < 4 ∧ rc_at a (i + 1) xs
theorem rc_at_app {a : Nat → Int32} : ∀ {xs ys : List Nat} {i : Nat}, rc_at a i xs → rc_at a (i + xs.length) ys → rc_at a i (xs ++ ys) := by
  intro xs
  induction xs with
  | nil => intro ys i _ h; exact h
  | cons x xs ih =>
    intro ys i h h2
    refine ⟨h.1, h.2.1, ih h.2.2 ?_⟩
    rw [List.length_cons] at h2
    rw [show i + 1 + xs.length = i + (xs.length + 1) by omega]
    exact h2
theorem rc_at_upd {a : Nat → Int32} {k : Nat} {v : Int32} : ∀ {xs : List Nat} {i : Nat}, rc_at a i xs → (k < i ∨ i + xs.length ≤ k) → rc_at (upd a k v) i xs := by
  intro xs
  induction xs with
  | nil => intro i _ _; exact trivial
  | cons x xs ih =>
    intro i h hk
    rw [List.length_cons] at hk
    refine ⟨?_, h.2.1, ih h.2.2 (by omega)⟩
    rw [pk_un (by omega)]
    exact h.1
theorem rc_at_put {a : Nat → Int32} {xs : List Nat} {y k : Nat} {x : Int32} (h : rc_at a 0 xs) (hy : y < 4) (hx : x = nI y) (hk : k = xs.length) : rc_at (upd a k x) 0 (xs ++ [y]) := by
  refine rc_at_app (rc_at_upd h (by omega)) ⟨?_, hy, trivial⟩
  rw [Nat.zero_add, ← hk, pk_us, hx]
theorem rc_at_l4 {a : Nat → Int32} : ∀ {xs : List Nat} {i : Nat}, rc_at a i xs → rc_l4 xs := by
  intro xs
  induction xs with
  | nil => intro i _; exact rc_l4_nil
  | cons x xs ih => intro i h; exact rc_l4_cons h.2.1 (ih h.2.2)
theorem rc_at_get {a : Nat → Int32} : ∀ {xs : List Nat} {i j : Nat}, rc_at a i xs → j < xs.length → ∃ w, xs[j]? = some w ∧ a (i + j) = nI w ∧ w < 4 := by
  intro xs
  induction xs with
  | nil => intro i j _ h; exact absurd h (by simp)
  | cons x xs ih =>
    intro i j h hj
    cases j with
    | zero => exact ⟨x, rfl, h.1, h.2.1⟩
    | succ j =>
      rw [List.length_cons] at hj
      obtain ⟨w, h1, h2, h3⟩ := ih (j := j) h.2.2 (by omega)
      refine ⟨w, h1, ?_, h3⟩
      rw [show i + (j + 1) = i + 1 + j by omega]
      exact h2
theorem rc_at_ext {a b : Nat → Int32} : ∀ {xs : List Nat} {i : Nat}, rc_at a i xs → (∀ j, i ≤ j → j < i + xs.length → b j = a j) → rc_at b i xs := by
  intro xs
  induction xs with
  | nil => intro i _ _; exact trivial
  | cons x xs ih =>
    intro i h hb
    rw [List.length_cons] at hb
    refine ⟨?_, h.2.1, ih h.2.2 (fun j h1 h2 => hb j (by omega) (by omega))⟩
    rw [hb i (by omega) (by omega)]
    exact h.1
def rc_u1 (s : Nat) (a a' : Nat → Int32) (v : Nat) : Prop := a' s = nI v ∧ ∀ j, j ≠ s → a' j = a j
theorem rc_u1_r {s : Nat} {a : Nat → Int32} {v : Nat} (h : a s = nI v) : rc_u1 s a a v := ⟨h, fun _ _ => rfl⟩
theorem rc_u1_p {s k : Nat} {a : Nat → Int32} {v : Nat} {x : Int32} (hk : k = s) (hx : x = nI v) : rc_u1 s a (upd a k x) v := by
  subst hk
  exact ⟨by rw [pk_us, hx], fun j hj => pk_un hj⟩
theorem rc_u1_t {s : Nat} {a a' a'' : Nat → Int32} {v w : Nat} (h : rc_u1 s a a' v) (h2 : rc_u1 s a' a'' w) : rc_u1 s a a'' w :=
  ⟨h2.1, fun j hj => (h2.2 j hj).trans (h.2 j hj)⟩
theorem rc_b8 : ∀ n, n < 128 → (nI n).toInt8.toInt32 = nI n := by decide +kernel
theorem rc_nb8 {n : Nat} (h : n < 128) : vp_nar .byte (nI n) = nI n := by
  rw [vp_nar_byte]
  exact rc_b8 n h
def rc_sg (s : Nat) (m : Nat × Nat × Nat) (a8 a9 a10 : Nat → Int32) : Prop := a8 s = nI m.1 ∧ a9 s = nI m.2.1 ∧ a10 s = nI m.2.2
def rc_us (s : Nat) (a8 a9 a10 a8' a9' a10' : Nat → Int32) (m : Nat × Nat × Nat) : Prop := rc_u1 s a8 a8' m.1 ∧ rc_u1 s a9 a9' m.2.1 ∧ rc_u1 s a10 a10' m.2.2
theorem rc_us_t {s : Nat} {a8 a9 a10 a8' a9' a10' a8'' a9'' a10'' : Nat → Int32} {m m' : Nat × Nat × Nat} (h : rc_us s a8 a9 a10 a8' a9' a10' m) (h2 : rc_us s a8' a9' a10' a8'' a9'' a10'' m') : rc_us s a8 a9 a10 a8'' a9'' a10'' m' :=
  ⟨rc_u1_t h.1 h2.1, rc_u1_t h.2.1 h2.2.1, rc_u1_t h.2.2 h2.2.2⟩
theorem rc_us_g {s : Nat} {a8 a9 a10 a8' a9' a10' : Nat → Int32} {m : Nat × Nat × Nat} (h : rc_us s a8 a9 a10 a8' a9' a10' m) : rc_sg s m a8' a9' a10' := ⟨h.1.1, h.2.1.1, h.2.2.1⟩
theorem rc_us_r {s : Nat} {a8 a9 a10 : Nat → Int32} {m : Nat × Nat × Nat} (h : rc_sg s m a8 a9 a10) : rc_us s a8 a9 a10 a8 a9 a10 m := ⟨rc_u1_r h.1, rc_u1_r h.2.1, rc_u1_r h.2.2⟩
/-- rule number r as the arrays have it -/
def rc_rl (a1 a2 a3 a4 a5 : Nat → Int32) (r : Nat) : rc_R := (a1 r, a2 r, (a3 r).toNatClampNeg, a4 r, a5 r)
/-- what is right about the rules' arrays -/
def rc_K (a1 a2 a3 a4 a5 : Nat → Int32) : Prop := ∀ i, (a1 i).toInt8.toInt32 = a1 i ∧ (a2 i).toInt8.toInt32 = a2 i ∧ (a3 i = nI (a3 i).toNatClampNeg ∧ (a3 i).toNatClampNeg < 4) ∧ (a4 i).toInt8.toInt32 = a4 i ∧ (a5 i).toInt8.toInt32 = a5 i
theorem rc_allows {post : Int32 → Prop} {u : St1} {p0 p1 : Int32} {x : Nat} (e : p1 = nI x) (h1 : rc_al p0 x = true → post 1) (h0 : rc_al p0 x = false → post 0) : wpX_allows post u p0 p1 := by
  subst e
  obtain ⟨_, _, _, _, _, _, _, _, _, _, _, _, _, _, _, _, _, _, _, _, _, _, _, _, _, _, _⟩ := u
  exact br_c (fun h => h1 (decide_eq_true h)) (fun h => h0 (decide_eq_false h))
theorem rc_10 : ¬ (1 : Int32) = 0 := by decide
theorem rc_apn {a : Nat → Int32} {i : Nat} {G : List Nat} (h : rc_at a i G) : rc_at a i (G ++ []) := by
  rw [List.append_nil]
  exact h
theorem rc_gpn {g : Int32} {G : List Nat} (h : g = nI G.length) : g = nI (G ++ []).length := by
  rw [List.append_nil]
  exact h
theorem rc_handOn {post : St1 → Prop} {ru sz li co go re wa fo la : Int32} {a1 a2 a3 a4 a5 a6 a7 a8 a9 a10 a11 a12 a13 : Nat → Int32} {a14 : Nat → Int64} {a15 : Nat → Int32} {a16 : Nat → Int64} {a17 a18 : Nat → Int32} {p0 p1 : Int32} {s l c : Nat} {G : List Nat} (e0 : p0 = nI s) (hs : s < 5) (e1 : p1 = nI l) (hl : l < 4) (hc : a10 s = nI c) (h12 : c ≤ 12) (hg : go = nI G.length) (hG : rc_at a12 0 G) (hGc : G.length ≤ c)
    (H : ∀ (go' : Int32) (a10' : Nat → Int32) (a12' : Nat → Int32), go' = nI (G ++ (rc_ho c l).2).length → rc_at a12' 0 (G ++ (rc_ho c l).2) → rc_u1 s a10 a10' (rc_ho c l).1 → post (ru, sz, li, co, go', re, wa, fo, la, a1, a2, a3, a4, a5, a6, a7, a8, a9, a10', a11, a12', a13, a14, a15, a16, a17, a18)) : wpX_handOn post (ru, sz, li, co, go, re, wa, fo, la, a1, a2, a3, a4, a5, a6, a7, a8, a9, a10, a11, a12, a13, a14, a15, a16, a17, a18) p0 p1 := by
  subst e0 e1 hg
  unfold wpX_handOn
  dsimp only
  rw [nI_clamp (show s < 2 ^ 31 by omega), hc]
  refine ⟨pk_in s 5 hs, pk_le 12 c (fun h => ?_) (fun h => ?_)⟩
  · have e : rc_ho c l = (c, []) := if_pos h
    rw [e] at H
    exact H _ a10 a12 (rc_gpn rfl) (rc_apn hG) (rc_u1_r hc)
  · have e : rc_ho c l = (c + 1, [l]) := if_neg (by omega)
    rw [e] at H
    refine ⟨pk_in G.length 80 (by omega), nm_e (nm_e ⟨pk_in s 5 hs, pk_in s 5 hs, nm_e ?_⟩)⟩
    rw [nI_clamp (show G.length < 2 ^ 31 by omega)]
    refine H _ _ _ ?_ (rc_at_put hG hl (rc_b8 l (by omega)) rfl) (rc_u1_p rfl ?_)
    · rw [nI_1, List.length_append]
      rfl
    · rw [nI_1]
      exact rc_b8 _ (by omega)
theorem rc_meet190 {post : St1 → Prop} {ru sz li co go re wa fo la : Int32} {a1 a2 a3 a4 a5 a6 a7 a8 a9 a10 a11 a12 a13 : Nat → Int32} {a14 : Nat → Int64} {a15 : Nat → Int32} {a16 : Nat → Int64} {a17 a18 : Nat → Int32} {x1 x2 : Int32} {s x : Nat} (e1 : x1 = nI s) (hs : s < 5) (e2 : x2 = nI x) (hx : x ≤ 4) (H : ∀ (a9' : Nat → Int32), rc_u1 s a9 a9' (rc_hd x) → post (ru, sz, li, co, go, re, wa, fo, la, a1, a2, a3, a4, a5, a6, a7, a8, a9', a10, a11, a12, a13, a14, a15, a16, a17, a18)) : wX_meet_190 post x1 x2 ru sz li co go re wa fo la a1 a2 a3 a4 a5 a6 a7 a8 a9 a10 a11 a12 a13 a14 a15 a16 a17 a18 := by
  have hc : x1.toNatClampNeg = s := by
    rw [e1]
    exact nI_clamp (by omega)
  refine pk_eq x 4 (fun h => ⟨pk_in s 5 hs e1, nm_e (H _ (rc_u1_p hc ?_))⟩) (fun h => ⟨pk_in s 5 hs e1, nm_e (H _ (rc_u1_p hc ?_))⟩) e2
  · rw [show rc_hd x = 5 from if_pos h]
    rfl
  · rw [show rc_hd x = x from if_neg h, e2]
    exact rc_b8 x (by omega)
theorem rc_meet181 {post : St1 → Prop} {ru sz li co go re wa fo la : Int32} {a1 a2 a3 a4 a5 a6 a7 a8 a9 a10 a11 a12 a13 : Nat → Int32} {a14 : Nat → Int64} {a15 : Nat → Int32} {a16 : Nat → Int64} {a17 a18 : Nat → Int32} {x1 x2 x4 : Int32} {s x y : Nat} (e1 : x1 = nI s) (hs : s < 5) (e2 : x2 = nI x) (hx : x ≤ 4) (e4 : x4 = nI y) (hy : y ≤ 5) (H : ∀ (a8' : Nat → Int32) (a9' : Nat → Int32), rc_u1 s a8 a8' y → rc_u1 s a9 a9' (rc_hd x) → post (ru, sz, li, co, go, re, wa, fo, la, a1, a2, a3, a4, a5, a6, a7, a8', a9', a10, a11, a12, a13, a14, a15, a16, a17, a18)) : wX_meet_181 post x1 x2 x4 ru sz li co go re wa fo la a1 a2 a3 a4 a5 a6 a7 a8 a9 a10 a11 a12 a13 a14 a15 a16 a17 a18 := by
  have hc : x1.toNatClampNeg = s := by
    rw [e1]
    exact nI_clamp (by omega)
  have h4 : x4.toInt8.toInt32 = nI y := by
    rw [e4]
    exact rc_b8 y (by omega)
  exact ⟨pk_in s 5 hs e1, nm_e (rc_meet190 e1 hs e2 hx (fun a9' h9 => H _ a9' (rc_u1_p hc h4) h9))⟩
theorem rc_meet144 {post : St1 → Prop} {ru sz li co go re wa fo la : Int32} {a1 a2 a3 a4 a5 a6 a7 a8 a9 a10 a11 a12 a13 : Nat → Int32} {a14 : Nat → Int64} {a15 : Nat → Int32} {a16 : Nat → Int64} {a17 a18 : Nat → Int32} {x1 x2 x3 x4 z0 : Int32} {s x r y c i : Nat} {G : List Nat} {p : Nat × List Nat} (e1 : x1 = nI s) (hs : s < 5) (e2 : x2 = nI x) (hx : x ≤ 4) (e3 : x3 = nI r) (hr : r < 5) (e4 : x4 = nI y) (hy : y < 4) (h3 : a3 r = nI i) (hi : i < 4) (hc : a10 s = nI c) (h12 : c ≤ 12) (hg : go = nI G.length) (hG : rc_at a12 0 G) (hGc : G.length ≤ c)
    (hp0 : z0 = 0 → p = rc_ho c y) (hp1 : ¬ z0 = 0 → p = if a1 r = 0 then rc_ho c i else (c, []))
    (H : ∀ (go' : Int32) (a8' : Nat → Int32) (a9' : Nat → Int32) (a10' : Nat → Int32) (a12' : Nat → Int32), go' = nI (G ++ p.2).length → rc_at a12' 0 (G ++ p.2) → rc_u1 s a8 a8' y → rc_u1 s a9 a9' (rc_hd x) → rc_u1 s a10 a10' p.1 → post (ru, sz, li, co, go', re, wa, fo, la, a1, a2, a3, a4, a5, a6, a7, a8', a9', a10', a11, a12', a13, a14, a15, a16, a17, a18)) : wX_meet_144 post x1 x2 x3 x4 z0 ru sz li co go re wa fo la a1 a2 a3 a4 a5 a6 a7 a8 a9 a10 a11 a12 a13 a14 a15 a16 a17 a18 := by
  have c3 : x3.toNatClampNeg = r := by
    rw [e3]
    exact nI_clamp (by omega)
  refine br_c (fun hz => ?_) (fun hz => ?_)
  · rw [hp0 hz] at H
    exact rc_handOn e1 hs e4 hy hc h12 hg hG hGc (fun go' a10' a12' k1 k2 k3 => rc_meet181 e1 hs e2 hx e4 (by omega) (fun a8' a9' h8 h9 => H _ _ _ _ _ k1 k2 h8 h9 k3))
  · rw [hp1 hz] at H
    refine ⟨pk_in r 5 hr e3, ?_⟩
    rw [c3]
    refine br_c (fun hk => ?_) (fun hk => ?_)
    · rw [if_pos hk] at H
      exact ⟨pk_in r 5 hr e3, rc_handOn e1 hs h3 hi hc h12 hg hG hGc (fun go' a10' a12' k1 k2 k3 => rc_meet181 e1 hs e2 hx e4 (by omega) (fun a8' a9' h8 h9 => H _ _ _ _ _ k1 k2 h8 h9 k3))⟩
    · rw [if_neg hk] at H
      exact rc_meet181 e1 hs e2 hx e4 (by omega) (fun a8' a9' h8 h9 => H _ _ _ a10 a12 (rc_gpn hg) (rc_apn hG) h8 h9 (rc_u1_r hc))
theorem rc_meet61 {post : St1 → Prop} {ru sz li co go re wa fo la : Int32} {a1 a2 a3 a4 a5 a6 a7 a8 a9 a10 a11 a12 a13 : Nat → Int32} {a14 : Nat → Int64} {a15 : Nat → Int32} {a16 : Nat → Int64} {a17 a18 : Nat → Int32} {x1 x2 : Int32} {s x c : Nat} {G : List Nat} (e1 : x1 = nI s) (hs : s < 5) (e2 : x2 = nI x) (hx : x ≤ 4) (hc : a10 s = nI c) (h12 : c ≤ 12) (hg : go = nI G.length) (hG : rc_at a12 0 G) (hGc : G.length ≤ c)
    (H : ∀ (go' : Int32) (a8' : Nat → Int32) (a10' : Nat → Int32) (a12' : Nat → Int32), go' = nI (G ++ (rc_m3 c x).2).length → rc_at a12' 0 (G ++ (rc_m3 c x).2) → rc_u1 s a8 a8' x → rc_u1 s a10 a10' (rc_m3 c x).1 → post (ru, sz, li, co, go', re, wa, fo, la, a1, a2, a3, a4, a5, a6, a7, a8', a9, a10', a11, a12', a13, a14, a15, a16, a17, a18)) : wX_meet_61 post x1 x2 ru sz li co go re wa fo la a1 a2 a3 a4 a5 a6 a7 a8 a9 a10 a11 a12 a13 a14 a15 a16 a17 a18 := by
  have hcl : x1.toNatClampNeg = s := by
    rw [e1]
    exact nI_clamp (by omega)
  have h8 : x2.toInt8.toInt32 = nI x := by
    rw [e2]
    exact rc_b8 x (by omega)
  refine pk_eq x 4 (fun h => ?_) (fun h => ?_) e2
  · rw [show rc_m3 c x = (c, []) from if_pos h] at H
    exact ⟨pk_in s 5 hs e1, nm_e (H _ _ a10 a12 (rc_gpn hg) (rc_apn hG) (rc_u1_p hcl h8) (rc_u1_r hc))⟩
  · rw [show rc_m3 c x = rc_ho c x from if_neg h] at H
    exact rc_handOn e1 hs e2 (by omega) hc h12 hg hG hGc (fun go' a10' a12' k1 k2 k3 => ⟨pk_in s 5 hs e1, nm_e (H _ _ _ _ k1 k2 (rc_u1_p hcl h8) k3)⟩)
theorem rc_meet {post : St1 → Prop} {ru sz li co go re wa fo la : Int32} {a1 a2 a3 a4 a5 a6 a7 a8 a9 a10 a11 a12 a13 : Nat → Int32} {a14 : Nat → Int64} {a15 : Nat → Int32} {a16 : Nat → Int64} {a17 a18 : Nat → Int32} {p0 p1 : Int32} {s x r : Nat} {m : Nat × Nat × Nat} {G : List Nat} (e0 : p0 = nI s) (hs : s < 5) (e1 : p1 = nI x) (hx : x ≤ 4) (h7 : a7 s = nI r) (hr : r < 5) (hK : rc_K a1 a2 a3 a4 a5) (hg8 : rc_sg s m a8 a9 a10) (hm : rc_vm m) (hg : go = nI G.length) (hG : rc_at a12 0 G) (hGc : G.length ≤ m.2.2)
    (H : ∀ (go' : Int32) (a8' : Nat → Int32) (a9' : Nat → Int32) (a10' : Nat → Int32) (a12' : Nat → Int32), go' = nI (G ++ (rc_mt (rc_rl a1 a2 a3 a4 a5 r) m x).2).length → rc_at a12' 0 (G ++ (rc_mt (rc_rl a1 a2 a3 a4 a5 r) m x).2) → rc_us s a8 a9 a10 a8' a9' a10' (rc_mt (rc_rl a1 a2 a3 a4 a5 r) m x).1 → post (ru, sz, li, co, go', re, wa, fo, la, a1, a2, a3, a4, a5, a6, a7, a8', a9', a10', a11, a12', a13, a14, a15, a16, a17, a18)) : wpX_meet post (ru, sz, li, co, go, re, wa, fo, la, a1, a2, a3, a4, a5, a6, a7, a8, a9, a10, a11, a12, a13, a14, a15, a16, a17, a18) p0 p1 := by
  obtain ⟨h8, h9, h10⟩ := hg8
  have h3 : a3 r = nI (rc_rl a1 a2 a3 a4 a5 r).2.2.1 := (hK r).2.2.1.1
  have hi : (rc_rl a1 a2 a3 a4 a5 r).2.2.1 < 4 := (hK r).2.2.1.2
  have hh : m.2.1 < 4 ∨ m.2.1 = 5 := hm.2.1
  subst e0
  unfold wpX_meet
  dsimp only
  rw [nI_clamp (show s < 2 ^ 31 by omega)]
  refine ⟨pk_in s 5 hs, nm_r h7 ⟨pk_in r 5 hr, ?_⟩⟩
  rw [nI_clamp (show r < 2 ^ 31 by omega)]
  refine br_c (fun hk => ?_) (fun hk => ?_)
  · have e : rc_mt (rc_rl a1 a2 a3 a4 a5 r) m x = ((x, m.2.1, (rc_m3 (rc_m1 (rc_rl a1 a2 a3 a4 a5 r) m x).1 x).1), (rc_m1 (rc_rl a1 a2 a3 a4 a5 r) m x).2 ++ (rc_m3 (rc_m1 (rc_rl a1 a2 a3 a4 a5 r) m x).1 x).2) := if_pos hk
    rw [e] at H
    have tl : ¬ (rc_al (a4 r) m.1 = true ∧ rc_al (a5 r) x = true) → wX_meet_61 post (nI s) p1 ru sz li co go re wa fo la a1 a2 a3 a4 a5 a6 a7 a8 a9 a10 a11 a12 a13 a14 a15 a16 a17 a18 := by
      intro hn
      have e1' : rc_m1 (rc_rl a1 a2 a3 a4 a5 r) m x = (m.2.2, []) := if_neg hn
      rw [e1'] at H
      exact rc_meet61 rfl hs e1 hx h10 hm.2.2 hg hG hGc (fun go' a8' a10' a12' k1 k2 k3 k4 => H _ _ a9 _ _ k1 k2 ⟨k3, rc_u1_r h9, k4⟩)
    refine ⟨pk_in r 5 hr, pk_in s 5 hs, rc_allows h8 (fun hl => br_f rc_10 ⟨pk_in r 5 hr, rc_allows e1 (fun hl2 => br_f rc_10 ⟨pk_in r 5 hr, ?_⟩) (fun hl2 => br_t rfl (tl ?_))⟩) (fun hl => br_t rfl (tl ?_))⟩
    · have e1' : rc_m1 (rc_rl a1 a2 a3 a4 a5 r) m x = rc_ho m.2.2 (rc_rl a1 a2 a3 a4 a5 r).2.2.1 := if_pos ⟨hl, hl2⟩
      rw [e1'] at H
      have ho := rc_ho_ok hm.2.2 hi
      refine rc_handOn rfl hs h3 hi h10 hm.2.2 hg hG hGc (fun go' a10' a12' g1 g2 g3 => ?_)
      refine rc_meet61 rfl hs e1 hx g3.1 ho.2.1 g1 g2 (by rw [List.length_append]; omega) (fun go'' a8'' a10'' a12'' k1 k2 k3 k4 => ?_)
      rw [List.append_assoc] at k1 k2
      exact H _ _ a9 _ _ k1 k2 ⟨k3, rc_u1_r h9, rc_u1_t g3 k4⟩
    · intro z
      rw [hl2] at z
      exact absurd z.2 (by decide)
    · intro z
      rw [hl] at z
      exact absurd z.1 (by decide)
  · refine ⟨pk_in s 5 hs, nm_r h9 (pk_eq m.2.1 5 (fun h5 => ?_) (fun h5 => ⟨pk_in r 5 hr, ?_⟩))⟩
    · have e : rc_mt (rc_rl a1 a2 a3 a4 a5 r) m x = ((m.1, rc_hd x, m.2.2), []) := (if_neg hk).trans (if_pos h5)
      rw [e] at H
      exact rc_meet190 rfl hs e1 hx (fun a9' h9' => H _ a8 _ a10 a12 (rc_gpn hg) (rc_apn hG) ⟨rc_u1_r h8, h9', rc_u1_r h10⟩)
    · have e : rc_mt (rc_rl a1 a2 a3 a4 a5 r) m x = ((m.2.1, rc_hd x, (rc_m2 (rc_rl a1 a2 a3 a4 a5 r) m x).1), (rc_m2 (rc_rl a1 a2 a3 a4 a5 r) m x).2) := (if_neg hk).trans (if_neg h5)
      rw [e] at H
      have tl : ¬ (nI m.2.1 = a2 r ∧ rc_al (a4 r) m.1 = true ∧ rc_al (a5 r) x = true) → wX_meet_143 post (nI s) p1 (nI r) (nI m.2.1) ru sz li co go re wa fo la a1 a2 a3 a4 a5 a6 a7 a8 a9 a10 a11 a12 a13 a14 a15 a16 a17 a18 := by
        intro hn
        unfold wX_meet_143
        exact rc_meet144 (p := rc_m2 (rc_rl a1 a2 a3 a4 a5 r) m x) rfl hs e1 hx rfl hr rfl (by omega) h3 hi h10 hm.2.2 hg hG hGc (fun _ => if_neg hn) (fun z => absurd rfl z) (fun go' a8' a9' a10' a12' k1 k2 k3 k4 k5 => H _ _ _ _ _ k1 k2 ⟨k3, k4, k5⟩)
      refine br_c (fun hf => ⟨pk_in r 5 hr, pk_in s 5 hs, rc_allows h8 (fun hl => br_f rc_10 ⟨pk_in r 5 hr, rc_allows e1 (fun hl2 => br_f rc_10 ?_) (fun hl2 => br_t rfl (tl ?_))⟩) (fun hl => br_t rfl (tl ?_))⟩) (fun hf => tl (fun z => hf z.1))
      · exact rc_meet144 (p := rc_m2 (rc_rl a1 a2 a3 a4 a5 r) m x) rfl hs e1 hx rfl hr rfl (by omega) h3 hi h10 hm.2.2 hg hG hGc (fun z => absurd z rc_10) (fun _ => if_pos ⟨hf, hl, hl2⟩) (fun go' a8' a9' a10' a12' k1 k2 k3 k4 k5 => H _ _ _ _ _ k1 k2 ⟨k3, k4, k5⟩)
      · intro z
        rw [hl2] at z
        exact absurd z.2.2 (by decide)
      · intro z
        rw [hl] at z
        exact absurd z.2.1 (by decide)
theorem rc_handOnz {post : St1 → Prop} {ru sz li co go re wa fo la : Int32} {a1 a2 a3 a4 a5 a6 a7 a8 a9 a10 a11 a12 a13 : Nat → Int32} {a14 : Nat → Int64} {a15 : Nat → Int32} {a16 : Nat → Int64} {a17 a18 : Nat → Int32} {p0 p1 : Int32} {s l c : Nat} {G : List Nat} (e0 : p0 = nI s) (hs : s < 5) (e1 : p1 = nI l) (hl : l < 4) (hc : a10 s = nI c) (h12 : c ≤ 12) (hg : go = nI G.length) (hG : rc_at a12 0 G) (hGc : G.length ≤ c)
    (H : ∀ (go' : Int32) (a10' : Nat → Int32) (a12' : Nat → Int32), go' = nI (G ++ (rc_ho c l).2).length → rc_at a12' 0 (G ++ (rc_ho c l).2) → rc_u1 s a10 a10' (rc_ho c l).1 → post (ru, sz, li, co, go', re, wa, fo, la, a1, a2, a3, a4, a5, a6, a7, a8, a9, a10', a11, a12', a13, a14, a15, a16, a17, a18)) : wpX_handOn_2 post (ru, sz, li, co, go, re, wa, fo, la, a1, a2, a3, a4, a5, a6, a7, a8, a9, a10, a11, a12, a13, a14, a15, a16, a17, a18) p0 p1 := by
  subst e0 e1 hg
  unfold wpX_handOn_2
  dsimp only
  rw [nI_clamp (show s < 2 ^ 31 by omega), hc]
  refine ⟨pk_in s 5 hs, pk_le 12 c (fun h => ?_) (fun h => ?_)⟩
  · have e : rc_ho c l = (c, []) := if_pos h
    rw [e] at H
    exact H _ a10 a12 (rc_gpn rfl) (rc_apn hG) (rc_u1_r hc)
  · have e : rc_ho c l = (c + 1, [l]) := if_neg (by omega)
    rw [e] at H
    refine ⟨pk_in G.length 80 (by omega), nm_e (nm_e ⟨pk_in s 5 hs, pk_in s 5 hs, nm_e ?_⟩)⟩
    rw [nI_clamp (show G.length < 2 ^ 31 by omega)]
    refine H _ _ _ ?_ (rc_at_put hG hl (rc_b8 l (by omega)) rfl) (rc_u1_p rfl ?_)
    · rw [nI_1, List.length_append]
      rfl
    · rw [nI_1]
      exact rc_b8 _ (by omega)
theorem rc_meet190z {post : St1 → Prop} {ru sz li co go re wa fo la : Int32} {a1 a2 a3 a4 a5 a6 a7 a8 a9 a10 a11 a12 a13 : Nat → Int32} {a14 : Nat → Int64} {a15 : Nat → Int32} {a16 : Nat → Int64} {a17 a18 : Nat → Int32} {x1 x2 : Int32} {s x : Nat} (e1 : x1 = nI s) (hs : s < 5) (e2 : x2 = nI x) (hx : x ≤ 4) (H : ∀ (a9' : Nat → Int32), rc_u1 s a9 a9' (rc_hd x) → post (ru, sz, li, co, go, re, wa, fo, la, a1, a2, a3, a4, a5, a6, a7, a8, a9', a10, a11, a12, a13, a14, a15, a16, a17, a18)) : wX_meet_2_190 post x1 x2 ru sz li co go re wa fo la a1 a2 a3 a4 a5 a6 a7 a8 a9 a10 a11 a12 a13 a14 a15 a16 a17 a18 := by
  have hc : x1.toNatClampNeg = s := by
    rw [e1]
    exact nI_clamp (by omega)
  refine pk_eq x 4 (fun h => ⟨pk_in s 5 hs e1, nm_e (H _ (rc_u1_p hc ?_))⟩) (fun h => ⟨pk_in s 5 hs e1, nm_e (H _ (rc_u1_p hc ?_))⟩) e2
  · rw [show rc_hd x = 5 from if_pos h]
    rfl
  · rw [show rc_hd x = x from if_neg h, e2]
    exact rc_b8 x (by omega)
theorem rc_meet181z {post : St1 → Prop} {ru sz li co go re wa fo la : Int32} {a1 a2 a3 a4 a5 a6 a7 a8 a9 a10 a11 a12 a13 : Nat → Int32} {a14 : Nat → Int64} {a15 : Nat → Int32} {a16 : Nat → Int64} {a17 a18 : Nat → Int32} {x1 x2 x4 : Int32} {s x y : Nat} (e1 : x1 = nI s) (hs : s < 5) (e2 : x2 = nI x) (hx : x ≤ 4) (e4 : x4 = nI y) (hy : y ≤ 5) (H : ∀ (a8' : Nat → Int32) (a9' : Nat → Int32), rc_u1 s a8 a8' y → rc_u1 s a9 a9' (rc_hd x) → post (ru, sz, li, co, go, re, wa, fo, la, a1, a2, a3, a4, a5, a6, a7, a8', a9', a10, a11, a12, a13, a14, a15, a16, a17, a18)) : wX_meet_2_181 post x1 x2 x4 ru sz li co go re wa fo la a1 a2 a3 a4 a5 a6 a7 a8 a9 a10 a11 a12 a13 a14 a15 a16 a17 a18 := by
  have hc : x1.toNatClampNeg = s := by
    rw [e1]
    exact nI_clamp (by omega)
  have h4 : x4.toInt8.toInt32 = nI y := by
    rw [e4]
    exact rc_b8 y (by omega)
  exact ⟨pk_in s 5 hs e1, nm_e (rc_meet190z e1 hs e2 hx (fun a9' h9 => H _ a9' (rc_u1_p hc h4) h9))⟩
theorem rc_meet144z {post : St1 → Prop} {ru sz li co go re wa fo la : Int32} {a1 a2 a3 a4 a5 a6 a7 a8 a9 a10 a11 a12 a13 : Nat → Int32} {a14 : Nat → Int64} {a15 : Nat → Int32} {a16 : Nat → Int64} {a17 a18 : Nat → Int32} {x1 x2 x3 x4 z0 : Int32} {s x r y c i : Nat} {G : List Nat} {p : Nat × List Nat} (e1 : x1 = nI s) (hs : s < 5) (e2 : x2 = nI x) (hx : x ≤ 4) (e3 : x3 = nI r) (hr : r < 5) (e4 : x4 = nI y) (hy : y < 4) (h3 : a3 r = nI i) (hi : i < 4) (hc : a10 s = nI c) (h12 : c ≤ 12) (hg : go = nI G.length) (hG : rc_at a12 0 G) (hGc : G.length ≤ c)
    (hp0 : z0 = 0 → p = rc_ho c y) (hp1 : ¬ z0 = 0 → p = if a1 r = 0 then rc_ho c i else (c, []))
    (H : ∀ (go' : Int32) (a8' : Nat → Int32) (a9' : Nat → Int32) (a10' : Nat → Int32) (a12' : Nat → Int32), go' = nI (G ++ p.2).length → rc_at a12' 0 (G ++ p.2) → rc_u1 s a8 a8' y → rc_u1 s a9 a9' (rc_hd x) → rc_u1 s a10 a10' p.1 → post (ru, sz, li, co, go', re, wa, fo, la, a1, a2, a3, a4, a5, a6, a7, a8', a9', a10', a11, a12', a13, a14, a15, a16, a17, a18)) : wX_meet_2_144 post x1 x2 x3 x4 z0 ru sz li co go re wa fo la a1 a2 a3 a4 a5 a6 a7 a8 a9 a10 a11 a12 a13 a14 a15 a16 a17 a18 := by
  have c3 : x3.toNatClampNeg = r := by
    rw [e3]
    exact nI_clamp (by omega)
  refine br_c (fun hz => ?_) (fun hz => ?_)
  · rw [hp0 hz] at H
    exact rc_handOnz e1 hs e4 hy hc h12 hg hG hGc (fun go' a10' a12' k1 k2 k3 => rc_meet181z e1 hs e2 hx e4 (by omega) (fun a8' a9' h8 h9 => H _ _ _ _ _ k1 k2 h8 h9 k3))
  · rw [hp1 hz] at H
    refine ⟨pk_in r 5 hr e3, ?_⟩
    rw [c3]
    refine br_c (fun hk => ?_) (fun hk => ?_)
    · rw [if_pos hk] at H
      exact ⟨pk_in r 5 hr e3, rc_handOnz e1 hs h3 hi hc h12 hg hG hGc (fun go' a10' a12' k1 k2 k3 => rc_meet181z e1 hs e2 hx e4 (by omega) (fun a8' a9' h8 h9 => H _ _ _ _ _ k1 k2 h8 h9 k3))⟩
    · rw [if_neg hk] at H
      exact rc_meet181z e1 hs e2 hx e4 (by omega) (fun a8' a9' h8 h9 => H _ _ _ a10 a12 (rc_gpn hg) (rc_apn hG) h8 h9 (rc_u1_r hc))
theorem rc_meet61z {post : St1 → Prop} {ru sz li co go re wa fo la : Int32} {a1 a2 a3 a4 a5 a6 a7 a8 a9 a10 a11 a12 a13 : Nat → Int32} {a14 : Nat → Int64} {a15 : Nat → Int32} {a16 : Nat → Int64} {a17 a18 : Nat → Int32} {x1 x2 : Int32} {s x c : Nat} {G : List Nat} (e1 : x1 = nI s) (hs : s < 5) (e2 : x2 = nI x) (hx : x ≤ 4) (hc : a10 s = nI c) (h12 : c ≤ 12) (hg : go = nI G.length) (hG : rc_at a12 0 G) (hGc : G.length ≤ c)
    (H : ∀ (go' : Int32) (a8' : Nat → Int32) (a10' : Nat → Int32) (a12' : Nat → Int32), go' = nI (G ++ (rc_m3 c x).2).length → rc_at a12' 0 (G ++ (rc_m3 c x).2) → rc_u1 s a8 a8' x → rc_u1 s a10 a10' (rc_m3 c x).1 → post (ru, sz, li, co, go', re, wa, fo, la, a1, a2, a3, a4, a5, a6, a7, a8', a9, a10', a11, a12', a13, a14, a15, a16, a17, a18)) : wX_meet_2_61 post x1 x2 ru sz li co go re wa fo la a1 a2 a3 a4 a5 a6 a7 a8 a9 a10 a11 a12 a13 a14 a15 a16 a17 a18 := by
  have hcl : x1.toNatClampNeg = s := by
    rw [e1]
    exact nI_clamp (by omega)
  have h8 : x2.toInt8.toInt32 = nI x := by
    rw [e2]
    exact rc_b8 x (by omega)
  refine pk_eq x 4 (fun h => ?_) (fun h => ?_) e2
  · rw [show rc_m3 c x = (c, []) from if_pos h] at H
    exact ⟨pk_in s 5 hs e1, nm_e (H _ _ a10 a12 (rc_gpn hg) (rc_apn hG) (rc_u1_p hcl h8) (rc_u1_r hc))⟩
  · rw [show rc_m3 c x = rc_ho c x from if_neg h] at H
    exact rc_handOnz e1 hs e2 (by omega) hc h12 hg hG hGc (fun go' a10' a12' k1 k2 k3 => ⟨pk_in s 5 hs e1, nm_e (H _ _ _ _ k1 k2 (rc_u1_p hcl h8) k3)⟩)
theorem rc_meetz {post : St1 → Prop} {ru sz li co go re wa fo la : Int32} {a1 a2 a3 a4 a5 a6 a7 a8 a9 a10 a11 a12 a13 : Nat → Int32} {a14 : Nat → Int64} {a15 : Nat → Int32} {a16 : Nat → Int64} {a17 a18 : Nat → Int32} {p0 p1 : Int32} {s x r : Nat} {m : Nat × Nat × Nat} {G : List Nat} (e0 : p0 = nI s) (hs : s < 5) (e1 : p1 = nI x) (hx : x ≤ 4) (h7 : a7 s = nI r) (hr : r < 5) (hK : rc_K a1 a2 a3 a4 a5) (hg8 : rc_sg s m a8 a9 a10) (hm : rc_vm m) (hg : go = nI G.length) (hG : rc_at a12 0 G) (hGc : G.length ≤ m.2.2)
    (H : ∀ (go' : Int32) (a8' : Nat → Int32) (a9' : Nat → Int32) (a10' : Nat → Int32) (a12' : Nat → Int32), go' = nI (G ++ (rc_mt (rc_rl a1 a2 a3 a4 a5 r) m x).2).length → rc_at a12' 0 (G ++ (rc_mt (rc_rl a1 a2 a3 a4 a5 r) m x).2) → rc_us s a8 a9 a10 a8' a9' a10' (rc_mt (rc_rl a1 a2 a3 a4 a5 r) m x).1 → post (ru, sz, li, co, go', re, wa, fo, la, a1, a2, a3, a4, a5, a6, a7, a8', a9', a10', a11, a12', a13, a14, a15, a16, a17, a18)) : wpX_meet_2 post (ru, sz, li, co, go, re, wa, fo, la, a1, a2, a3, a4, a5, a6, a7, a8, a9, a10, a11, a12, a13, a14, a15, a16, a17, a18) p0 p1 := by
  obtain ⟨h8, h9, h10⟩ := hg8
  have h3 : a3 r = nI (rc_rl a1 a2 a3 a4 a5 r).2.2.1 := (hK r).2.2.1.1
  have hi : (rc_rl a1 a2 a3 a4 a5 r).2.2.1 < 4 := (hK r).2.2.1.2
  have hh : m.2.1 < 4 ∨ m.2.1 = 5 := hm.2.1
  subst e0
  unfold wpX_meet_2
  dsimp only
  rw [nI_clamp (show s < 2 ^ 31 by omega)]
  refine ⟨pk_in s 5 hs, nm_r h7 ⟨pk_in r 5 hr, ?_⟩⟩
  rw [nI_clamp (show r < 2 ^ 31 by omega)]
  refine br_c (fun hk => ?_) (fun hk => ?_)
  · have e : rc_mt (rc_rl a1 a2 a3 a4 a5 r) m x = ((x, m.2.1, (rc_m3 (rc_m1 (rc_rl a1 a2 a3 a4 a5 r) m x).1 x).1), (rc_m1 (rc_rl a1 a2 a3 a4 a5 r) m x).2 ++ (rc_m3 (rc_m1 (rc_rl a1 a2 a3 a4 a5 r) m x).1 x).2) := if_pos hk
    rw [e] at H
    have tl : ¬ (rc_al (a4 r) m.1 = true ∧ rc_al (a5 r) x = true) → wX_meet_2_61 post (nI s) p1 ru sz li co go re wa fo la a1 a2 a3 a4 a5 a6 a7 a8 a9 a10 a11 a12 a13 a14 a15 a16 a17 a18 := by
      intro hn
      have e1' : rc_m1 (rc_rl a1 a2 a3 a4 a5 r) m x = (m.2.2, []) := if_neg hn
      rw [e1'] at H
      exact rc_meet61z rfl hs e1 hx h10 hm.2.2 hg hG hGc (fun go' a8' a10' a12' k1 k2 k3 k4 => H _ _ a9 _ _ k1 k2 ⟨k3, rc_u1_r h9, k4⟩)
    refine ⟨pk_in r 5 hr, pk_in s 5 hs, rc_allows h8 (fun hl => br_f rc_10 ⟨pk_in r 5 hr, rc_allows e1 (fun hl2 => br_f rc_10 ⟨pk_in r 5 hr, ?_⟩) (fun hl2 => br_t rfl (tl ?_))⟩) (fun hl => br_t rfl (tl ?_))⟩
    · have e1' : rc_m1 (rc_rl a1 a2 a3 a4 a5 r) m x = rc_ho m.2.2 (rc_rl a1 a2 a3 a4 a5 r).2.2.1 := if_pos ⟨hl, hl2⟩
      rw [e1'] at H
      have ho := rc_ho_ok hm.2.2 hi
      refine rc_handOnz rfl hs h3 hi h10 hm.2.2 hg hG hGc (fun go' a10' a12' g1 g2 g3 => ?_)
      refine rc_meet61z rfl hs e1 hx g3.1 ho.2.1 g1 g2 (by rw [List.length_append]; omega) (fun go'' a8'' a10'' a12'' k1 k2 k3 k4 => ?_)
      rw [List.append_assoc] at k1 k2
      exact H _ _ a9 _ _ k1 k2 ⟨k3, rc_u1_r h9, rc_u1_t g3 k4⟩
    · intro z
      rw [hl2] at z
      exact absurd z.2 (by decide)
    · intro z
      rw [hl] at z
      exact absurd z.1 (by decide)
  · refine ⟨pk_in s 5 hs, nm_r h9 (pk_eq m.2.1 5 (fun h5 => ?_) (fun h5 => ⟨pk_in r 5 hr, ?_⟩))⟩
    · have e : rc_mt (rc_rl a1 a2 a3 a4 a5 r) m x = ((m.1, rc_hd x, m.2.2), []) := (if_neg hk).trans (if_pos h5)
      rw [e] at H
      exact rc_meet190z rfl hs e1 hx (fun a9' h9' => H _ a8 _ a10 a12 (rc_gpn hg) (rc_apn hG) ⟨rc_u1_r h8, h9', rc_u1_r h10⟩)
    · have e : rc_mt (rc_rl a1 a2 a3 a4 a5 r) m x = ((m.2.1, rc_hd x, (rc_m2 (rc_rl a1 a2 a3 a4 a5 r) m x).1), (rc_m2 (rc_rl a1 a2 a3 a4 a5 r) m x).2) := (if_neg hk).trans (if_neg h5)
      rw [e] at H
      have tl : ¬ (nI m.2.1 = a2 r ∧ rc_al (a4 r) m.1 = true ∧ rc_al (a5 r) x = true) → wX_meet_2_143 post (nI s) p1 (nI r) (nI m.2.1) ru sz li co go re wa fo la a1 a2 a3 a4 a5 a6 a7 a8 a9 a10 a11 a12 a13 a14 a15 a16 a17 a18 := by
        intro hn
        unfold wX_meet_2_143
        exact rc_meet144z (p := rc_m2 (rc_rl a1 a2 a3 a4 a5 r) m x) rfl hs e1 hx rfl hr rfl (by omega) h3 hi h10 hm.2.2 hg hG hGc (fun _ => if_neg hn) (fun z => absurd rfl z) (fun go' a8' a9' a10' a12' k1 k2 k3 k4 k5 => H _ _ _ _ _ k1 k2 ⟨k3, k4, k5⟩)
      refine br_c (fun hf => ⟨pk_in r 5 hr, pk_in s 5 hs, rc_allows h8 (fun hl => br_f rc_10 ⟨pk_in r 5 hr, rc_allows e1 (fun hl2 => br_f rc_10 ?_) (fun hl2 => br_t rfl (tl ?_))⟩) (fun hl => br_t rfl (tl ?_))⟩) (fun hf => tl (fun z => hf z.1))
      · exact rc_meet144z (p := rc_m2 (rc_rl a1 a2 a3 a4 a5 r) m x) rfl hs e1 hx rfl hr rfl (by omega) h3 hi h10 hm.2.2 hg hG hGc (fun z => absurd z rc_10) (fun _ => if_pos ⟨hf, hl, hl2⟩) (fun go' a8' a9' a10' a12' k1 k2 k3 k4 k5 => H _ _ _ _ _ k1 k2 ⟨k3, k4, k5⟩)
      · intro z
        rw [hl2] at z
        exact absurd z.2.2 (by decide)
      · intro z
        rw [hl] at z
        exact absurd z.2.1 (by decide)
end
section
/-! passRule and feed -/
theorem rc_exch2 {post : St1 → Prop} {ru : Int32} {sz : Int32} {li : Int32} {co : Int32} {go : Int32} {re : Int32} {wa : Int32} {fo : Int32} {la : Int32} {a1 : Nat → Int32} {a2 : Nat → Int32} {a3 : Nat → Int32} {a4 : Nat → Int32} {a5 : Nat → Int32} {a6 : Nat → Int32} {a7 : Nat → Int32} {a8 : Nat → Int32} {a9 : Nat → Int32} {a10 : Nat → Int32} {a12 : Nat → Int32} {a13 : Nat → Int32} {a14 : Nat → Int64} {a15 : Nat → Int32} {a16 : Nat → Int64} {a17 : Nat → Int32} {a18 : Nat → Int32} : ∀ (ys X : List Nat) (a11 : Nat → Int32), rc_at a12 X.length ys → rc_at a11 0 X → go = nI (X.length + ys.length) → X.length + ys.length ≤ 80 →
    (∀ (a11' : Nat → Int32), rc_at a11' 0 (X ++ ys) → post (ru, sz, li, go, go, re, wa, fo, la, a1, a2, a3, a4, a5, a6, a7, a8, a9, a10, a11', a12, a13, a14, a15, a16, a17, a18)) → wX_exchangeWays_2 post ru sz li co go re wa fo la (ys.length + 1) (nI X.length) a1 a2 a3 a4 a5 a6 a7 a8 a9 a10 a11 a12 a13 a14 a15 a16 a17 a18 := by
  intro ys
  induction ys with
  | nil =>
    intro X a11 _ hX hg _ H
    exact pk_le X.length X.length (fun _ => H a11 (rc_apn hX)) (fun z => absurd z (by omega)) hg
  | cons y ys ih =>
    intro X a11 hy hX hg h80 H
    rw [List.length_cons] at hg h80
    refine pk_le (X.length + (ys.length + 1)) X.length (fun z => absurd z (by omega)) (fun _ => ⟨pk_in X.length 80 (by omega), pk_in X.length 80 (by omega), nm_e (nm_r (nI_1 X.length) ?_)⟩) hg
    rw [nI_clamp (show X.length < 2 ^ 31 by omega)]
    have hX' : rc_at (upd a11 X.length (vp_nar .byte (a12 X.length))) 0 (X ++ [y]) := rc_at_put hX hy.2.1 (by rw [hy.1]; exact rc_nb8 (by have := hy.2.1; omega)) rfl
    have e : (X ++ [y]).length = X.length + 1 := by
      rw [List.length_append]
      rfl
    have h := ih (X ++ [y]) (upd a11 X.length (vp_nar .byte (a12 X.length))) (by rw [e]; exact hy.2.2) hX' (by rw [e, hg]; congr 1; omega) (by rw [e]; omega) (fun a11' h' => H a11' (by rw [List.append_assoc] at h'; exact h'))
    rw [e] at h
    exact h
theorem rc_exch {post : St1 → Prop} {ru sz li co go re wa fo la : Int32} {a1 a2 a3 a4 a5 a6 a7 a8 a9 a10 a11 a12 a13 : Nat → Int32} {a14 : Nat → Int64} {a15 : Nat → Int32} {a16 : Nat → Int64} {a17 a18 : Nat → Int32} {ys : List Nat} (hy : rc_at a12 0 ys) (hg : go = nI ys.length) (h80 : ys.length ≤ 80)
    (H : ∀ (a11' : Nat → Int32), rc_at a11' 0 ys → post (ru, sz, li, go, go, re, wa, fo, la, a1, a2, a3, a4, a5, a6, a7, a8, a9, a10, a11', a12, a13, a14, a15, a16, a17, a18)) : wpX_exchangeWays post (ru, sz, li, co, go, re, wa, fo, la, a1, a2, a3, a4, a5, a6, a7, a8, a9, a10, a11, a12, a13, a14, a15, a16, a17, a18) :=
  ⟨ys.length + 1, rc_exch2 ys [] a11 hy trivial (by rw [hg, List.length_nil, Nat.zero_add]) (by rw [List.length_nil]; omega) H⟩
theorem rc_pass42 {post : St1 → Prop} {ru sz li co go re wa fo la : Int32} {a1 a2 a3 a4 a5 a6 a7 a8 a9 a10 a11 a12 a13 : Nat → Int32} {a14 : Nat → Int64} {a15 : Nat → Int32} {a16 : Nat → Int64} {a17 a18 : Nat → Int32} {ys : List Nat} (hy : rc_at a12 0 ys) (hg : go = nI ys.length) (h80 : ys.length ≤ 80)
    (H : ∀ (a11' : Nat → Int32), rc_at a11' 0 ys → post (ru, sz, li, go, go, re, wa, fo, la, a1, a2, a3, a4, a5, a6, a7, a8, a9, a10, a11', a12, a13, a14, a15, a16, a17, a18)) : wX_passRule_42 post ru sz li co go re wa fo la a1 a2 a3 a4 a5 a6 a7 a8 a9 a10 a11 a12 a13 a14 a15 a16 a17 a18 :=
  rc_exch hy hg h80 H
theorem rc_pass7 {post : St1 → Prop} {ru : Int32} {sz : Int32} {li : Int32} {co : Int32} {re : Int32} {wa : Int32} {fo : Int32} {la : Int32} {a1 : Nat → Int32} {a2 : Nat → Int32} {a3 : Nat → Int32} {a4 : Nat → Int32} {a5 : Nat → Int32} {a6 : Nat → Int32} {a7 : Nat → Int32} {a11 : Nat → Int32} {a13 : Nat → Int32} {a14 : Nat → Int64} {a15 : Nat → Int32} {a16 : Nat → Int64} {a17 : Nat → Int32} {a18 : Nat → Int32} {x1 x2 : Int32} {s r : Nat} {e : List Nat} (e1 : x1 = nI s) (hs : s < 5) (h7 : a7 s = nI r) (hr : r < 5) (hK : rc_K a1 a2 a3 a4 a5) (he : (x2 = 0 ∧ e = []) ∨ (¬ x2 = 0 ∧ e = [4])) : ∀ (xs : List Nat) (i : Nat) (m : Nat × Nat × Nat) (G : List Nat) (go : Int32) (a8 : Nat → Int32) (a9 : Nat → Int32) (a10 : Nat → Int32) (a12 : Nat → Int32), rc_at a11 i xs → co = nI (i + xs.length) → i + xs.length ≤ 80 → rc_sg s m a8 a9 a10 → rc_vm m → go = nI G.length → rc_at a12 0 G → G.length ≤ m.2.2 →
    (∀ (go' : Int32) (a8' : Nat → Int32) (a9' : Nat → Int32) (a10' : Nat → Int32) (a11' : Nat → Int32) (a12' : Nat → Int32), go' = nI (G ++ (rc_ps (rc_rl a1 a2 a3 a4 a5 r) (xs ++ e) m).2).length → rc_at a11' 0 (G ++ (rc_ps (rc_rl a1 a2 a3 a4 a5 r) (xs ++ e) m).2) → rc_us s a8 a9 a10 a8' a9' a10' (rc_ps (rc_rl a1 a2 a3 a4 a5 r) (xs ++ e) m).1 → post (ru, sz, li, go', go', re, wa, fo, la, a1, a2, a3, a4, a5, a6, a7, a8', a9', a10', a11', a12', a13, a14, a15, a16, a17, a18)) → wX_passRule_7 post x1 x2 (xs.length + 1) (nI i) ru sz li co go re wa fo la a1 a2 a3 a4 a5 a6 a7 a8 a9 a10 a11 a12 a13 a14 a15 a16 a17 a18 := by
  have hi : (rc_rl a1 a2 a3 a4 a5 r).2.2.1 < 4 := (hK r).2.2.1.2
  intro xs
  induction xs with
  | nil =>
    intro i m G go a8 a9 a10 a12 hx hco h80 hsg hm hg hG hGc H
    have hm12 : m.2.2 ≤ 12 := hm.2.2
    rw [List.length_nil, Nat.add_zero] at hco h80
    refine pk_le i i (fun _ => ?_) (fun z => absurd z (by omega)) hco
    rcases he with ⟨h2, h⟩ | ⟨h2, h⟩
    · subst h
      exact br_t h2 (rc_pass42 hG hg (by omega) (fun a11' h' => H _ _ _ _ _ _ (rc_gpn hg) (rc_apn h') (rc_us_r hsg)))
    · subst h
      have ok := rc_mt_ok (x := 4) hi hm (by omega)
      have hk12 := ok.1.2.2
      refine br_f h2 (rc_meet (x := 4) e1 hs rfl (by omega) h7 hr hK hsg hm hg hG hGc (fun go' a8' a9' a10' a12' k1 k2 k3 => ?_))
      refine rc_pass42 k2 k1 (by rw [List.length_append]; omega) (fun a11' h' => ?_)
      refine H _ _ _ _ _ _ ?_ ?_ k3
      · rw [k1]
        show _ = nI (G ++ ((rc_mt (rc_rl a1 a2 a3 a4 a5 r) m 4).2 ++ [])).length
        rw [List.append_nil]
      · show rc_at a11' 0 (G ++ ((rc_mt (rc_rl a1 a2 a3 a4 a5 r) m 4).2 ++ []))
        rw [List.append_nil]
        exact h'
  | cons x xs ih =>
    intro i m G go a8 a9 a10 a12 hx hco h80 hsg hm hg hG hGc H
    have hm12 : m.2.2 ≤ 12 := hm.2.2
    rw [List.length_cons] at hco h80
    obtain ⟨hx1, hx4, hx2⟩ := hx
    have ok := rc_mt_ok (x := x) hi hm (by omega)
    refine pk_le (i + (xs.length + 1)) i (fun z => absurd z (by omega)) (fun _ => ⟨pk_in i 80 (by omega), ?_⟩) hco
    rw [nI_clamp (show i < 2 ^ 31 by omega)]
    refine rc_meet e1 hs hx1 (by omega) h7 hr hK hsg hm hg hG hGc (fun go' a8' a9' a10' a12' k1 k2 k3 => nm_r (nI_1 i) ?_)
    refine ih (i + 1) _ _ _ _ _ _ _ hx2 (by rw [hco]; congr 1; omega) (by omega) (rc_us_g k3) ok.1 k1 k2 (by rw [List.length_append]; omega) (fun go'' a8'' a9'' a10'' a11'' a12'' j1 j2 j3 => ?_)
    refine H _ _ _ _ _ _ ?_ ?_ (rc_us_t k3 j3)
    · rw [j1, List.append_assoc]
      rfl
    · rw [List.append_assoc] at j2
      exact j2
theorem rc_pass {post : St1 → Prop} {ru sz li co go re wa fo la : Int32} {a1 a2 a3 a4 a5 a6 a7 a8 a9 a10 a11 a12 a13 : Nat → Int32} {a14 : Nat → Int64} {a15 : Nat → Int32} {a16 : Nat → Int64} {a17 a18 : Nat → Int32} {p0 p1 : Int32} {s r : Nat} {e xs : List Nat} {m : Nat × Nat × Nat} (e0 : p0 = nI s) (hs : s < 5) (h7 : a7 s = nI r) (hr : r < 5) (hK : rc_K a1 a2 a3 a4 a5) (he : (p1 = 0 ∧ e = []) ∨ (¬ p1 = 0 ∧ e = [4])) (hx : rc_at a11 0 xs) (hco : co = nI xs.length) (h80 : xs.length ≤ 80) (hsg : rc_sg s m a8 a9 a10) (hm : rc_vm m)
    (H : ∀ (go' : Int32) (a8' : Nat → Int32) (a9' : Nat → Int32) (a10' : Nat → Int32) (a11' : Nat → Int32) (a12' : Nat → Int32), go' = nI (rc_ps (rc_rl a1 a2 a3 a4 a5 r) (xs ++ e) m).2.length → rc_at a11' 0 (rc_ps (rc_rl a1 a2 a3 a4 a5 r) (xs ++ e) m).2 → rc_us s a8 a9 a10 a8' a9' a10' (rc_ps (rc_rl a1 a2 a3 a4 a5 r) (xs ++ e) m).1 → post (ru, sz, li, go', go', re, wa, fo, la, a1, a2, a3, a4, a5, a6, a7, a8', a9', a10', a11', a12', a13, a14, a15, a16, a17, a18)) : wpX_passRule post (ru, sz, li, co, go, re, wa, fo, la, a1, a2, a3, a4, a5, a6, a7, a8, a9, a10, a11, a12, a13, a14, a15, a16, a17, a18) p0 p1 :=
  ⟨xs.length + 1, rc_pass7 e0 hs h7 hr hK he xs 0 m [] 0 a8 a9 a10 a12 hx (by rw [Nat.zero_add]; exact hco) (by omega) hsg hm rfl trivial (by rw [List.length_nil]; omega) H⟩
theorem rc_exch2z {post : St1 → Prop} {ru : Int32} {sz : Int32} {li : Int32} {co : Int32} {go : Int32} {re : Int32} {wa : Int32} {fo : Int32} {la : Int32} {a1 : Nat → Int32} {a2 : Nat → Int32} {a3 : Nat → Int32} {a4 : Nat → Int32} {a5 : Nat → Int32} {a6 : Nat → Int32} {a7 : Nat → Int32} {a8 : Nat → Int32} {a9 : Nat → Int32} {a10 : Nat → Int32} {a12 : Nat → Int32} {a13 : Nat → Int32} {a14 : Nat → Int64} {a15 : Nat → Int32} {a16 : Nat → Int64} {a17 : Nat → Int32} {a18 : Nat → Int32} : ∀ (ys X : List Nat) (a11 : Nat → Int32), rc_at a12 X.length ys → rc_at a11 0 X → go = nI (X.length + ys.length) → X.length + ys.length ≤ 80 →
    (∀ (a11' : Nat → Int32), rc_at a11' 0 (X ++ ys) → post (ru, sz, li, go, go, re, wa, fo, la, a1, a2, a3, a4, a5, a6, a7, a8, a9, a10, a11', a12, a13, a14, a15, a16, a17, a18)) → wX_exchangeWays_2_2 post ru sz li co go re wa fo la (ys.length + 1) (nI X.length) a1 a2 a3 a4 a5 a6 a7 a8 a9 a10 a11 a12 a13 a14 a15 a16 a17 a18 := by
  intro ys
  induction ys with
  | nil =>
    intro X a11 _ hX hg _ H
    exact pk_le X.length X.length (fun _ => H a11 (rc_apn hX)) (fun z => absurd z (by omega)) hg
  | cons y ys ih =>
    intro X a11 hy hX hg h80 H
    rw [List.length_cons] at hg h80
    refine pk_le (X.length + (ys.length + 1)) X.length (fun z => absurd z (by omega)) (fun _ => ⟨pk_in X.length 80 (by omega), pk_in X.length 80 (by omega), nm_e (nm_r (nI_1 X.length) ?_)⟩) hg
    rw [nI_clamp (show X.length < 2 ^ 31 by omega)]
    have hX' : rc_at (upd a11 X.length (vp_nar .byte (a12 X.length))) 0 (X ++ [y]) := rc_at_put hX hy.2.1 (by rw [hy.1]; exact rc_nb8 (by have := hy.2.1; omega)) rfl
    have e : (X ++ [y]).length = X.length + 1 := by
      rw [List.length_append]
      rfl
    have h := ih (X ++ [y]) (upd a11 X.length (vp_nar .byte (a12 X.length))) (by rw [e]; exact hy.2.2) hX' (by rw [e, hg]; congr 1; omega) (by rw [e]; omega) (fun a11' h' => H a11' (by rw [List.append_assoc] at h'; exact h'))
    rw [e] at h
    exact h
theorem rc_exchz {post : St1 → Prop} {ru sz li co go re wa fo la : Int32} {a1 a2 a3 a4 a5 a6 a7 a8 a9 a10 a11 a12 a13 : Nat → Int32} {a14 : Nat → Int64} {a15 : Nat → Int32} {a16 : Nat → Int64} {a17 a18 : Nat → Int32} {ys : List Nat} (hy : rc_at a12 0 ys) (hg : go = nI ys.length) (h80 : ys.length ≤ 80)
    (H : ∀ (a11' : Nat → Int32), rc_at a11' 0 ys → post (ru, sz, li, go, go, re, wa, fo, la, a1, a2, a3, a4, a5, a6, a7, a8, a9, a10, a11', a12, a13, a14, a15, a16, a17, a18)) : wpX_exchangeWays_2 post (ru, sz, li, co, go, re, wa, fo, la, a1, a2, a3, a4, a5, a6, a7, a8, a9, a10, a11, a12, a13, a14, a15, a16, a17, a18) :=
  ⟨ys.length + 1, rc_exch2z ys [] a11 hy trivial (by rw [hg, List.length_nil, Nat.zero_add]) (by rw [List.length_nil]; omega) H⟩
theorem rc_pass42z {post : St1 → Prop} {ru sz li co go re wa fo la : Int32} {a1 a2 a3 a4 a5 a6 a7 a8 a9 a10 a11 a12 a13 : Nat → Int32} {a14 : Nat → Int64} {a15 : Nat → Int32} {a16 : Nat → Int64} {a17 a18 : Nat → Int32} {ys : List Nat} (hy : rc_at a12 0 ys) (hg : go = nI ys.length) (h80 : ys.length ≤ 80)
    (H : ∀ (a11' : Nat → Int32), rc_at a11' 0 ys → post (ru, sz, li, go, go, re, wa, fo, la, a1, a2, a3, a4, a5, a6, a7, a8, a9, a10, a11', a12, a13, a14, a15, a16, a17, a18)) : wX_passRule_2_42 post ru sz li co go re wa fo la a1 a2 a3 a4 a5 a6 a7 a8 a9 a10 a11 a12 a13 a14 a15 a16 a17 a18 :=
  rc_exchz hy hg h80 H
theorem rc_pass7z {post : St1 → Prop} {ru : Int32} {sz : Int32} {li : Int32} {co : Int32} {re : Int32} {wa : Int32} {fo : Int32} {la : Int32} {a1 : Nat → Int32} {a2 : Nat → Int32} {a3 : Nat → Int32} {a4 : Nat → Int32} {a5 : Nat → Int32} {a6 : Nat → Int32} {a7 : Nat → Int32} {a11 : Nat → Int32} {a13 : Nat → Int32} {a14 : Nat → Int64} {a15 : Nat → Int32} {a16 : Nat → Int64} {a17 : Nat → Int32} {a18 : Nat → Int32} {x1 x2 : Int32} {s r : Nat} {e : List Nat} (e1 : x1 = nI s) (hs : s < 5) (h7 : a7 s = nI r) (hr : r < 5) (hK : rc_K a1 a2 a3 a4 a5) (he : (x2 = 0 ∧ e = []) ∨ (¬ x2 = 0 ∧ e = [4])) : ∀ (xs : List Nat) (i : Nat) (m : Nat × Nat × Nat) (G : List Nat) (go : Int32) (a8 : Nat → Int32) (a9 : Nat → Int32) (a10 : Nat → Int32) (a12 : Nat → Int32), rc_at a11 i xs → co = nI (i + xs.length) → i + xs.length ≤ 80 → rc_sg s m a8 a9 a10 → rc_vm m → go = nI G.length → rc_at a12 0 G → G.length ≤ m.2.2 →
    (∀ (go' : Int32) (a8' : Nat → Int32) (a9' : Nat → Int32) (a10' : Nat → Int32) (a11' : Nat → Int32) (a12' : Nat → Int32), go' = nI (G ++ (rc_ps (rc_rl a1 a2 a3 a4 a5 r) (xs ++ e) m).2).length → rc_at a11' 0 (G ++ (rc_ps (rc_rl a1 a2 a3 a4 a5 r) (xs ++ e) m).2) → rc_us s a8 a9 a10 a8' a9' a10' (rc_ps (rc_rl a1 a2 a3 a4 a5 r) (xs ++ e) m).1 → post (ru, sz, li, go', go', re, wa, fo, la, a1, a2, a3, a4, a5, a6, a7, a8', a9', a10', a11', a12', a13, a14, a15, a16, a17, a18)) → wX_passRule_2_7 post x1 x2 (xs.length + 1) (nI i) ru sz li co go re wa fo la a1 a2 a3 a4 a5 a6 a7 a8 a9 a10 a11 a12 a13 a14 a15 a16 a17 a18 := by
  have hi : (rc_rl a1 a2 a3 a4 a5 r).2.2.1 < 4 := (hK r).2.2.1.2
  intro xs
  induction xs with
  | nil =>
    intro i m G go a8 a9 a10 a12 hx hco h80 hsg hm hg hG hGc H
    have hm12 : m.2.2 ≤ 12 := hm.2.2
    rw [List.length_nil, Nat.add_zero] at hco h80
    refine pk_le i i (fun _ => ?_) (fun z => absurd z (by omega)) hco
    rcases he with ⟨h2, h⟩ | ⟨h2, h⟩
    · subst h
      exact br_t h2 (rc_pass42z hG hg (by omega) (fun a11' h' => H _ _ _ _ _ _ (rc_gpn hg) (rc_apn h') (rc_us_r hsg)))
    · subst h
      have ok := rc_mt_ok (x := 4) hi hm (by omega)
      have hk12 := ok.1.2.2
      refine br_f h2 (rc_meetz (x := 4) e1 hs rfl (by omega) h7 hr hK hsg hm hg hG hGc (fun go' a8' a9' a10' a12' k1 k2 k3 => ?_))
      refine rc_pass42z k2 k1 (by rw [List.length_append]; omega) (fun a11' h' => ?_)
      refine H _ _ _ _ _ _ ?_ ?_ k3
      · rw [k1]
        show _ = nI (G ++ ((rc_mt (rc_rl a1 a2 a3 a4 a5 r) m 4).2 ++ [])).length
        rw [List.append_nil]
      · show rc_at a11' 0 (G ++ ((rc_mt (rc_rl a1 a2 a3 a4 a5 r) m 4).2 ++ []))
        rw [List.append_nil]
        exact h'
  | cons x xs ih =>
    intro i m G go a8 a9 a10 a12 hx hco h80 hsg hm hg hG hGc H
    have hm12 : m.2.2 ≤ 12 := hm.2.2
    rw [List.length_cons] at hco h80
    obtain ⟨hx1, hx4, hx2⟩ := hx
    have ok := rc_mt_ok (x := x) hi hm (by omega)
    refine pk_le (i + (xs.length + 1)) i (fun z => absurd z (by omega)) (fun _ => ⟨pk_in i 80 (by omega), ?_⟩) hco
    rw [nI_clamp (show i < 2 ^ 31 by omega)]
    refine rc_meetz e1 hs hx1 (by omega) h7 hr hK hsg hm hg hG hGc (fun go' a8' a9' a10' a12' k1 k2 k3 => nm_r (nI_1 i) ?_)
    refine ih (i + 1) _ _ _ _ _ _ _ hx2 (by rw [hco]; congr 1; omega) (by omega) (rc_us_g k3) ok.1 k1 k2 (by rw [List.length_append]; omega) (fun go'' a8'' a9'' a10'' a11'' a12'' j1 j2 j3 => ?_)
    refine H _ _ _ _ _ _ ?_ ?_ (rc_us_t k3 j3)
    · rw [j1, List.append_assoc]
      rfl
    · rw [List.append_assoc] at j2
      exact j2
theorem rc_passz {post : St1 → Prop} {ru sz li co go re wa fo la : Int32} {a1 a2 a3 a4 a5 a6 a7 a8 a9 a10 a11 a12 a13 : Nat → Int32} {a14 : Nat → Int64} {a15 : Nat → Int32} {a16 : Nat → Int64} {a17 a18 : Nat → Int32} {p0 p1 : Int32} {s r : Nat} {e xs : List Nat} {m : Nat × Nat × Nat} (e0 : p0 = nI s) (hs : s < 5) (h7 : a7 s = nI r) (hr : r < 5) (hK : rc_K a1 a2 a3 a4 a5) (he : (p1 = 0 ∧ e = []) ∨ (¬ p1 = 0 ∧ e = [4])) (hx : rc_at a11 0 xs) (hco : co = nI xs.length) (h80 : xs.length ≤ 80) (hsg : rc_sg s m a8 a9 a10) (hm : rc_vm m)
    (H : ∀ (go' : Int32) (a8' : Nat → Int32) (a9' : Nat → Int32) (a10' : Nat → Int32) (a11' : Nat → Int32) (a12' : Nat → Int32), go' = nI (rc_ps (rc_rl a1 a2 a3 a4 a5 r) (xs ++ e) m).2.length → rc_at a11' 0 (rc_ps (rc_rl a1 a2 a3 a4 a5 r) (xs ++ e) m).2 → rc_us s a8 a9 a10 a8' a9' a10' (rc_ps (rc_rl a1 a2 a3 a4 a5 r) (xs ++ e) m).1 → post (ru, sz, li, go', go', re, wa, fo, la, a1, a2, a3, a4, a5, a6, a7, a8', a9', a10', a11', a12', a13, a14, a15, a16, a17, a18)) : wpX_passRule_2 post (ru, sz, li, co, go, re, wa, fo, la, a1, a2, a3, a4, a5, a6, a7, a8, a9, a10, a11, a12, a13, a14, a15, a16, a17, a18) p0 p1 :=
  ⟨xs.length + 1, rc_pass7z e0 hs h7 hr hK he xs 0 m [] 0 a8 a9 a10 a12 hx (by rw [Nat.zero_add]; exact hco) (by omega) hsg hm rfl trivial (by rw [List.length_nil]; omega) H⟩
/-- a truth value as an int -/
def rc_bi (b : Bool) : Int32 := if b = true then 1 else 0
theorem rc_bi_0 {b : Bool} (h : rc_bi b = 0) : b = false := by
  cases b
  · rfl
  · exact absurd h rc_10
theorem rc_bi_1 {b : Bool} (h : ¬ rc_bi b = 0) : b = true := by
  cases b
  · exact absurd rfl h
  · rfl
/-- the word -/
def rc_wd (W : List Nat) (sz : Int32) (a6 : Nat → Int32) : Prop := sz = nI W.length ∧ W.length ≤ 12 ∧ rc_at a6 0 W
def rc_mm (k : Nat) (M : rc_M) (a8 a9 a10 : Nat → Int32) : Prop := ∀ s, s < k → rc_sg s (M s) a8 a9 a10
theorem rc_mm_up {k s : Nat} {M : rc_M} {a8 a9 a10 a8' a9' a10' : Nat → Int32} {m : Nat × Nat × Nat} (h : rc_mm k M a8 a9 a10) (hu : rc_us s a8 a9 a10 a8' a9' a10' m) : rc_mm k (rc_up M s m) a8' a9' a10' := by
  intro j hj
  by_cases e : j = s
  · subst e
    rw [rc_up_s]
    exact rc_us_g hu
  · rw [rc_up_n e]
    have hh := h j hj
    exact ⟨(hu.1.2 j e).trans hh.1, (hu.2.1.2 j e).trans hh.2.1, (hu.2.2.2 j e).trans hh.2.2⟩
/-- the line of rules, the rules and the word -/
def rc_C (k : Nat) (A : Nat → Nat) (W : List Nat) (sz li : Int32) (a1 a2 a3 a4 a5 a6 a7 : Nat → Int32) : Prop := li = nI k ∧ k ≤ 5 ∧ (∀ s, s < k → a7 s = nI (A s) ∧ A s < 5) ∧ rc_K a1 a2 a3 a4 a5 ∧ rc_wd W sz a6
def rc_tA (k : Nat) (A : Nat → Nat) (a1 a2 a3 a4 a5 : Nat → Int32) : rc_T := rc_tm (fun s => rc_rl a1 a2 a3 a4 a5 (A s)) k
theorem rc_tA_v {k : Nat} {A : Nat → Nat} {a1 a2 a3 a4 a5 : Nat → Int32} (hK : rc_K a1 a2 a3 a4 a5) : rc_vT k (rc_tA k A a1 a2 a3 a4 a5) :=
  rc_tm_v (fun s _ => (hK (A s)).2.2.1.2)
theorem rc_feed56 {post : St1 → Prop} {ru : Int32} {sz : Int32} {li : Int32} {co : Int32} {go : Int32} {fo : Int32} {la : Int32} {a1 : Nat → Int32} {a2 : Nat → Int32} {a3 : Nat → Int32} {a4 : Nat → Int32} {a5 : Nat → Int32} {a6 : Nat → Int32} {a7 : Nat → Int32} {a8 : Nat → Int32} {a9 : Nat → Int32} {a10 : Nat → Int32} {a11 : Nat → Int32} {a12 : Nat → Int32} {a14 : Nat → Int64} {a15 : Nat → Int32} {a16 : Nat → Int64} {a17 : Nat → Int32} {a18 : Nat → Int32} {W : List Nat} (hW : rc_wd W sz a6) : ∀ (ys : List Nat) (i r : Nat) (ok : Bool) (a13 : Nat → Int32), rc_at a11 i ys → co = nI (i + ys.length) → i + ys.length ≤ 80 → r ≤ 12 →
    (∀ (re' : Int32) (wa' : Int32) (a13' : Nat → Int32), re' = nI (rc_em W ys (r, ok)).1 → wa' = rc_bi (rc_em W ys (r, ok)).2 → (∀ o : List Nat, o.length = r → rc_at a13 0 o → rc_at a13' 0 (rc_eo ys o)) → post (ru, sz, li, co, go, re', wa', fo, la, a1, a2, a3, a4, a5, a6, a7, a8, a9, a10, a11, a12, a13', a14, a15, a16, a17, a18)) → wX_feed_56 post ru sz li co go fo la (ys.length + 1) (nI i) (nI r) (rc_bi ok) a1 a2 a3 a4 a5 a6 a7 a8 a9 a10 a11 a12 a13 a14 a15 a16 a17 a18 := by
  obtain ⟨hW1, hW2, hW3⟩ := hW
  intro ys
  induction ys with
  | nil =>
    intro i r ok a13 _ hco h80 h12 H
    exact pk_le i i (fun _ => H _ _ a13 rfl rfl (fun o _ h => h)) (fun z => absurd z (by omega)) hco
  | cons y ys ih =>
    intro i r ok a13 hy hco h80 h12 H
    rw [List.length_cons] at hco h80
    obtain ⟨hy1, hy4, hy2⟩ := hy
    refine pk_le (i + (ys.length + 1)) i (fun z => absurd z (by omega)) (fun _ => pk_le 12 r (fun h => nm_r (nI_1 i) ?_) (fun h => ⟨pk_in i 80 (by omega), pk_in r 12 (by omega), nm_e ?_⟩)) hco
    · have e : ∀ o : List Nat, o.length = r → rc_eo (y :: ys) o = rc_eo ys o := by
        intro o ho
        show rc_eo ys (if 12 ≤ o.length then o else o ++ [y]) = rc_eo ys o
        rw [if_pos (by omega)]
      have e2 : rc_em W (y :: ys) (r, ok) = rc_em W ys (r, ok) := by
        show rc_em W ys (if 12 ≤ r then (r, ok) else _) = _
        rw [if_pos h]
      rw [e2] at H
      exact ih (i + 1) r ok a13 hy2 (by rw [hco]; congr 1; omega) (by omega) h12 (fun re' wa' a13' k1 k2 k3 => H _ _ _ k1 k2 (fun o ho hh => by rw [e o ho]; exact k3 o ho hh))
    · rw [nI_clamp (show i < 2 ^ 31 by omega), nI_clamp (show r < 2 ^ 31 by omega), hy1, rc_nb8 (show y < 128 by omega)]
      have e : ∀ o : List Nat, o.length = r → rc_eo (y :: ys) o = rc_eo ys (o ++ [y]) := by
        intro o ho
        show rc_eo ys (if 12 ≤ o.length then o else o ++ [y]) = _
        rw [if_neg (by omega)]
      have e2 : rc_em W (y :: ys) (r, ok) = rc_em W ys (r + 1, ok && decide (W[r]? = some y)) := by
        show rc_em W ys (if 12 ≤ r then (r, ok) else _) = _
        rw [if_neg (by omega)]
      rw [e2] at H
      have go130 : ∀ z0 : Int32, (z0 = 0 ∨ z0 = 1) → z0 = rc_bi (ok && decide (W[r]? = some y)) → wX_feed_130 post (wX_feed_56 post ru sz li co go fo la (ys.length + 1)) (nI i) z0 ru sz li co go (nI r) (rc_bi ok) fo la a1 a2 a3 a4 a5 a6 a7 a8 a9 a10 a11 a12 (upd a13 r (nI y)) a14 a15 a16 a17 a18 := by
        intro z0 hz hz2
        have hn : narrow .boolean (.int z0) = .int z0 ∧ fits .boolean (.int z0) = true := by
          rcases hz with h | h
          · rw [h]
            exact ⟨rfl, rfl⟩
          · rw [h]
            exact ⟨rfl, rfl⟩
        refine ⟨hn.1, hn.2, nm_r (nI_1 r) (nm_r (nI_1 i) ?_)⟩
        rw [hz2]
        exact ih (i + 1) (r + 1) (ok && decide (W[r]? = some y)) _ hy2 (by rw [hco]; congr 1; omega) (by omega) (by omega) (fun re' wa' a13' k1 k2 k3 => H _ _ _ k1 k2 (fun o ho hh => by rw [e o ho]; exact k3 _ (by rw [List.length_append, ho]; rfl) (rc_at_put hh hy4 rfl ho.symm)))
      refine br_c (fun hk => go130 0 (Or.inl rfl) ?_) (fun hk => ?_)
      · rw [rc_bi_0 hk]
        rfl
      · have hok := rc_bi_1 hk
        refine pk_le W.length r (fun hl => go130 0 (Or.inl rfl) ?_) (fun hl => ⟨pk_in r 12 (by omega), pk_in i 80 (by omega), ?_⟩) hW1
        · rw [hok, List.getElem?_eq_none hl]
          rfl
        · obtain ⟨w, w1, w2, w3⟩ := rc_at_get hW3 hl
          rw [Nat.zero_add] at w2
          refine pk_eq w y (fun hq => go130 1 (Or.inr rfl) ?_) (fun hq => go130 0 (Or.inl rfl) ?_) w2 rfl
          · rw [hok, w1, hq, decide_eq_true rfl]
            rfl
          · rw [hok, w1, decide_eq_false (fun z => hq (Option.some.inj z))]
            rfl
theorem rc_feed25 {post : St1 → Prop} {ru : Int32} {sz : Int32} {li : Int32} {re : Int32} {wa : Int32} {fo : Int32} {la : Int32} {a1 : Nat → Int32} {a2 : Nat → Int32} {a3 : Nat → Int32} {a4 : Nat → Int32} {a5 : Nat → Int32} {a6 : Nat → Int32} {a7 : Nat → Int32} {a13 : Nat → Int32} {a14 : Nat → Int64} {a15 : Nat → Int32} {a16 : Nat → Int64} {a17 : Nat → Int32} {a18 : Nat → Int32} {x1 : Int32} {x k r : Nat} {ok : Bool} {A : Nat → Nat} {W : List Nat} {M : rc_M} (hC : rc_C k A W sz li a1 a2 a3 a4 a5 a6 a7) (e1 : x1 = nI x) (hx : x ≤ 4) (hM : rc_vM k M) (hr : re = nI r) (hr12 : r ≤ 12) (hok : wa = rc_bi ok)
    (H : ∀ (co' : Int32) (go' : Int32) (re' : Int32) (wa' : Int32) (a8' : Nat → Int32) (a9' : Nat → Int32) (a10' : Nat → Int32) (a11' : Nat → Int32) (a12' : Nat → Int32) (a13' : Nat → Int32), re' = nI (rc_st (rc_tA k A a1 a2 a3 a4 a5) W (M, (r, ok)) x).2.1 → wa' = rc_bi (rc_st (rc_tA k A a1 a2 a3 a4 a5) W (M, (r, ok)) x).2.2 → rc_mm k (rc_st (rc_tA k A a1 a2 a3 a4 a5) W (M, (r, ok)) x).1 a8' a9' a10' → (∀ o : List Nat, o.length = r → rc_at a13 0 o → rc_at a13' 0 (rc_eo (rc_tA k A a1 a2 a3 a4 a5 x M).2 o)) → post (ru, sz, li, co', go', re', wa', fo, la, a1, a2, a3, a4, a5, a6, a7, a8', a9', a10', a11', a12', a13', a14, a15, a16, a17, a18)) :
    ∀ (d s : Nat) (co : Int32) (go : Int32) (a8 : Nat → Int32) (a9 : Nat → Int32) (a10 : Nat → Int32) (a11 : Nat → Int32) (a12 : Nat → Int32), s + d = k → rc_mm k (rc_fd (fun s => rc_rl a1 a2 a3 a4 a5 (A s)) (rc_ed x) M (rc_in x) s).1 a8 a9 a10 → co = nI (rc_fd (fun s => rc_rl a1 a2 a3 a4 a5 (A s)) (rc_ed x) M (rc_in x) s).2.length → rc_at a11 0 (rc_fd (fun s => rc_rl a1 a2 a3 a4 a5 (A s)) (rc_ed x) M (rc_in x) s).2 → wX_feed_25 post x1 (d + 1) (nI s) ru sz li co go re wa fo la a1 a2 a3 a4 a5 a6 a7 a8 a9 a10 a11 a12 a13 a14 a15 a16 a17 a18 := by
  obtain ⟨hli, hk5, hA, hK, hW⟩ := hC
  have hin := rc_in_l4 hx
  have hfd := rc_fd_ok (k := k) (R := fun s => rc_rl a1 a2 a3 a4 a5 (A s)) (e := rc_ed x) (M := M) (xs := rc_in x) (fun s _ => (hK (A s)).2.2.1.2) rc_ed_4 hM hin.1 hin.2
  intro d
  induction d with
  | zero =>
    intro s co go a8 a9 a10 a11 a12 hs hmm hco hat
    have hsk : s = k := by omega
    subst hsk
    have h12 := (hfd s (by omega)).2.2
    subst hr hok
    refine pk_le s s (fun _ => ⟨_, rc_feed56 hW _ 0 r ok a13 hat (by rw [Nat.zero_add]; exact hco) (by omega) hr12 (fun re' wa' a13' k1 k2 k3 => ?_)⟩) (fun z => absurd z (by omega)) hli
    exact H _ _ _ _ _ _ _ _ _ _ k1 k2 hmm k3
  | succ d ih =>
    intro s co go a8 a9 a10 a11 a12 hs hmm hco hat
    have hv := hfd s (by omega)
    have h12 := hv.2.2
    have ha := hA s (by omega)
    have go45 : ∀ z0 : Int32, ((z0 = 0 ∧ rc_ed x = []) ∨ (¬ z0 = 0 ∧ rc_ed x = [4])) → wX_feed_45 post (wX_feed_25 post x1 (d + 1)) x1 (nI s) z0 (nI s) ru sz li co go re wa fo la a1 a2 a3 a4 a5 a6 a7 a8 a9 a10 a11 a12 a13 a14 a15 a16 a17 a18 := by
      intro z0 hz
      refine rc_pass rfl (by omega) ha.1 ha.2 hK hz hat hco (by omega) (hmm s (by omega)) (hv.1.1 s) (fun go' a8' a9' a10' a11' a12' k1 k2 k3 => nm_r (nI_1 s) ?_)
      exact ih (s + 1) _ _ _ _ _ _ _ (by omega) (rc_mm_up hmm k3) k1 k2
    refine pk_le k s (fun z => absurd z (by omega)) (fun _ => pk_eq x 4 (fun h => go45 1 (Or.inr ⟨rc_10, if_pos h⟩)) (fun h => go45 0 (Or.inl ⟨rfl, if_neg h⟩)) e1) hli
theorem rc_feed {post : St1 → Prop} {ru sz li co go re wa fo la : Int32} {a1 a2 a3 a4 a5 a6 a7 a8 a9 a10 a11 a12 a13 : Nat → Int32} {a14 : Nat → Int64} {a15 : Nat → Int32} {a16 : Nat → Int64} {a17 a18 : Nat → Int32} {p0 : Int32} {x k r : Nat} {ok : Bool} {A : Nat → Nat} {W : List Nat} {M : rc_M} (hC : rc_C k A W sz li a1 a2 a3 a4 a5 a6 a7) (e0 : p0 = nI x) (hx : x ≤ 4) (hM : rc_vM k M) (hmm : rc_mm k M a8 a9 a10) (hr : re = nI r) (hr12 : r ≤ 12) (hok : wa = rc_bi ok)
    (H : ∀ (co' : Int32) (go' : Int32) (re' : Int32) (wa' : Int32) (a8' : Nat → Int32) (a9' : Nat → Int32) (a10' : Nat → Int32) (a11' : Nat → Int32) (a12' : Nat → Int32) (a13' : Nat → Int32), re' = nI (rc_st (rc_tA k A a1 a2 a3 a4 a5) W (M, (r, ok)) x).2.1 → wa' = rc_bi (rc_st (rc_tA k A a1 a2 a3 a4 a5) W (M, (r, ok)) x).2.2 → rc_mm k (rc_st (rc_tA k A a1 a2 a3 a4 a5) W (M, (r, ok)) x).1 a8' a9' a10' → (∀ o : List Nat, o.length = r → rc_at a13 0 o → rc_at a13' 0 (rc_eo (rc_tA k A a1 a2 a3 a4 a5 x M).2 o)) → post (ru, sz, li, co', go', re', wa', fo, la, a1, a2, a3, a4, a5, a6, a7, a8', a9', a10', a11', a12', a13', a14, a15, a16, a17, a18)) : wpX_feed post (ru, sz, li, co, go, re, wa, fo, la, a1, a2, a3, a4, a5, a6, a7, a8, a9, a10, a11, a12, a13, a14, a15, a16, a17, a18) p0 := by
  have F := rc_feed25 hC e0 hx hM hr hr12 hok H k 0
  refine pk_eq x 4 (fun h => ⟨k + 1, F 0 go a8 a9 a10 a11 a12 (by omega) hmm ?_ ?_⟩) (fun h => nm_e ⟨k + 1, F 1 go a8 a9 a10 _ a12 (by omega) hmm ?_ ?_⟩) e0
  · rw [show (rc_fd (fun s => rc_rl a1 a2 a3 a4 a5 (A s)) (rc_ed x) M (rc_in x) 0).2 = [] from if_pos h]
    rfl
  · rw [show (rc_fd (fun s => rc_rl a1 a2 a3 a4 a5 (A s)) (rc_ed x) M (rc_in x) 0).2 = [] from if_pos h]
    exact trivial
  · rw [show (rc_fd (fun s => rc_rl a1 a2 a3 a4 a5 (A s)) (rc_ed x) M (rc_in x) 0).2 = [x] from if_neg h]
    rfl
  · rw [show (rc_fd (fun s => rc_rl a1 a2 a3 a4 a5 (A s)) (rc_ed x) M (rc_in x) 0).2 = [x] from if_neg h, e0]
    exact ⟨by rw [pk_us]; exact rc_b8 x (by omega), by omega, trivial⟩
theorem rc_feed56z {post : St1 → Prop} {ru : Int32} {sz : Int32} {li : Int32} {co : Int32} {go : Int32} {fo : Int32} {la : Int32} {a1 : Nat → Int32} {a2 : Nat → Int32} {a3 : Nat → Int32} {a4 : Nat → Int32} {a5 : Nat → Int32} {a6 : Nat → Int32} {a7 : Nat → Int32} {a8 : Nat → Int32} {a9 : Nat → Int32} {a10 : Nat → Int32} {a11 : Nat → Int32} {a12 : Nat → Int32} {a14 : Nat → Int64} {a15 : Nat → Int32} {a16 : Nat → Int64} {a17 : Nat → Int32} {a18 : Nat → Int32} {W : List Nat} (hW : rc_wd W sz a6) : ∀ (ys : List Nat) (i r : Nat) (ok : Bool) (a13 : Nat → Int32), rc_at a11 i ys → co = nI (i + ys.length) → i + ys.length ≤ 80 → r ≤ 12 →
    (∀ (re' : Int32) (wa' : Int32) (a13' : Nat → Int32), re' = nI (rc_em W ys (r, ok)).1 → wa' = rc_bi (rc_em W ys (r, ok)).2 → (∀ o : List Nat, o.length = r → rc_at a13 0 o → rc_at a13' 0 (rc_eo ys o)) → post (ru, sz, li, co, go, re', wa', fo, la, a1, a2, a3, a4, a5, a6, a7, a8, a9, a10, a11, a12, a13', a14, a15, a16, a17, a18)) → wX_feed_2_56 post ru sz li co go fo la (ys.length + 1) (nI i) (nI r) (rc_bi ok) a1 a2 a3 a4 a5 a6 a7 a8 a9 a10 a11 a12 a13 a14 a15 a16 a17 a18 := by
  obtain ⟨hW1, hW2, hW3⟩ := hW
  intro ys
  induction ys with
  | nil =>
    intro i r ok a13 _ hco h80 h12 H
    exact pk_le i i (fun _ => H _ _ a13 rfl rfl (fun o _ h => h)) (fun z => absurd z (by omega)) hco
  | cons y ys ih =>
    intro i r ok a13 hy hco h80 h12 H
    rw [List.length_cons] at hco h80
    obtain ⟨hy1, hy4, hy2⟩ := hy
    refine pk_le (i + (ys.length + 1)) i (fun z => absurd z (by omega)) (fun _ => pk_le 12 r (fun h => nm_r (nI_1 i) ?_) (fun h => ⟨pk_in i 80 (by omega), pk_in r 12 (by omega), nm_e ?_⟩)) hco
    · have e : ∀ o : List Nat, o.length = r → rc_eo (y :: ys) o = rc_eo ys o := by
        intro o ho
        show rc_eo ys (if 12 ≤ o.length then o else o ++ [y]) = rc_eo ys o
        rw [if_pos (by omega)]
      have e2 : rc_em W (y :: ys) (r, ok) = rc_em W ys (r, ok) := by
        show rc_em W ys (if 12 ≤ r then (r, ok) else _) = _
        rw [if_pos h]
      rw [e2] at H
      exact ih (i + 1) r ok a13 hy2 (by rw [hco]; congr 1; omega) (by omega) h12 (fun re' wa' a13' k1 k2 k3 => H _ _ _ k1 k2 (fun o ho hh => by rw [e o ho]; exact k3 o ho hh))
    · rw [nI_clamp (show i < 2 ^ 31 by omega), nI_clamp (show r < 2 ^ 31 by omega), hy1, rc_nb8 (show y < 128 by omega)]
      have e : ∀ o : List Nat, o.length = r → rc_eo (y :: ys) o = rc_eo ys (o ++ [y]) := by
        intro o ho
        show rc_eo ys (if 12 ≤ o.length then o else o ++ [y]) = _
        rw [if_neg (by omega)]
      have e2 : rc_em W (y :: ys) (r, ok) = rc_em W ys (r + 1, ok && decide (W[r]? = some y)) := by
        show rc_em W ys (if 12 ≤ r then (r, ok) else _) = _
        rw [if_neg (by omega)]
      rw [e2] at H
      have go130 : ∀ z0 : Int32, (z0 = 0 ∨ z0 = 1) → z0 = rc_bi (ok && decide (W[r]? = some y)) → wX_feed_2_130 post (wX_feed_2_56 post ru sz li co go fo la (ys.length + 1)) (nI i) z0 ru sz li co go (nI r) (rc_bi ok) fo la a1 a2 a3 a4 a5 a6 a7 a8 a9 a10 a11 a12 (upd a13 r (nI y)) a14 a15 a16 a17 a18 := by
        intro z0 hz hz2
        have hn : narrow .boolean (.int z0) = .int z0 ∧ fits .boolean (.int z0) = true := by
          rcases hz with h | h
          · rw [h]
            exact ⟨rfl, rfl⟩
          · rw [h]
            exact ⟨rfl, rfl⟩
        refine ⟨hn.1, hn.2, nm_r (nI_1 r) (nm_r (nI_1 i) ?_)⟩
        rw [hz2]
        exact ih (i + 1) (r + 1) (ok && decide (W[r]? = some y)) _ hy2 (by rw [hco]; congr 1; omega) (by omega) (by omega) (fun re' wa' a13' k1 k2 k3 => H _ _ _ k1 k2 (fun o ho hh => by rw [e o ho]; exact k3 _ (by rw [List.length_append, ho]; rfl) (rc_at_put hh hy4 rfl ho.symm)))
      refine br_c (fun hk => go130 0 (Or.inl rfl) ?_) (fun hk => ?_)
      · rw [rc_bi_0 hk]
        rfl
      · have hok := rc_bi_1 hk
        refine pk_le W.length r (fun hl => go130 0 (Or.inl rfl) ?_) (fun hl => ⟨pk_in r 12 (by omega), pk_in i 80 (by omega), ?_⟩) hW1
        · rw [hok, List.getElem?_eq_none hl]
          rfl
        · obtain ⟨w, w1, w2, w3⟩ := rc_at_get hW3 hl
          rw [Nat.zero_add] at w2
          refine pk_eq w y (fun hq => go130 1 (Or.inr rfl) ?_) (fun hq => go130 0 (Or.inl rfl) ?_) w2 rfl
          · rw [hok, w1, hq, decide_eq_true rfl]
            rfl
          · rw [hok, w1, decide_eq_false (fun z => hq (Option.some.inj z))]
            rfl
theorem rc_feed25z {post : St1 → Prop} {ru : Int32} {sz : Int32} {li : Int32} {re : Int32} {wa : Int32} {fo : Int32} {la : Int32} {a1 : Nat → Int32} {a2 : Nat → Int32} {a3 : Nat → Int32} {a4 : Nat → Int32} {a5 : Nat → Int32} {a6 : Nat → Int32} {a7 : Nat → Int32} {a13 : Nat → Int32} {a14 : Nat → Int64} {a15 : Nat → Int32} {a16 : Nat → Int64} {a17 : Nat → Int32} {a18 : Nat → Int32} {x1 : Int32} {x k r : Nat} {ok : Bool} {A : Nat → Nat} {W : List Nat} {M : rc_M} (hC : rc_C k A W sz li a1 a2 a3 a4 a5 a6 a7) (e1 : x1 = nI x) (hx : x ≤ 4) (hM : rc_vM k M) (hr : re = nI r) (hr12 : r ≤ 12) (hok : wa = rc_bi ok)
    (H : ∀ (co' : Int32) (go' : Int32) (re' : Int32) (wa' : Int32) (a8' : Nat → Int32) (a9' : Nat → Int32) (a10' : Nat → Int32) (a11' : Nat → Int32) (a12' : Nat → Int32) (a13' : Nat → Int32), re' = nI (rc_st (rc_tA k A a1 a2 a3 a4 a5) W (M, (r, ok)) x).2.1 → wa' = rc_bi (rc_st (rc_tA k A a1 a2 a3 a4 a5) W (M, (r, ok)) x).2.2 → rc_mm k (rc_st (rc_tA k A a1 a2 a3 a4 a5) W (M, (r, ok)) x).1 a8' a9' a10' → (∀ o : List Nat, o.length = r → rc_at a13 0 o → rc_at a13' 0 (rc_eo (rc_tA k A a1 a2 a3 a4 a5 x M).2 o)) → post (ru, sz, li, co', go', re', wa', fo, la, a1, a2, a3, a4, a5, a6, a7, a8', a9', a10', a11', a12', a13', a14, a15, a16, a17, a18)) :
    ∀ (d s : Nat) (co : Int32) (go : Int32) (a8 : Nat → Int32) (a9 : Nat → Int32) (a10 : Nat → Int32) (a11 : Nat → Int32) (a12 : Nat → Int32), s + d = k → rc_mm k (rc_fd (fun s => rc_rl a1 a2 a3 a4 a5 (A s)) (rc_ed x) M (rc_in x) s).1 a8 a9 a10 → co = nI (rc_fd (fun s => rc_rl a1 a2 a3 a4 a5 (A s)) (rc_ed x) M (rc_in x) s).2.length → rc_at a11 0 (rc_fd (fun s => rc_rl a1 a2 a3 a4 a5 (A s)) (rc_ed x) M (rc_in x) s).2 → wX_feed_2_25 post x1 (d + 1) (nI s) ru sz li co go re wa fo la a1 a2 a3 a4 a5 a6 a7 a8 a9 a10 a11 a12 a13 a14 a15 a16 a17 a18 := by
  obtain ⟨hli, hk5, hA, hK, hW⟩ := hC
  have hin := rc_in_l4 hx
  have hfd := rc_fd_ok (k := k) (R := fun s => rc_rl a1 a2 a3 a4 a5 (A s)) (e := rc_ed x) (M := M) (xs := rc_in x) (fun s _ => (hK (A s)).2.2.1.2) rc_ed_4 hM hin.1 hin.2
  intro d
  induction d with
  | zero =>
    intro s co go a8 a9 a10 a11 a12 hs hmm hco hat
    have hsk : s = k := by omega
    subst hsk
    have h12 := (hfd s (by omega)).2.2
    subst hr hok
    refine pk_le s s (fun _ => ⟨_, rc_feed56z hW _ 0 r ok a13 hat (by rw [Nat.zero_add]; exact hco) (by omega) hr12 (fun re' wa' a13' k1 k2 k3 => ?_)⟩) (fun z => absurd z (by omega)) hli
    exact H _ _ _ _ _ _ _ _ _ _ k1 k2 hmm k3
  | succ d ih =>
    intro s co go a8 a9 a10 a11 a12 hs hmm hco hat
    have hv := hfd s (by omega)
    have h12 := hv.2.2
    have ha := hA s (by omega)
    have go45 : ∀ z0 : Int32, ((z0 = 0 ∧ rc_ed x = []) ∨ (¬ z0 = 0 ∧ rc_ed x = [4])) → wX_feed_2_45 post (wX_feed_2_25 post x1 (d + 1)) x1 (nI s) z0 (nI s) ru sz li co go re wa fo la a1 a2 a3 a4 a5 a6 a7 a8 a9 a10 a11 a12 a13 a14 a15 a16 a17 a18 := by
      intro z0 hz
      refine rc_passz rfl (by omega) ha.1 ha.2 hK hz hat hco (by omega) (hmm s (by omega)) (hv.1.1 s) (fun go' a8' a9' a10' a11' a12' k1 k2 k3 => nm_r (nI_1 s) ?_)
      exact ih (s + 1) _ _ _ _ _ _ _ (by omega) (rc_mm_up hmm k3) k1 k2
    refine pk_le k s (fun z => absurd z (by omega)) (fun _ => pk_eq x 4 (fun h => go45 1 (Or.inr ⟨rc_10, if_pos h⟩)) (fun h => go45 0 (Or.inl ⟨rfl, if_neg h⟩)) e1) hli
theorem rc_feedz {post : St1 → Prop} {ru sz li co go re wa fo la : Int32} {a1 a2 a3 a4 a5 a6 a7 a8 a9 a10 a11 a12 a13 : Nat → Int32} {a14 : Nat → Int64} {a15 : Nat → Int32} {a16 : Nat → Int64} {a17 a18 : Nat → Int32} {p0 : Int32} {x k r : Nat} {ok : Bool} {A : Nat → Nat} {W : List Nat} {M : rc_M} (hC : rc_C k A W sz li a1 a2 a3 a4 a5 a6 a7) (e0 : p0 = nI x) (hx : x ≤ 4) (hM : rc_vM k M) (hmm : rc_mm k M a8 a9 a10) (hr : re = nI r) (hr12 : r ≤ 12) (hok : wa = rc_bi ok)
    (H : ∀ (co' : Int32) (go' : Int32) (re' : Int32) (wa' : Int32) (a8' : Nat → Int32) (a9' : Nat → Int32) (a10' : Nat → Int32) (a11' : Nat → Int32) (a12' : Nat → Int32) (a13' : Nat → Int32), re' = nI (rc_st (rc_tA k A a1 a2 a3 a4 a5) W (M, (r, ok)) x).2.1 → wa' = rc_bi (rc_st (rc_tA k A a1 a2 a3 a4 a5) W (M, (r, ok)) x).2.2 → rc_mm k (rc_st (rc_tA k A a1 a2 a3 a4 a5) W (M, (r, ok)) x).1 a8' a9' a10' → (∀ o : List Nat, o.length = r → rc_at a13 0 o → rc_at a13' 0 (rc_eo (rc_tA k A a1 a2 a3 a4 a5 x M).2 o)) → post (ru, sz, li, co', go', re', wa', fo, la, a1, a2, a3, a4, a5, a6, a7, a8', a9', a10', a11', a12', a13', a14, a15, a16, a17, a18)) : wpX_feed_2 post (ru, sz, li, co, go, re, wa, fo, la, a1, a2, a3, a4, a5, a6, a7, a8, a9, a10, a11, a12, a13, a14, a15, a16, a17, a18) p0 := by
  have F := rc_feed25z hC e0 hx hM hr hr12 hok H k 0
  refine pk_eq x 4 (fun h => ⟨k + 1, F 0 go a8 a9 a10 a11 a12 (by omega) hmm ?_ ?_⟩) (fun h => nm_e ⟨k + 1, F 1 go a8 a9 a10 _ a12 (by omega) hmm ?_ ?_⟩) e0
  · rw [show (rc_fd (fun s => rc_rl a1 a2 a3 a4 a5 (A s)) (rc_ed x) M (rc_in x) 0).2 = [] from if_pos h]
    rfl
  · rw [show (rc_fd (fun s => rc_rl a1 a2 a3 a4 a5 (A s)) (rc_ed x) M (rc_in x) 0).2 = [] from if_pos h]
    exact trivial
  · rw [show (rc_fd (fun s => rc_rl a1 a2 a3 a4 a5 (A s)) (rc_ed x) M (rc_in x) 0).2 = [x] from if_neg h]
    rfl
  · rw [show (rc_fd (fun s => rc_rl a1 a2 a3 a4 a5 (A s)) (rc_ed x) M (rc_in x) 0).2 = [x] from if_neg h, e0]
    exact ⟨by rw [pk_us]; exact rc_b8 x (by omega), by omega, trivial⟩
end
section
/-! runs -/
theorem rc_em_len (W ys : List Nat) : ∀ (o : List Nat) (ok : Bool), (rc_em W ys (o.length, ok)).1 = (rc_eo ys o).length := by
  induction ys with
  | nil => intro o ok; rfl
  | cons y ys ih =>
    intro o ok
    show (rc_em W ys (if 12 ≤ o.length then (o.length, ok) else (o.length + 1, ok && decide (W[o.length]? = some y)))).1 = (rc_eo ys (if 12 ≤ o.length then o else o ++ [y])).length
    by_cases h : 12 ≤ o.length
    · rw [if_pos h, if_pos h]
      exact ih o ok
    · rw [if_neg h, if_neg h, ← ih (o ++ [y]) (ok && decide (W[o.length]? = some y)), List.length_append, List.length_cons, List.length_nil]
theorem rc_mm_le {j k : Nat} {M : rc_M} {a8 a9 a10 : Nat → Int32} (h : rc_mm k M a8 a9 a10) (hj : j ≤ k) : rc_mm j M a8 a9 a10 := fun s hs => h s (by omega)
theorem rc_use7 {post : St1 → Prop} {ru : Int32} {sz : Int32} {li : Int32} {co : Int32} {go : Int32} {re : Int32} {wa : Int32} {fo : Int32} {la : Int32} {a1 : Nat → Int32} {a2 : Nat → Int32} {a3 : Nat → Int32} {a4 : Nat → Int32} {a5 : Nat → Int32} {a6 : Nat → Int32} {a8 : Nat → Int32} {a9 : Nat → Int32} {a10 : Nat → Int32} {a11 : Nat → Int32} {a12 : Nat → Int32} {a13 : Nat → Int32} {a14 : Nat → Int64} {a15 : Nat → Int32} {a16 : Nat → Int64} {a17 : Nat → Int32} {a18 : Nat → Int32} {x1 : Int32} {k : Nat} (e1 : x1 = nI k) (hk : k ≤ 5) (H : ∀ (a7' : Nat → Int32), (∀ j, j < k → a7' j = nI j) → post (ru, sz, li, co, go, re, wa, fo, la, a1, a2, a3, a4, a5, a6, a7', a8, a9, a10, a11, a12, a13, a14, a15, a16, a17, a18)) : ∀ (d s : Nat) (a7 : Nat → Int32), s + d = k → (∀ j, j < s → a7 j = nI j) → wX_useFirst_7 post x1 ru sz li co go re wa fo la (d + 1) (nI s) a1 a2 a3 a4 a5 a6 a7 a8 a9 a10 a11 a12 a13 a14 a15 a16 a17 a18 := by
  intro d
  induction d with
  | zero =>
    intro s a7 hs h
    have hsk : s = k := by omega
    subst hsk
    exact pk_le s s (fun _ => H a7 h) (fun z => absurd z (by omega)) e1
  | succ d ih =>
    intro s a7 hs h
    refine pk_le k s (fun z => absurd z (by omega)) (fun _ => ⟨pk_in s 5 (by omega), nm_e (nm_r (nI_1 s) (ih (s + 1) _ (by omega) (fun j hj => ?_)))⟩) e1
    rw [nI_clamp (show s < 2 ^ 31 by omega), rc_b8 s (by omega)]
    by_cases e : j = s
    · rw [e, pk_us]
    · rw [pk_un e]
      exact h j (by omega)
theorem rc_use {post : St1 → Prop} {ru sz li co go re wa fo la : Int32} {a1 a2 a3 a4 a5 a6 a7 a8 a9 a10 a11 a12 a13 : Nat → Int32} {a14 : Nat → Int64} {a15 : Nat → Int32} {a16 : Nat → Int64} {a17 a18 : Nat → Int32} {p0 : Int32} {k : Nat} (e0 : p0 = nI k) (hk : k ≤ 5) (H : ∀ (a7' : Nat → Int32), (∀ j, j < k → a7' j = nI j) → post (ru, sz, p0, co, go, re, wa, fo, la, a1, a2, a3, a4, a5, a6, a7', a8, a9, a10, a11, a12, a13, a14, a15, a16, a17, a18)) : wpX_useFirst post (ru, sz, li, co, go, re, wa, fo, la, a1, a2, a3, a4, a5, a6, a7, a8, a9, a10, a11, a12, a13, a14, a15, a16, a17, a18) p0 :=
  ⟨k + 1, rc_use7 e0 hk H k 0 a7 (by omega) (fun j hj => absurd hj (by omega))⟩
theorem rc_beg2 {post : St1 → Prop} {ru : Int32} {sz : Int32} {li : Int32} {co : Int32} {go : Int32} {re : Int32} {wa : Int32} {fo : Int32} {la : Int32} {a1 : Nat → Int32} {a2 : Nat → Int32} {a3 : Nat → Int32} {a4 : Nat → Int32} {a5 : Nat → Int32} {a6 : Nat → Int32} {a7 : Nat → Int32} {a11 : Nat → Int32} {a12 : Nat → Int32} {a13 : Nat → Int32} {a14 : Nat → Int64} {a15 : Nat → Int32} {a16 : Nat → Int64} {a17 : Nat → Int32} {a18 : Nat → Int32} (H : ∀ (a8' : Nat → Int32) (a9' : Nat → Int32) (a10' : Nat → Int32), rc_mm 5 rc_M0 a8' a9' a10' → post (ru, sz, li, co, go, 0, 1, fo, la, a1, a2, a3, a4, a5, a6, a7, a8', a9', a10', a11, a12, a13, a14, a15, a16, a17, a18)) : ∀ (d s : Nat) (a8 : Nat → Int32) (a9 : Nat → Int32) (a10 : Nat → Int32), s + d = 5 → rc_mm s rc_M0 a8 a9 a10 → wX_begin_2 post ru sz li co go re wa fo la (d + 1) (nI s) a1 a2 a3 a4 a5 a6 a7 a8 a9 a10 a11 a12 a13 a14 a15 a16 a17 a18 := by
  intro d
  induction d with
  | zero =>
    intro s a8 a9 a10 hs h
    have hsk : s = 5 := by omega
    subst hsk
    exact pk_le 5 5 (fun _ => H a8 a9 a10 h) (fun z => absurd z (by omega))
  | succ d ih =>
    intro s a8 a9 a10 hs h
    refine pk_le 5 s (fun z => absurd z (by omega)) (fun _ => ⟨pk_in s 5 (by omega), nm_e ⟨pk_in s 5 (by omega), nm_e ⟨pk_in s 5 (by omega), nm_e (nm_r (nI_1 s) (ih (s + 1) _ _ _ (by omega) (fun j hj => ?_)))⟩⟩⟩)
    rw [nI_clamp (show s < 2 ^ 31 by omega)]
    by_cases e : j = s
    · subst e
      exact ⟨by rw [pk_us]; rfl, by rw [pk_us]; rfl, by rw [pk_us]; rfl⟩
    · have hh := h j (by omega)
      exact ⟨by rw [pk_un e]; exact hh.1, by rw [pk_un e]; exact hh.2.1, by rw [pk_un e]; exact hh.2.2⟩
theorem rc_beg {post : St1 → Prop} {ru sz li co go re wa fo la : Int32} {a1 a2 a3 a4 a5 a6 a7 a8 a9 a10 a11 a12 a13 : Nat → Int32} {a14 : Nat → Int64} {a15 : Nat → Int32} {a16 : Nat → Int64} {a17 a18 : Nat → Int32} (H : ∀ (a8' : Nat → Int32) (a9' : Nat → Int32) (a10' : Nat → Int32), rc_mm 5 rc_M0 a8' a9' a10' → post (ru, sz, li, co, go, 0, 1, fo, la, a1, a2, a3, a4, a5, a6, a7, a8', a9', a10', a11, a12, a13, a14, a15, a16, a17, a18)) : wpX_begin post (ru, sz, li, co, go, re, wa, fo, la, a1, a2, a3, a4, a5, a6, a7, a8, a9, a10, a11, a12, a13, a14, a15, a16, a17, a18) :=
  ⟨6, rc_beg2 H 5 0 a8 a9 a10 (by omega) (fun j hj => absurd hj (by omega))⟩
theorem rc_feedO {post : St1 → Prop} {ru sz li co go re wa fo la : Int32} {a1 a2 a3 a4 a5 a6 a7 a8 a9 a10 a11 a12 a13 : Nat → Int32} {a14 : Nat → Int64} {a15 : Nat → Int32} {a16 : Nat → Int64} {a17 a18 : Nat → Int32} {p0 : Int32} {x k : Nat} {ok : Bool} {A : Nat → Nat} {W o : List Nat} {M : rc_M} (hC : rc_C k A W sz li a1 a2 a3 a4 a5 a6 a7) (e0 : p0 = nI x) (hx : x ≤ 4) (hM : rc_vM k M) (hmm : rc_mm k M a8 a9 a10) (hr : re = nI o.length) (hr12 : o.length ≤ 12) (ho : rc_at a13 0 o) (hok : wa = rc_bi ok)
    (H : ∀ (ok' : Bool) (co' : Int32) (go' : Int32) (re' : Int32) (wa' : Int32) (a8' : Nat → Int32) (a9' : Nat → Int32) (a10' : Nat → Int32) (a11' : Nat → Int32) (a12' : Nat → Int32) (a13' : Nat → Int32), re' = nI (rc_eo (rc_tA k A a1 a2 a3 a4 a5 x M).2 o).length → wa' = rc_bi ok' → rc_mm k (rc_tA k A a1 a2 a3 a4 a5 x M).1 a8' a9' a10' → rc_at a13' 0 (rc_eo (rc_tA k A a1 a2 a3 a4 a5 x M).2 o) → post (ru, sz, li, co', go', re', wa', fo, la, a1, a2, a3, a4, a5, a6, a7, a8', a9', a10', a11', a12', a13', a14, a15, a16, a17, a18)) : wpX_feed post (ru, sz, li, co, go, re, wa, fo, la, a1, a2, a3, a4, a5, a6, a7, a8, a9, a10, a11, a12, a13, a14, a15, a16, a17, a18) p0 :=
  rc_feed hC e0 hx hM hmm hr hr12 hok (fun co' go' re' wa' a8' a9' a10' a11' a12' a13' k1 k2 k3 k4 => H _ _ _ _ _ _ _ _ _ _ _ (k1.trans (congrArg nI (rc_em_len W _ o ok))) k2 k3 (k4 o rfl ho))
theorem rc_beg2z {post : St1 → Prop} {ru : Int32} {sz : Int32} {li : Int32} {co : Int32} {go : Int32} {re : Int32} {wa : Int32} {fo : Int32} {la : Int32} {a1 : Nat → Int32} {a2 : Nat → Int32} {a3 : Nat → Int32} {a4 : Nat → Int32} {a5 : Nat → Int32} {a6 : Nat → Int32} {a7 : Nat → Int32} {a11 : Nat → Int32} {a12 : Nat → Int32} {a13 : Nat → Int32} {a14 : Nat → Int64} {a15 : Nat → Int32} {a16 : Nat → Int64} {a17 : Nat → Int32} {a18 : Nat → Int32} (H : ∀ (a8' : Nat → Int32) (a9' : Nat → Int32) (a10' : Nat → Int32), rc_mm 5 rc_M0 a8' a9' a10' → post (ru, sz, li, co, go, 0, 1, fo, la, a1, a2, a3, a4, a5, a6, a7, a8', a9', a10', a11, a12, a13, a14, a15, a16, a17, a18)) : ∀ (d s : Nat) (a8 : Nat → Int32) (a9 : Nat → Int32) (a10 : Nat → Int32), s + d = 5 → rc_mm s rc_M0 a8 a9 a10 → wX_begin_2_2 post ru sz li co go re wa fo la (d + 1) (nI s) a1 a2 a3 a4 a5 a6 a7 a8 a9 a10 a11 a12 a13 a14 a15 a16 a17 a18 := by
  intro d
  induction d with
  | zero =>
    intro s a8 a9 a10 hs h
    have hsk : s = 5 := by omega
    subst hsk
    exact pk_le 5 5 (fun _ => H a8 a9 a10 h) (fun z => absurd z (by omega))
  | succ d ih =>
    intro s a8 a9 a10 hs h
    refine pk_le 5 s (fun z => absurd z (by omega)) (fun _ => ⟨pk_in s 5 (by omega), nm_e ⟨pk_in s 5 (by omega), nm_e ⟨pk_in s 5 (by omega), nm_e (nm_r (nI_1 s) (ih (s + 1) _ _ _ (by omega) (fun j hj => ?_)))⟩⟩⟩)
    rw [nI_clamp (show s < 2 ^ 31 by omega)]
    by_cases e : j = s
    · subst e
      exact ⟨by rw [pk_us]; rfl, by rw [pk_us]; rfl, by rw [pk_us]; rfl⟩
    · have hh := h j (by omega)
      exact ⟨by rw [pk_un e]; exact hh.1, by rw [pk_un e]; exact hh.2.1, by rw [pk_un e]; exact hh.2.2⟩
theorem rc_begz {post : St1 → Prop} {ru sz li co go re wa fo la : Int32} {a1 a2 a3 a4 a5 a6 a7 a8 a9 a10 a11 a12 a13 : Nat → Int32} {a14 : Nat → Int64} {a15 : Nat → Int32} {a16 : Nat → Int64} {a17 a18 : Nat → Int32} (H : ∀ (a8' : Nat → Int32) (a9' : Nat → Int32) (a10' : Nat → Int32), rc_mm 5 rc_M0 a8' a9' a10' → post (ru, sz, li, co, go, 0, 1, fo, la, a1, a2, a3, a4, a5, a6, a7, a8', a9', a10', a11, a12, a13, a14, a15, a16, a17, a18)) : wpX_begin_2 post (ru, sz, li, co, go, re, wa, fo, la, a1, a2, a3, a4, a5, a6, a7, a8, a9, a10, a11, a12, a13, a14, a15, a16, a17, a18) :=
  ⟨6, rc_beg2z H 5 0 a8 a9 a10 (by omega) (fun j hj => absurd hj (by omega))⟩
theorem rc_feedOz {post : St1 → Prop} {ru sz li co go re wa fo la : Int32} {a1 a2 a3 a4 a5 a6 a7 a8 a9 a10 a11 a12 a13 : Nat → Int32} {a14 : Nat → Int64} {a15 : Nat → Int32} {a16 : Nat → Int64} {a17 a18 : Nat → Int32} {p0 : Int32} {x k : Nat} {ok : Bool} {A : Nat → Nat} {W o : List Nat} {M : rc_M} (hC : rc_C k A W sz li a1 a2 a3 a4 a5 a6 a7) (e0 : p0 = nI x) (hx : x ≤ 4) (hM : rc_vM k M) (hmm : rc_mm k M a8 a9 a10) (hr : re = nI o.length) (hr12 : o.length ≤ 12) (ho : rc_at a13 0 o) (hok : wa = rc_bi ok)
    (H : ∀ (ok' : Bool) (co' : Int32) (go' : Int32) (re' : Int32) (wa' : Int32) (a8' : Nat → Int32) (a9' : Nat → Int32) (a10' : Nat → Int32) (a11' : Nat → Int32) (a12' : Nat → Int32) (a13' : Nat → Int32), re' = nI (rc_eo (rc_tA k A a1 a2 a3 a4 a5 x M).2 o).length → wa' = rc_bi ok' → rc_mm k (rc_tA k A a1 a2 a3 a4 a5 x M).1 a8' a9' a10' → rc_at a13' 0 (rc_eo (rc_tA k A a1 a2 a3 a4 a5 x M).2 o) → post (ru, sz, li, co', go', re', wa', fo, la, a1, a2, a3, a4, a5, a6, a7, a8', a9', a10', a11', a12', a13', a14, a15, a16, a17, a18)) : wpX_feed_2 post (ru, sz, li, co, go, re, wa, fo, la, a1, a2, a3, a4, a5, a6, a7, a8, a9, a10, a11, a12, a13, a14, a15, a16, a17, a18) p0 :=
  rc_feedz hC e0 hx hM hmm hr hr12 hok (fun co' go' re' wa' a8' a9' a10' a11' a12' a13' k1 k2 k3 k4 => H _ _ _ _ _ _ _ _ _ _ _ (k1.trans (congrArg nI (rc_em_len W _ o ok))) k2 k3 (k4 o rfl ho))
/-- the machine of the first k rules -/
def rc_tk (k : Nat) (a1 a2 a3 a4 a5 : Nat → Int32) : rc_T := rc_tA k (fun s => s) a1 a2 a3 a4 a5
theorem rc_run11 {post : St1 → Prop} {ru : Int32} {sz : Int32} {li : Int32} {fo : Int32} {la : Int32} {a1 : Nat → Int32} {a2 : Nat → Int32} {a3 : Nat → Int32} {a4 : Nat → Int32} {a5 : Nat → Int32} {a6 : Nat → Int32} {a7 : Nat → Int32} {a14 : Nat → Int64} {a15 : Nat → Int32} {a16 : Nat → Int64} {a17 : Nat → Int32} {a18 : Nat → Int32} {k : Nat} {A : Nat → Nat} {W : List Nat} (hC : rc_C k A W sz li a1 a2 a3 a4 a5 a6 a7) : ∀ (xs : List Nat) (i : Nat) (M : rc_M) (o : List Nat) (ok : Bool) (co : Int32) (go : Int32) (re : Int32) (wa : Int32) (a8 : Nat → Int32) (a9 : Nat → Int32) (a10 : Nat → Int32) (a11 : Nat → Int32) (a12 : Nat → Int32) (a13 : Nat → Int32), rc_at a6 i xs → sz = nI (i + xs.length) → i + xs.length ≤ 12 → rc_vM k M → rc_mm k M a8 a9 a10 → re = nI o.length → o.length ≤ 12 → rc_at a13 0 o → wa = rc_bi ok →
    (∀ (co' : Int32) (go' : Int32) (re' : Int32) (wa' : Int32) (a8' : Nat → Int32) (a9' : Nat → Int32) (a10' : Nat → Int32) (a11' : Nat → Int32) (a12' : Nat → Int32) (a13' : Nat → Int32), re' = nI (rc_rn (rc_tA k A a1 a2 a3 a4 a5) (xs ++ [4]) (M, o)).2.length → rc_at a13' 0 (rc_rn (rc_tA k A a1 a2 a3 a4 a5) (xs ++ [4]) (M, o)).2 → post (ru, sz, li, co', go', re', wa', fo, la, a1, a2, a3, a4, a5, a6, a7, a8', a9', a10', a11', a12', a13', a14, a15, a16, a17, a18)) → wX_runWord_11 post (xs.length + 1) (nI i) ru sz li co go re wa fo la a1 a2 a3 a4 a5 a6 a7 a8 a9 a10 a11 a12 a13 a14 a15 a16 a17 a18 := by
  have hT := rc_tA_v (k := k) (A := A) hC.2.2.2.1
  intro xs
  induction xs with
  | nil =>
    intro i M o ok co go re wa a8 a9 a10 a11 a12 a13 hx hsz h12 hM hmm hr hr12 ho hok H
    exact pk_le i i (fun _ => rc_feedO (x := 4) hC rfl (by omega) hM hmm hr hr12 ho hok (fun ok' co' go' re' wa' a8' a9' a10' a11' a12' a13' k1 k2 k3 k4 => H _ _ _ _ _ _ _ _ _ _ k1 k4)) (fun z => absurd z (by omega)) hsz
  | cons x xs ih =>
    intro i M o ok co go re wa a8 a9 a10 a11 a12 a13 hx hsz h12 hM hmm hr hr12 ho hok H
    rw [List.length_cons] at hsz h12
    obtain ⟨hx1, hx4, hx2⟩ := hx
    have hv := hT M x hM (by omega)
    refine pk_le (i + (xs.length + 1)) i (fun z => absurd z (by omega)) (fun _ => ⟨pk_in i 12 (by omega), ?_⟩) hsz
    rw [nI_clamp (show i < 2 ^ 31 by omega)]
    refine rc_feedO hC hx1 (by omega) hM hmm hr hr12 ho hok (fun ok' co' go' re' wa' a8' a9' a10' a11' a12' a13' k1 k2 k3 k4 => nm_r (nI_1 i) ?_)
    exact ih (i + 1) _ _ ok' _ _ _ _ _ _ _ _ _ _ hx2 (by rw [hsz]; congr 1; omega) (by omega) hv.1 k3 k1 (rc_eo_len _ hr12) k4 k2 H
theorem rc_run {post : St1 → Prop} {ru sz li co go re wa fo la : Int32} {a1 a2 a3 a4 a5 a6 a7 a8 a9 a10 a11 a12 a13 : Nat → Int32} {a14 : Nat → Int64} {a15 : Nat → Int32} {a16 : Nat → Int64} {a17 a18 : Nat → Int32} {p0 : Int32} {k : Nat} {W : List Nat} (e0 : p0 = nI k) (hk : k ≤ 5) (hK : rc_K a1 a2 a3 a4 a5) (hW : rc_wd W sz a6)
    (H : ∀ (li' : Int32) (a7' : Nat → Int32) (co' : Int32) (go' : Int32) (re' : Int32) (wa' : Int32) (a8' : Nat → Int32) (a9' : Nat → Int32) (a10' : Nat → Int32) (a11' : Nat → Int32) (a12' : Nat → Int32) (a13' : Nat → Int32), re' = nI (rc_F (rc_tk k a1 a2 a3 a4 a5) W).length → rc_at a13' 0 (rc_F (rc_tk k a1 a2 a3 a4 a5) W) → post (ru, sz, li', co', go', re', wa', fo, la, a1, a2, a3, a4, a5, a6, a7', a8', a9', a10', a11', a12', a13', a14, a15, a16, a17, a18)) : wpX_runWord post (ru, sz, li, co, go, re, wa, fo, la, a1, a2, a3, a4, a5, a6, a7, a8, a9, a10, a11, a12, a13, a14, a15, a16, a17, a18) p0 := by
  unfold wpX_runWord
  dsimp only
  refine rc_use e0 hk (fun a7' h7 => rc_beg (fun a8' a9' a10' hmm => ⟨W.length + 1, ?_⟩))
  have hC : rc_C k (fun s => s) W sz p0 a1 a2 a3 a4 a5 a6 a7' := ⟨e0, hk, fun s hs => ⟨h7 s hs, by show s < 5; omega⟩, hK, hW⟩
  exact rc_run11 hC W 0 rc_M0 [] true _ _ _ _ _ _ _ _ _ _ hW.2.2 (by rw [Nat.zero_add]; exact hW.1) (by have := hW.2.1; omega) (rc_vM0 k) (rc_mm_le hmm hk) rfl (by rw [List.length_nil]; omega) trivial rfl (fun co' go' re' wa' a8' a9' a10' a11' a12' a13' k1 k2 => H _ _ _ _ _ _ _ _ _ _ _ _ k1 k2)
theorem rc_code4 {post : Int32 → Prop} {ru sz li co go re wa fo la : Int32} {a1 a2 a3 a4 a5 a6 a7 a8 a9 a10 a11 a12 a13 : Nat → Int32} {a14 : Nat → Int64} {a15 : Nat → Int32} {a16 : Nat → Int64} {a17 a18 : Nat → Int32} : ∀ (ys : List Nat) (i c : Nat), rc_at a13 i ys → re = nI (i + ys.length) → i + ys.length ≤ 12 → post (nI (rc_cf ys c)) → wX_codeOfResult_4 post ru sz li co go re wa fo la a1 a2 a3 a4 a5 a6 a7 a8 a9 a10 a11 a12 a13 a14 a15 a16 a17 a18 (ys.length + 1) (nI c) (nI i) := by
  intro ys
  induction ys with
  | nil =>
    intro i c _ hr _ H
    exact pk_le i i (fun _ => H) (fun z => absurd z (by omega)) hr (hb := by have := Nat.lt_or_ge i (2 ^ 31); omega)
  | cons y ys ih =>
    intro i c hy hr h12 H
    rw [List.length_cons] at hr h12
    refine pk_le (i + (ys.length + 1)) i (fun z => absurd z (by omega)) (fun _ => ⟨pk_in i 12 (by omega), nm_r (e' := nI (4 * c + y)) ?_ (nm_r (nI_1 i) ?_)⟩) hr
    · rw [nI_clamp (show i < 2 ^ 31 by omega), hy.1, show (4 : Int32) = nI 4 from rfl, pk_mul, nI_add]
    · exact ih (i + 1) (4 * c + y) hy.2.2 (by rw [hr]; congr 1; omega) (by omega) H
theorem rc_code {post : Int32 → Prop} {ru sz li co go re wa fo la : Int32} {a1 a2 a3 a4 a5 a6 a7 a8 a9 a10 a11 a12 a13 : Nat → Int32} {a14 : Nat → Int64} {a15 : Nat → Int32} {a16 : Nat → Int64} {a17 a18 : Nat → Int32} {o : List Nat} (ho : rc_at a13 0 o) (hr : re = nI o.length) (h12 : o.length ≤ 12) (H : post (nI (rc_cd o))) : wpX_codeOfResult post (ru, sz, li, co, go, re, wa, fo, la, a1, a2, a3, a4, a5, a6, a7, a8, a9, a10, a11, a12, a13, a14, a15, a16, a17, a18) :=
  ⟨o.length + 1, rc_code4 o 0 1 ho (by rw [Nat.zero_add]; exact hr) (by omega) H⟩
/-- the rules and the word, between the law's calls -/
def rc_P (n : Nat) (W : List Nat) (ru sz : Int32) (a1 a2 a3 a4 a5 a6 : Nat → Int32) : Prop := ru = nI n ∧ n ≤ 5 ∧ rc_K a1 a2 a3 a4 a5 ∧ rc_wd W sz a6
theorem rc_tk_F {k : Nat} {a1 a2 a3 a4 a5 a6 : Nat → Int32} {sz : Int32} {W : List Nat} (hK : rc_K a1 a2 a3 a4 a5) (hW : rc_wd W sz a6) : rc_l4 (rc_F (rc_tk k a1 a2 a3 a4 a5) W) ∧ (rc_F (rc_tk k a1 a2 a3 a4 a5) W).length ≤ 12 :=
  rc_F_ok (rc_tA_v hK) (rc_at_l4 hW.2.2)
theorem rc_after {post : Int32 → St1 → Prop} {ru sz li co go re wa fo la : Int32} {a1 a2 a3 a4 a5 a6 a7 a8 a9 a10 a11 a12 a13 : Nat → Int32} {a14 : Nat → Int64} {a15 : Nat → Int32} {a16 : Nat → Int64} {a17 a18 : Nat → Int32} {p0 : Int32} {k n : Nat} {W : List Nat} (hP : rc_P n W ru sz a1 a2 a3 a4 a5 a6) (e0 : p0 = nI k) (hk : k ≤ n)
    (H : ∀ (li' : Int32) (a7' : Nat → Int32) (co' : Int32) (go' : Int32) (re' : Int32) (wa' : Int32) (a8' : Nat → Int32) (a9' : Nat → Int32) (a10' : Nat → Int32) (a11' : Nat → Int32) (a12' : Nat → Int32) (a13' : Nat → Int32), post (nI (rc_cd (rc_F (rc_tk k a1 a2 a3 a4 a5) W))) (ru, sz, li', co', go', re', wa', fo, la, a1, a2, a3, a4, a5, a6, a7', a8', a9', a10', a11', a12', a13', a14, a15, a16, a17, a18)) : wpX_after post (ru, sz, li, co, go, re, wa, fo, la, a1, a2, a3, a4, a5, a6, a7, a8, a9, a10, a11, a12, a13, a14, a15, a16, a17, a18) p0 := by
  obtain ⟨hru, hn, hK, hW⟩ := hP
  have hF := rc_tk_F (k := k) hK hW
  refine pk_lt k 0 (fun z => absurd z (by omega)) (fun _ => pk_le k n (fun _ => ?_) (fun z => absurd z (by omega)) e0 hru) e0
  refine rc_run e0 (by omega) hK hW (fun li' a7' co' go' re' wa' a8' a9' a10' a11' a12' a13' k1 k2 => rc_code k2 k1 hF.2 (H _ _ _ _ _ _ _ _ _ _ _ _))
theorem rc_after_bad {post : Int32 → St1 → Prop} {ru sz li co go re wa fo la : Int32} {a1 a2 a3 a4 a5 a6 a7 a8 a9 a10 a11 a12 a13 : Nat → Int32} {a14 : Nat → Int64} {a15 : Nat → Int32} {a16 : Nat → Int64} {a17 a18 : Nat → Int32} {p0 : Int32} {k n : Nat} {W : List Nat} (hP : rc_P n W ru sz a1 a2 a3 a4 a5 a6) (e0 : p0 = nI k) (hk : n < k) (hk2 : k ≤ 6)
    (H : post (-1) (ru, sz, li, co, go, re, wa, fo, la, a1, a2, a3, a4, a5, a6, a7, a8, a9, a10, a11, a12, a13, a14, a15, a16, a17, a18)) : wpX_after post (ru, sz, li, co, go, re, wa, fo, la, a1, a2, a3, a4, a5, a6, a7, a8, a9, a10, a11, a12, a13, a14, a15, a16, a17, a18) p0 := by
  obtain ⟨hru, hn, hK, hW⟩ := hP
  exact pk_lt k 0 (fun z => absurd z (by omega)) (fun _ => pk_le k n (fun z => absurd z (by omega)) (fun _ => H) e0 hru) e0
theorem rc_after0 {post : Int32 → St1 → Prop} {ru sz li co go re wa fo la : Int32} {a1 a2 a3 a4 a5 a6 a7 a8 a9 a10 a11 a12 a13 : Nat → Int32} {a14 : Nat → Int64} {a15 : Nat → Int32} {a16 : Nat → Int64} {a17 a18 : Nat → Int32} {n : Nat} {W : List Nat} (hP : rc_P n W ru sz a1 a2 a3 a4 a5 a6) (H : ∀ (li' : Int32) (a7' : Nat → Int32) (co' : Int32) (go' : Int32) (re' : Int32) (wa' : Int32) (a8' : Nat → Int32) (a9' : Nat → Int32) (a10' : Nat → Int32) (a11' : Nat → Int32) (a12' : Nat → Int32) (a13' : Nat → Int32), post (nI (rc_cd W)) (ru, sz, li', co', go', re', wa', fo, la, a1, a2, a3, a4, a5, a6, a7', a8', a9', a10', a11', a12', a13', a14, a15, a16, a17, a18)) : wpX_after post (ru, sz, li, co, go, re, wa, fo, la, a1, a2, a3, a4, a5, a6, a7, a8, a9, a10, a11, a12, a13, a14, a15, a16, a17, a18) 0 := by
  have e : rc_F (rc_tk 0 a1 a2 a3 a4 a5) W = W := rc_F_id (R := fun s => rc_rl a1 a2 a3 a4 a5 s) (rc_at_l4 hP.2.2.2.2.2) hP.2.2.2.2.1
  refine rc_after hP (show (0 : Int32) = nI 0 from rfl) (by omega) ?_
  rw [e]
  exact H
theorem rc_rules2 {post : Int32 → St1 → Prop} {ru : Int32} {sz : Int32} {fo : Int32} {la : Int32} {a1 : Nat → Int32} {a2 : Nat → Int32} {a3 : Nat → Int32} {a4 : Nat → Int32} {a5 : Nat → Int32} {a6 : Nat → Int32} {a14 : Nat → Int64} {a15 : Nat → Int32} {a16 : Nat → Int64} {a17 : Nat → Int32} {a18 : Nat → Int32} {n : Nat} {W : List Nat} (hP : rc_P n W ru sz a1 a2 a3 a4 a5 a6) (H : ∀ (li' : Int32) (a7' : Nat → Int32) (co' : Int32) (go' : Int32) (re' : Int32) (wa' : Int32) (a8' : Nat → Int32) (a9' : Nat → Int32) (a10' : Nat → Int32) (a11' : Nat → Int32) (a12' : Nat → Int32) (a13' : Nat → Int32), post (nI n) (ru, sz, li', co', go', re', wa', fo, la, a1, a2, a3, a4, a5, a6, a7', a8', a9', a10', a11', a12', a13', a14, a15, a16, a17, a18)) : ∀ (d i : Nat) (li : Int32) (a7 : Nat → Int32) (co : Int32) (go : Int32) (re : Int32) (wa : Int32) (a8 : Nat → Int32) (a9 : Nat → Int32) (a10 : Nat → Int32) (a11 : Nat → Int32) (a12 : Nat → Int32) (a13 : Nat → Int32), i + d = n → wL_rules_2 post (d + 1) (nI i) ru sz li co go re wa fo la a1 a2 a3 a4 a5 a6 a7 a8 a9 a10 a11 a12 a13 a14 a15 a16 a17 a18 := by
  have hn := hP.2.1
  intro d
  induction d with
  | zero =>
    intro i li a7 co go re wa a8 a9 a10 a11 a12 a13 hi
    have e : i = n := by omega
    subst e
    exact pk_le 5 i (fun _ => H _ _ _ _ _ _ _ _ _ _ _ _) (fun _ => rc_after_bad hP (nI_1 i) (by omega) (by omega) (br_t (by decide) (H _ _ _ _ _ _ _ _ _ _ _ _)))
  | succ d ih =>
    intro i li a7 co go re wa a8 a9 a10 a11 a12 a13 hi
    have hF := rc_tk_F (k := i + 1) hP.2.2.1 hP.2.2.2
    have hlt := rc_cd_lt hF.1 hF.2
    exact pk_le 5 i (fun z => absurd z (by omega)) (fun _ => rc_after hP (nI_1 i) (by omega) (fun li' a7' co' go' re' wa' a8' a9' a10' a11' a12' a13' => br_f (nI_pos (by omega)) (nm_r (nI_1 i) (ih (i + 1) _ _ _ _ _ _ _ _ _ _ _ _ (by omega)))))
theorem rc_rules {post : Int32 → St1 → Prop} {ru sz li co go re wa fo la : Int32} {a1 a2 a3 a4 a5 a6 a7 a8 a9 a10 a11 a12 a13 : Nat → Int32} {a14 : Nat → Int64} {a15 : Nat → Int32} {a16 : Nat → Int64} {a17 a18 : Nat → Int32} {n : Nat} {W : List Nat} (hP : rc_P n W ru sz a1 a2 a3 a4 a5 a6) (H : ∀ (li' : Int32) (a7' : Nat → Int32) (co' : Int32) (go' : Int32) (re' : Int32) (wa' : Int32) (a8' : Nat → Int32) (a9' : Nat → Int32) (a10' : Nat → Int32) (a11' : Nat → Int32) (a12' : Nat → Int32) (a13' : Nat → Int32), post (nI n) (ru, sz, li', co', go', re', wa', fo, la, a1, a2, a3, a4, a5, a6, a7', a8', a9', a10', a11', a12', a13', a14, a15, a16, a17, a18)) : wpL_rules post (ru, sz, li, co, go, re, wa, fo, la, a1, a2, a3, a4, a5, a6, a7, a8, a9, a10, a11, a12, a13, a14, a15, a16, a17, a18) :=
  ⟨n + 1, rc_rules2 hP H n 0 _ _ _ _ _ _ _ _ _ _ _ _ (by omega)⟩
/-! letters of a code -/
theorem rc_sh2 : ∀ j, j < 16 → (((2 * nI j) &&& 31).toBitVec.smod 32).toNat = 2 * j := by decide +kernel
theorem rc_let {n j : Nat} (hn : n < 2 ^ 31) (hj : j < 16) : ((nI n >>> ((2 * nI j) &&& 31)) &&& 3) = nI (n / 4 ^ j % 4) := by
  rw [pk_shrN hn _ (2 * j) (rc_sh2 j hj), Nat.pow_mul, show (2 : Nat) ^ 2 = 4 from rfl]
  exact pk_andN (k := 2) (Nat.lt_of_le_of_lt (Nat.div_le_self _ _) (by omega)) (by decide)
theorem rc_sh1 : ∀ j, j < 6 → ((1 : Int32) <<< ((2 * nI j) &&& 31)) = nI (4 ^ j) := by decide +kernel
theorem rc_md (m : Nat) : nI m + (-1) = nI m - 1 := by
  rw [Int32.sub_eq_add_neg]
theorem rc_neg : nI 0 - 1 < 0 := by decide
theorem rc_cf_app (xs ys : List Nat) : ∀ c, rc_cf (xs ++ ys) c = rc_cf ys (rc_cf xs c) := by
  induction xs with
  | nil => intro c; rfl
  | cons x xs ih => intro c; exact ih _
theorem rc_clear {post : Int32 → St1 → Prop} {ru sz li co go re wa fo la : Int32} {a1 a2 a3 a4 a5 a6 a7 a8 a9 a10 a11 a12 a13 : Nat → Int32} {a14 : Nat → Int64} {a15 : Nat → Int32} {a16 : Nat → Int64} {a17 a18 : Nat → Int32} (H : post sz (ru, 0, li, co, go, re, wa, fo, la, a1, a2, a3, a4, a5, a6, a7, a8, a9, a10, a11, a12, a13, a14, a15, a16, a17, a18)) : wpX_clear post (ru, sz, li, co, go, re, wa, fo, la, a1, a2, a3, a4, a5, a6, a7, a8, a9, a10, a11, a12, a13, a14, a15, a16, a17, a18) := H
theorem rc_bad0 {post : Int32 → Prop} {u : St1} {p0 : Int32} {x : Nat} (e0 : p0 = nI x) (hx : x < 4) (H : post 0) : wpX_badLetter post u p0 := by
  obtain ⟨_, _, _, _, _, _, _, _, _, _, _, _, _, _, _, _, _, _, _, _, _, _, _, _, _, _, _⟩ := u
  exact pk_lt x 0 (fun z => absurd z (by omega)) (fun _ => pk_le x 3 (fun _ => H) (fun z => absurd z (by omega)) e0) e0
theorem rc_push {post : Int32 → St1 → Prop} {ru sz li co go re wa fo la : Int32} {a1 a2 a3 a4 a5 a6 a7 a8 a9 a10 a11 a12 a13 : Nat → Int32} {a14 : Nat → Int64} {a15 : Nat → Int32} {a16 : Nat → Int64} {a17 a18 : Nat → Int32} {p0 : Int32} {x : Nat} {W : List Nat} (hW : rc_wd W sz a6) (e0 : p0 = nI x) (hx : x < 4) (hl : W.length < 12)
    (H : ∀ (sz' : Int32) (a6' : Nat → Int32), rc_wd (W ++ [x]) sz' a6' → post (nI (W.length + 1)) (ru, sz', li, co, go, re, wa, fo, la, a1, a2, a3, a4, a5, a6', a7, a8, a9, a10, a11, a12, a13, a14, a15, a16, a17, a18)) : wpX_push post (ru, sz, li, co, go, re, wa, fo, la, a1, a2, a3, a4, a5, a6, a7, a8, a9, a10, a11, a12, a13, a14, a15, a16, a17, a18) p0 := by
  obtain ⟨h1, h2, h3⟩ := hW
  have hb : p0.toInt8.toInt32 = nI x := by
    rw [e0]
    exact rc_b8 x (by omega)
  have hc : sz.toNatClampNeg = W.length := by
    rw [h1]
    exact nI_clamp (by omega)
  unfold wpX_push
  dsimp only
  refine rc_bad0 e0 hx (br_t rfl (pk_eq W.length 12 (fun z => absurd z (by omega)) (fun _ => ⟨pk_in W.length 12 hl h1, nm_e (nm_r (e' := nI (W.length + 1)) (by rw [h1]; exact nI_1 _) ?_)⟩) h1))
  refine H _ _ ⟨?_, ?_, rc_at_put h3 hx hb hc⟩
  · rw [List.length_append]
    rfl
  · rw [List.length_append, List.length_cons, List.length_nil]
    omega
theorem rc_push_full {post : Int32 → St1 → Prop} {ru sz li co go re wa fo la : Int32} {a1 a2 a3 a4 a5 a6 a7 a8 a9 a10 a11 a12 a13 : Nat → Int32} {a14 : Nat → Int64} {a15 : Nat → Int32} {a16 : Nat → Int64} {a17 a18 : Nat → Int32} {p0 : Int32} {x : Nat} {W : List Nat} (hW : rc_wd W sz a6) (e0 : p0 = nI x) (hx : x < 4) (hl : W.length = 12)
    (H : post (-2) (ru, sz, li, co, go, re, wa, fo, la, a1, a2, a3, a4, a5, a6, a7, a8, a9, a10, a11, a12, a13, a14, a15, a16, a17, a18)) : wpX_push post (ru, sz, li, co, go, re, wa, fo, la, a1, a2, a3, a4, a5, a6, a7, a8, a9, a10, a11, a12, a13, a14, a15, a16, a17, a18) p0 := by
  unfold wpX_push
  dsimp only
  refine rc_bad0 e0 hx (br_t rfl (br_t ?_ H))
  rw [hW.1, hl]
  rfl
theorem rc_write28 {post : Int32 → St1 → Prop} {ru : Int32} {li : Int32} {co : Int32} {go : Int32} {re : Int32} {wa : Int32} {fo : Int32} {la : Int32} {a1 : Nat → Int32} {a2 : Nat → Int32} {a3 : Nat → Int32} {a4 : Nat → Int32} {a5 : Nat → Int32} {a7 : Nat → Int32} {a8 : Nat → Int32} {a9 : Nat → Int32} {a10 : Nat → Int32} {a11 : Nat → Int32} {a12 : Nat → Int32} {a13 : Nat → Int32} {a14 : Nat → Int64} {a15 : Nat → Int32} {a16 : Nat → Int64} {a17 : Nat → Int32} {a18 : Nat → Int32} {x1 : Int32} {o : List Nat} (e1 : x1 = nI (rc_cd o)) (ho : rc_l4 o) (h12 : o.length ≤ 12) (H : ∀ (sz' : Int32) (a6' : Nat → Int32), rc_wd o sz' a6' → post 1 (ru, sz', li, co, go, re, wa, fo, la, a1, a2, a3, a4, a5, a6', a7, a8, a9, a10, a11, a12, a13, a14, a15, a16, a17, a18)) : ∀ (ys X : List Nat) (sz : Int32) (a6 : Nat → Int32), o = X ++ ys → rc_wd X sz a6 → wL_write_28 post x1 (ys.length + 1) (nI ys.length - 1) ru sz li co go re wa fo la a1 a2 a3 a4 a5 a6 a7 a8 a9 a10 a11 a12 a13 a14 a15 a16 a17 a18 := by
  have hlt := rc_cd_lt ho h12
  intro ys
  induction ys with
  | nil =>
    intro X sz a6 e hW
    rw [List.append_nil] at e
    subst e
    exact br_t rc_neg (H _ _ hW)
  | cons y ys ih =>
    intro X sz a6 e hW
    have hl : X.length + (ys.length + 1) ≤ 12 := by
      rw [e, List.length_append, List.length_cons] at h12
      exact h12
    have hy : y < 4 := ho y (by rw [e]; simp)
    have hys : rc_l4 ys := fun z hz => ho z (by rw [e]; simp [hz])
    have hd : rc_cd o / 4 ^ ys.length % 4 = y := by
      have e2 : rc_cd o = (4 * rc_cd X + y) * 4 ^ ys.length + rc_nm ys := by
        rw [e]
        unfold rc_cd
        rw [rc_cf_app]
        exact rc_cf_eq ys _
      rw [e2, Nat.mul_comm, Nat.mul_add_div (Nat.pow_pos (by decide)), Nat.div_eq_of_lt (rc_nm_lt hys)]
      omega
    have hx : ((x1 >>> ((2 * nI ys.length) &&& 31)) &&& 3) = nI y := by
      rw [e1, rc_let (by omega) (by omega), hd]
    show wL_write_28 post x1 (ys.length + 1 + 1) (nI (ys.length + 1) - 1) ru sz li co go re wa fo la a1 a2 a3 a4 a5 a6 a7 a8 a9 a10 a11 a12 a13 a14 a15 a16 a17 a18
    rw [nI_pred]
    refine br_f (nI_pos (by omega)) (rc_push hW hx hy (by omega) (fun sz' a6' hW' => br_t ?_ (nm_r (rc_md ys.length) (ih (X ++ [y]) sz' a6' (by rw [e, List.append_assoc]; rfl) hW'))))
    exact nI_le (a := 1) (by omega) (by omega)
theorem rc_take_s {o : List Nat} {j : Nat} (hj : j < o.length) : ∃ x, o.take (j + 1) = o.take j ++ [x] := by
  refine ⟨o[j], ?_⟩
  rw [List.take_add_one, List.getElem?_eq_getElem hj]
  rfl
theorem rc_write4 {post : Int32 → St1 → Prop} {ru sz li co go re wa fo la : Int32} {a1 a2 a3 a4 a5 a6 a7 a8 a9 a10 a11 a12 a13 : Nat → Int32} {a14 : Nat → Int64} {a15 : Nat → Int32} {a16 : Nat → Int64} {a17 a18 : Nat → Int32} {x1 : Int32} {o : List Nat} (e1 : x1 = nI (rc_cd o)) (ho : rc_l4 o) (h12 : o.length ≤ 12) (H : ∀ (sz' : Int32) (a6' : Nat → Int32), rc_wd o sz' a6' → post 1 (ru, sz', li, co, go, re, wa, fo, la, a1, a2, a3, a4, a5, a6', a7, a8, a9, a10, a11, a12, a13, a14, a15, a16, a17, a18)) : ∀ j, j ≤ o.length → wL_write_4 post x1 ru sz li co go re wa fo la a1 a2 a3 a4 a5 a6 a7 a8 a9 a10 a11 a12 a13 a14 a15 a16 a17 a18 (j + 1) (nI (o.length - j)) (nI (rc_cd (o.take j))) := by
  intro j
  induction j with
  | zero =>
    intro _
    refine pk_le 1 1 (fun _ => ?_) (fun z => absurd z (by omega))
    rw [Nat.sub_zero]
    exact rc_clear (nm_e ⟨o.length + 1, rc_write28 e1 ho h12 H o [] _ _ rfl ⟨rfl, by rw [List.length_nil]; omega, trivial⟩⟩)
  | succ j ih =>
    intro hj
    obtain ⟨x, hx⟩ := rc_take_s (o := o) (j := j) (by omega)
    have hx4 : x < 4 := ho x (List.mem_of_mem_take (i := j + 1) (by rw [hx]; simp))
    have e2 : rc_cd (o.take (j + 1)) = 4 * rc_cd (o.take j) + x := by
      rw [hx]
      unfold rc_cd
      rw [rc_cf_app]
      rfl
    have hp := rc_cd_pos (o.take j)
    have hlt := rc_cd_lt (xs := o.take (j + 1)) (fun z hz => ho z (List.mem_of_mem_take hz)) (by rw [List.length_take]; omega)
    refine pk_le (rc_cd (o.take (j + 1))) 1 (fun z => absurd z (by omega)) (fun _ => nm_r (e' := nI (o.length - j)) ?_ (nm_r (e' := nI (rc_cd (o.take j))) ?_ (ih (by omega))))
    · rw [nI_1]
      congr 1
      omega
    · rw [pk_shrN (by omega) _ 2 (by decide), e2]
      congr 1
      omega
theorem rc_write {post : Int32 → St1 → Prop} {ru sz li co go re wa fo la : Int32} {a1 a2 a3 a4 a5 a6 a7 a8 a9 a10 a11 a12 a13 : Nat → Int32} {a14 : Nat → Int64} {a15 : Nat → Int32} {a16 : Nat → Int64} {a17 a18 : Nat → Int32} {p1 : Int32} {o : List Nat} (e1 : p1 = nI (rc_cd o)) (ho : rc_l4 o) (h12 : o.length ≤ 12) (H : ∀ (sz' : Int32) (a6' : Nat → Int32), rc_wd o sz' a6' → post 1 (ru, sz', li, co, go, re, wa, fo, la, a1, a2, a3, a4, a5, a6', a7, a8, a9, a10, a11, a12, a13, a14, a15, a16, a17, a18)) : wpL_write post (ru, sz, li, co, go, re, wa, fo, la, a1, a2, a3, a4, a5, a6, a7, a8, a9, a10, a11, a12, a13, a14, a15, a16, a17, a18) p1 := by
  have h := rc_write4 (ru := ru) (sz := sz) (li := li) (co := co) (go := go) (re := re) (wa := wa) (fo := fo) (la := la) (a6 := a6) e1 ho h12 H o.length (Nat.le_refl _)
  rw [List.take_length, Nat.sub_self, ← e1] at h
  exact ⟨_, h⟩
theorem rc_runN8 {post : Int32 → St1 → Prop} {ru : Int32} {sz : Int32} {li : Int32} {fo : Int32} {la : Int32} {a1 : Nat → Int32} {a2 : Nat → Int32} {a3 : Nat → Int32} {a4 : Nat → Int32} {a5 : Nat → Int32} {a6 : Nat → Int32} {a7 : Nat → Int32} {a14 : Nat → Int64} {a15 : Nat → Int32} {a16 : Nat → Int64} {a17 : Nat → Int32} {a18 : Nat → Int32} {x1 : Int32} {v k : Nat} {A : Nat → Nat} {W : List Nat} (hC : rc_C k A W sz li a1 a2 a3 a4 a5 a6 a7) (e1 : x1 = nI v) (hv31 : v < 2 ^ 31) : ∀ (m : Nat) (M : rc_M) (o : List Nat) (ok : Bool) (co : Int32) (go : Int32) (re : Int32) (wa : Int32) (a8 : Nat → Int32) (a9 : Nat → Int32) (a10 : Nat → Int32) (a11 : Nat → Int32) (a12 : Nat → Int32) (a13 : Nat → Int32), m ≤ 5 → rc_vM k M → rc_mm k M a8 a9 a10 → re = nI o.length → o.length ≤ 12 → rc_l4 o → rc_at a13 0 o → wa = rc_bi ok →
    (∀ (co' : Int32) (go' : Int32) (re' : Int32) (wa' : Int32) (a8' : Nat → Int32) (a9' : Nat → Int32) (a10' : Nat → Int32) (a11' : Nat → Int32) (a12' : Nat → Int32) (a13' : Nat → Int32), post (nI (rc_cd (rc_rn (rc_tA k A a1 a2 a3 a4 a5) (rc_dg m v ++ [4]) (M, o)).2)) (ru, sz, li, co', go', re', wa', fo, la, a1, a2, a3, a4, a5, a6, a7, a8', a9', a10', a11', a12', a13', a14, a15, a16, a17, a18)) → wX_runNumber_8 post x1 (m + 1) (nI m - 1) ru sz li co go re wa fo la a1 a2 a3 a4 a5 a6 a7 a8 a9 a10 a11 a12 a13 a14 a15 a16 a17 a18 := by
  have hT := rc_tA_v (k := k) (A := A) hC.2.2.2.1
  intro m
  induction m with
  | zero =>
    intro M o ok co go re wa a8 a9 a10 a11 a12 a13 hm hM hmm hr hr12 hl4 ho hok H
    exact br_t rc_neg (rc_feedO (x := 4) hC rfl (by omega) hM hmm hr hr12 ho hok (fun ok' co' go' re' wa' a8' a9' a10' a11' a12' a13' k1 k2 k3 k4 => rc_code k4 k1 (rc_eo_len _ hr12) (H _ _ _ _ _ _ _ _ _ _)))
  | succ m ih =>
    intro M o ok co go re wa a8 a9 a10 a11 a12 a13 hm hM hmm hr hr12 hl4 ho hok H
    have hx4 : v / 4 ^ m % 4 < 4 := Nat.mod_lt _ (by decide)
    have hv := hT M (v / 4 ^ m % 4) hM (by omega)
    have hx : ((x1 >>> ((2 * nI m) &&& 31)) &&& 3) = nI (v / 4 ^ m % 4) := by
      rw [e1, rc_let hv31 (by omega)]
    rw [nI_pred]
    refine br_f (nI_pos (by omega)) (rc_feedO hC hx (by omega) hM hmm hr hr12 ho hok (fun ok' co' go' re' wa' a8' a9' a10' a11' a12' a13' k1 k2 k3 k4 => nm_r (rc_md m) ?_))
    exact ih _ _ ok' _ _ _ _ _ _ _ _ _ _ (by omega) hv.1 k3 k1 (rc_eo_len _ hr12) (rc_eo_l4 hv.2 hl4) k4 k2 H
theorem rc_runN {post : Int32 → St1 → Prop} {ru sz li co go re wa fo la : Int32} {a1 a2 a3 a4 a5 a6 a7 a8 a9 a10 a11 a12 a13 : Nat → Int32} {a14 : Nat → Int64} {a15 : Nat → Int32} {a16 : Nat → Int64} {a17 a18 : Nat → Int32} {p0 p1 : Int32} {v n k : Nat} {A : Nat → Nat} {W : List Nat} (hC : rc_C k A W sz li a1 a2 a3 a4 a5 a6 a7) (e0 : p0 = nI v) (hv : v < 2 ^ 31) (e1 : p1 = nI n) (hn : n ≤ 5)
    (H : ∀ (co' : Int32) (go' : Int32) (re' : Int32) (wa' : Int32) (a8' : Nat → Int32) (a9' : Nat → Int32) (a10' : Nat → Int32) (a11' : Nat → Int32) (a12' : Nat → Int32) (a13' : Nat → Int32), post (nI (rc_cd (rc_F (rc_tA k A a1 a2 a3 a4 a5) (rc_dg n v)))) (ru, sz, li, co', go', re', wa', fo, la, a1, a2, a3, a4, a5, a6, a7, a8', a9', a10', a11', a12', a13', a14, a15, a16, a17, a18)) : wpX_runNumber post (ru, sz, li, co, go, re, wa, fo, la, a1, a2, a3, a4, a5, a6, a7, a8, a9, a10, a11, a12, a13, a14, a15, a16, a17, a18) p0 p1 := by
  subst e1
  refine rc_beg (fun a8' a9' a10' hmm => nm_e ⟨n + 1, ?_⟩)
  exact rc_runN8 hC e0 hv n rc_M0 [] true _ _ _ _ _ _ _ _ _ _ hn (rc_vM0 k) (rc_mm_le hmm hC.2.1) rfl (by rw [List.length_nil]; omega) rc_l4_nil trivial rfl H
theorem rc_runN8z {post : Int32 → St1 → Prop} {ru : Int32} {sz : Int32} {li : Int32} {fo : Int32} {la : Int32} {a1 : Nat → Int32} {a2 : Nat → Int32} {a3 : Nat → Int32} {a4 : Nat → Int32} {a5 : Nat → Int32} {a6 : Nat → Int32} {a7 : Nat → Int32} {a14 : Nat → Int64} {a15 : Nat → Int32} {a16 : Nat → Int64} {a17 : Nat → Int32} {a18 : Nat → Int32} {x1 : Int32} {v k : Nat} {A : Nat → Nat} {W : List Nat} (hC : rc_C k A W sz li a1 a2 a3 a4 a5 a6 a7) (e1 : x1 = nI v) (hv31 : v < 2 ^ 31) : ∀ (m : Nat) (M : rc_M) (o : List Nat) (ok : Bool) (co : Int32) (go : Int32) (re : Int32) (wa : Int32) (a8 : Nat → Int32) (a9 : Nat → Int32) (a10 : Nat → Int32) (a11 : Nat → Int32) (a12 : Nat → Int32) (a13 : Nat → Int32), m ≤ 5 → rc_vM k M → rc_mm k M a8 a9 a10 → re = nI o.length → o.length ≤ 12 → rc_l4 o → rc_at a13 0 o → wa = rc_bi ok →
    (∀ (co' : Int32) (go' : Int32) (re' : Int32) (wa' : Int32) (a8' : Nat → Int32) (a9' : Nat → Int32) (a10' : Nat → Int32) (a11' : Nat → Int32) (a12' : Nat → Int32) (a13' : Nat → Int32), post (nI (rc_cd (rc_rn (rc_tA k A a1 a2 a3 a4 a5) (rc_dg m v ++ [4]) (M, o)).2)) (ru, sz, li, co', go', re', wa', fo, la, a1, a2, a3, a4, a5, a6, a7, a8', a9', a10', a11', a12', a13', a14, a15, a16, a17, a18)) → wX_runNumber_2_8 post x1 (m + 1) (nI m - 1) ru sz li co go re wa fo la a1 a2 a3 a4 a5 a6 a7 a8 a9 a10 a11 a12 a13 a14 a15 a16 a17 a18 := by
  have hT := rc_tA_v (k := k) (A := A) hC.2.2.2.1
  intro m
  induction m with
  | zero =>
    intro M o ok co go re wa a8 a9 a10 a11 a12 a13 hm hM hmm hr hr12 hl4 ho hok H
    exact br_t rc_neg (rc_feedOz (x := 4) hC rfl (by omega) hM hmm hr hr12 ho hok (fun ok' co' go' re' wa' a8' a9' a10' a11' a12' a13' k1 k2 k3 k4 => rc_code k4 k1 (rc_eo_len _ hr12) (H _ _ _ _ _ _ _ _ _ _)))
  | succ m ih =>
    intro M o ok co go re wa a8 a9 a10 a11 a12 a13 hm hM hmm hr hr12 hl4 ho hok H
    have hx4 : v / 4 ^ m % 4 < 4 := Nat.mod_lt _ (by decide)
    have hv := hT M (v / 4 ^ m % 4) hM (by omega)
    have hx : ((x1 >>> ((2 * nI m) &&& 31)) &&& 3) = nI (v / 4 ^ m % 4) := by
      rw [e1, rc_let hv31 (by omega)]
    rw [nI_pred]
    refine br_f (nI_pos (by omega)) (rc_feedOz hC hx (by omega) hM hmm hr hr12 ho hok (fun ok' co' go' re' wa' a8' a9' a10' a11' a12' a13' k1 k2 k3 k4 => nm_r (rc_md m) ?_))
    exact ih _ _ ok' _ _ _ _ _ _ _ _ _ _ (by omega) hv.1 k3 k1 (rc_eo_len _ hr12) (rc_eo_l4 hv.2 hl4) k4 k2 H
theorem rc_runNz {post : Int32 → St1 → Prop} {ru sz li co go re wa fo la : Int32} {a1 a2 a3 a4 a5 a6 a7 a8 a9 a10 a11 a12 a13 : Nat → Int32} {a14 : Nat → Int64} {a15 : Nat → Int32} {a16 : Nat → Int64} {a17 a18 : Nat → Int32} {p0 p1 : Int32} {v n k : Nat} {A : Nat → Nat} {W : List Nat} (hC : rc_C k A W sz li a1 a2 a3 a4 a5 a6 a7) (e0 : p0 = nI v) (hv : v < 2 ^ 31) (e1 : p1 = nI n) (hn : n ≤ 5)
    (H : ∀ (co' : Int32) (go' : Int32) (re' : Int32) (wa' : Int32) (a8' : Nat → Int32) (a9' : Nat → Int32) (a10' : Nat → Int32) (a11' : Nat → Int32) (a12' : Nat → Int32) (a13' : Nat → Int32), post (nI (rc_cd (rc_F (rc_tA k A a1 a2 a3 a4 a5) (rc_dg n v)))) (ru, sz, li, co', go', re', wa', fo, la, a1, a2, a3, a4, a5, a6, a7, a8', a9', a10', a11', a12', a13', a14, a15, a16, a17, a18)) : wpX_runNumber_2 post (ru, sz, li, co, go, re, wa, fo, la, a1, a2, a3, a4, a5, a6, a7, a8, a9, a10, a11, a12, a13, a14, a15, a16, a17, a18) p0 p1 := by
  subst e1
  refine rc_begz (fun a8' a9' a10' hmm => nm_e ⟨n + 1, ?_⟩)
  exact rc_runN8z hC e0 hv n rc_M0 [] true _ _ _ _ _ _ _ _ _ _ hn (rc_vM0 k) (rc_mm_le hmm hC.2.1) rfl (by rw [List.length_nil]; omega) rc_l4_nil trivial rfl H
end
section
/-! pack and unpack; the first eight rows (u_tn to pf_shr) are pasted out of laws/BITS.to-paste -/
theorem u_tn {n : Nat} (h : n < 2 ^ 64) : (UInt64.ofNat n).toNat = n := Nat.mod_eq_of_lt h
theorem g_and {a b c : Nat} (ha : a < 2 ^ 64) (hb : b < 2 ^ 64) (hc : a &&& b = c) : lN a &&& lN b = lN c := by
  subst hc
  have h : UInt64.ofNat a &&& UInt64.ofNat b = UInt64.ofNat (a &&& b) := UInt64.toNat_inj.mp (by rw [UInt64.toNat_and, u_tn ha, u_tn hb, u_tn (Nat.and_lt_two_pow a hb)])
  have h2 := congrArg UInt64.toInt64 h
  exact h2
theorem g_mask {a s p : Nat} (hp : 2 ^ s = p) (hs : s < 64) (ha : a < 2 ^ 64) : lN a &&& lN (p - 1) = lN (a % p) := by
  subst hp
  have := Nat.pow_lt_pow_right (show 1 < 2 by decide) hs
  exact g_and ha (by omega) (Nat.and_two_pow_sub_one_eq_mod a s)
theorem g_or {k p a b : Nat} (hp : 2 ^ k = p) (ha : a < p) (h : b * p + a < 2 ^ 64) : lN (b * p) ||| lN a = lN (b * p + a) := by
  subst hp
  have h1 : b * 2 ^ k ||| a = b * 2 ^ k + a := by rw [← Nat.shiftLeft_eq, Nat.shiftLeft_add_eq_or_of_lt ha]
  have h3 : UInt64.ofNat (b * 2 ^ k) ||| UInt64.ofNat a = UInt64.ofNat (b * 2 ^ k + a) := UInt64.toNat_inj.mp (by rw [UInt64.toNat_or, u_tn (by omega), u_tn (by omega), u_tn h, h1])
  have h2 := congrArg UInt64.toInt64 h3
  exact h2
theorem g_shl {a k p : Nat} {y : Int64} (hy : y.toBitVec.smod 64 = BitVec.ofNat 64 k) (hk : k < 64) (hp : 2 ^ k = p) (ha : a < 2 ^ 64) : lN a <<< y = lN (a * p) := by
  subst hp
  apply Int64.toBitVec_inj.mp
  rw [Int64.toBitVec_shiftLeft, hy]
  apply BitVec.eq_of_toNat_eq
  have hb : (lN a).toBitVec.toNat = a := Nat.mod_eq_of_lt ha
  have hk' : (BitVec.ofNat 64 k).toNat = k := Nat.mod_eq_of_lt (by omega)
  have h : ((lN a).toBitVec <<< BitVec.ofNat 64 k).toNat = (a * 2 ^ k) % 2 ^ 64 := by simp only [BitVec.shiftLeft_eq', BitVec.toNat_shiftLeft, hb, hk', Nat.shiftLeft_eq]
  exact h
theorem pf_lI {a : Nat} (h : a < 2 ^ 63) : (lN a).toInt = (a : Int) := lg_ofNat_toInt h
theorem pf_shr {a d : Nat} {D : Int64} (hD : (D.toBitVec.smod 64).toNat = d) (h : a < 2 ^ 62) : lN a >>> D = lN (a / 2 ^ d) := by
  have hd : a / 2 ^ d ≤ a := Nat.div_le_self _ _
  apply Int64.toInt_inj.mp
  have e : (lN a >>> D).toInt = (lN a).toInt >>> d := by
    rw [← hD]
    exact BitVec.toInt_sshiftRight ..
  rw [e, Int.shiftRight_eq_div_pow, pf_lI (by omega), pf_lI (by omega)]
  rfl
/-! one memory as a number -/
def rc_pd (m : Nat × Nat × Nat) : Nat := m.1 + 8 * m.2.1 + 64 * m.2.2
def rc_pk (M : rc_M) (r : Nat) : Nat → Nat
  | 0 => r
  | s + 1 => rc_pk M r s * 1024 + rc_pd (M s)
theorem rc_pd_lt {m : Nat × Nat × Nat} (h : rc_vm m) : rc_pd m < 1024 := by
  obtain ⟨h1, h2, h3⟩ := h
  unfold rc_pd
  omega
theorem rc_pk_lt {M : rc_M} {r : Nat} (hv : ∀ s, rc_vm (M s)) (hr : r ≤ 12) : ∀ k, rc_pk M r k < 16 * 1024 ^ k := by
  intro k
  induction k with
  | zero =>
    show r < 16 * 1
    omega
  | succ k ih =>
    have h := rc_pd_lt (hv k)
    show rc_pk M r k * 1024 + rc_pd (M k) < 16 * 1024 ^ (k + 1)
    rw [Nat.pow_succ]
    omega
theorem rc_pk_54 {M : rc_M} {r k : Nat} (hv : ∀ s, rc_vm (M s)) (hr : r ≤ 12) (hk : k ≤ 5) : rc_pk M r k < 2 ^ 54 := by
  have h := rc_pk_lt hv hr k
  have h2 : 1024 ^ k ≤ 1024 ^ 5 := Nat.pow_le_pow_right (by decide) hk
  have h3 : 1024 ^ 5 = 1125899906842624 := by decide
  omega
theorem rc_pd_inj {m m' : Nat × Nat × Nat} (h : rc_vm m) (h' : rc_vm m') (e : rc_pd m = rc_pd m') : m = m' := by
  obtain ⟨b, hh, c⟩ := m
  obtain ⟨b', hh', c'⟩ := m'
  obtain ⟨h1, h2, h3⟩ := h
  obtain ⟨g1, g2, g3⟩ := h'
  unfold rc_pd at e
  dsimp only at h1 h2 h3 g1 g2 g3 e
  have e1 : b = b' := by omega
  have e2 : hh = hh' := by omega
  have e3 : c = c' := by omega
  rw [e1, e2, e3]
theorem rc_pk_inj0 {M M' : rc_M} {r r' : Nat} (hv : ∀ s, rc_vm (M s)) (hv' : ∀ s, rc_vm (M' s)) : ∀ k, rc_pk M r k = rc_pk M' r' k → r = r' ∧ ∀ s, s < k → M s = M' s := by
  intro k
  induction k with
  | zero => intro e; exact ⟨e, fun s hs => absurd hs (by omega)⟩
  | succ k ih =>
    intro e
    have d := rc_dm (by decide) (show rc_pk M r k * 1024 + rc_pd (M k) = rc_pk M' r' k * 1024 + rc_pd (M' k) from e) (rc_pd_lt (hv k)) (rc_pd_lt (hv' k))
    have h := ih d.1
    refine ⟨h.1, fun s hs => ?_⟩
    by_cases z : s = k
    · rw [z]
      exact rc_pd_inj (hv k) (hv' k) d.2
    · exact h.2 s (by omega)
theorem rc_pk_inj {M M' : rc_M} {r r' k : Nat} (hv : rc_vM k M) (hv' : rc_vM k M') (e : rc_pk M r k = rc_pk M' r' k) : M = M' ∧ r = r' := by
  have h := rc_pk_inj0 hv.1 hv'.1 k e
  refine ⟨?_, h.1⟩
  funext s
  rcases Nat.lt_or_ge s k with z | z
  · exact h.2 s z
  · rw [hv.2 s z, hv'.2 s z]
theorem rc_t1 : ∀ b, b < 5 → ∀ h, h < 6 → ∀ c, c < 13 → ((nI b ||| (nI h <<< ((3 : Int32) &&& 31))) ||| (nI c <<< ((6 : Int32) &&& 31))) = nI (b + 8 * h + 64 * c) := by decide +kernel
theorem rc_t2 : ∀ b, b < 5 → ∀ h, h < 6 → ∀ c, c < 13 → (nI (b + 8 * h + 64 * c) &&& 7).toInt8.toInt32 = nI b ∧ ((nI (b + 8 * h + 64 * c) >>> ((3 : Int32) &&& 31)) &&& 7).toInt8.toInt32 = nI h ∧ (nI (b + 8 * h + 64 * c) >>> ((6 : Int32) &&& 31)).toInt8.toInt32 = nI c := by decide +kernel
theorem rc_p1 {N d : Nat} (hN : N < 2 ^ 54) (hd : d < 1024) : ((lN N <<< ((10 : Int32).toInt64 &&& 63)) ||| (nI d).toInt64) = lN (N * 1024 + d) := by
  rw [g_shl (k := 10) (p := 1024) (by decide) (by decide) (by decide) (by omega), nI_l (by omega)]
  exact g_or (k := 10) (by decide) hd (by omega)
theorem rc_p2 {N : Nat} (hN : N < 2 ^ 62) : (lN N &&& 1023).toInt32 = nI (N % 1024) := by
  have h : lN N &&& 1023 = lN (N % 1024) := g_mask (s := 10) (p := 1024) (by decide) (by decide) (by omega)
  rw [h, lN_i]
theorem rc_p3 {N : Nat} (hN : N < 2 ^ 62) : lN N >>> ((10 : Int32).toInt64 &&& 63) = lN (N / 1024) := by
  rw [pf_shr (d := 10) (by decide) hN]
theorem rc_pack8 {post : Int64 → Prop} {ru sz li co go re wa fo la : Int32} {a1 a2 a3 a4 a5 a6 a7 a8 a9 a10 a11 a12 a13 : Nat → Int32} {a14 : Nat → Int64} {a15 : Nat → Int32} {a16 : Nat → Int64} {a17 a18 : Nat → Int32} {k r : Nat} {M : rc_M} (hli : li = nI k) (hk : k ≤ 5) (hv : rc_vM k M) (hmm : rc_mm k M a8 a9 a10) (hr : r ≤ 12) (H : post (lN (rc_pk M r k))) : ∀ d s : Nat, s + d = k → wX_pack_8 post ru sz li co go re wa fo la a1 a2 a3 a4 a5 a6 a7 a8 a9 a10 a11 a12 a13 a14 a15 a16 a17 a18 (d + 1) (lN (rc_pk M r s)) (nI s) := by
  intro d
  induction d with
  | zero =>
    intro s hs
    have e : s = k := by omega
    subst e
    exact pk_le s s (fun _ => H) (fun z => absurd z (by omega)) hli
  | succ d ih =>
    intro s hs
    obtain ⟨h8, h9, h10⟩ := hmm s (by omega)
    have hvs := hv.1 s
    have hlt := rc_pk_54 (k := s) hv.1 hr (by omega)
    have hpd := rc_pd_lt hvs
    have hvs' := hvs
    obtain ⟨v1, v2, v3⟩ := hvs'
    refine pk_le k s (fun z => absurd z (by omega)) (fun _ => ⟨pk_in s 5 (by omega), pk_in s 5 (by omega), pk_in s 5 (by omega), nm_r (e' := nI (rc_pd (M s))) ?_ (nm_r (rc_p1 hlt hpd) (nm_r (nI_1 s) (ih (s + 1) (by omega))))⟩) hli
    rw [nI_clamp (show s < 2 ^ 31 by omega), h8, h9, h10]
    exact rc_t1 _ (by omega) _ (by omega) _ (by omega)
theorem rc_pack {post : Int64 → Prop} {ru sz li co go re wa fo la : Int32} {a1 a2 a3 a4 a5 a6 a7 a8 a9 a10 a11 a12 a13 : Nat → Int32} {a14 : Nat → Int64} {a15 : Nat → Int32} {a16 : Nat → Int64} {a17 a18 : Nat → Int32} {k r : Nat} {M : rc_M} (hli : li = nI k) (hk : k ≤ 5) (hv : rc_vM k M) (hmm : rc_mm k M a8 a9 a10) (er : re = nI r) (hr : r ≤ 12) (H : post (lN (rc_pk M r k))) : wpX_pack post (ru, sz, li, co, go, re, wa, fo, la, a1, a2, a3, a4, a5, a6, a7, a8, a9, a10, a11, a12, a13, a14, a15, a16, a17, a18) := by
  have h := rc_pack8 (ru := ru) (sz := sz) (co := co) (go := go) (re := re) (wa := wa) (fo := fo) (la := la) (a1 := a1) (a2 := a2) (a3 := a3) (a4 := a4) (a5 := a5) (a6 := a6) (a7 := a7) (a11 := a11) (a12 := a12) (a13 := a13) (a14 := a14) (a15 := a15) (a16 := a16) (a17 := a17) (a18 := a18) hli hk hv hmm hr H k 0 (by omega)
  refine ⟨k + 1, ?_⟩
  rw [er, nI_l (by omega)]
  rw [er] at h
  exact h
theorem rc_unp10 {post : St1 → Prop} {ru : Int32} {sz : Int32} {li : Int32} {co : Int32} {go : Int32} {re : Int32} {wa : Int32} {fo : Int32} {la : Int32} {a1 : Nat → Int32} {a2 : Nat → Int32} {a3 : Nat → Int32} {a4 : Nat → Int32} {a5 : Nat → Int32} {a6 : Nat → Int32} {a7 : Nat → Int32} {a11 : Nat → Int32} {a12 : Nat → Int32} {a13 : Nat → Int32} {a14 : Nat → Int64} {a15 : Nat → Int32} {a16 : Nat → Int64} {a17 : Nat → Int32} {a18 : Nat → Int32} {k r : Nat} {M : rc_M} (hk : k ≤ 5) (hv : rc_vM k M) (hr : r ≤ 12) (H : ∀ (a8' : Nat → Int32) (a9' : Nat → Int32) (a10' : Nat → Int32), rc_mm k M a8' a9' a10' → post (ru, sz, li, co, go, nI r, 1, fo, la, a1, a2, a3, a4, a5, a6, a7, a8', a9', a10', a11, a12, a13, a14, a15, a16, a17, a18)) : ∀ (m : Nat) (a8 : Nat → Int32) (a9 : Nat → Int32) (a10 : Nat → Int32), m ≤ k → (∀ s, m ≤ s → s < k → rc_sg s (M s) a8 a9 a10) → wX_unpack_10 post ru sz li co go re wa fo la (m + 1) (lN (rc_pk M r m)) (nI m - 1) a1 a2 a3 a4 a5 a6 a7 a8 a9 a10 a11 a12 a13 a14 a15 a16 a17 a18 := by
  intro m
  induction m with
  | zero =>
    intro a8 a9 a10 _ h
    refine br_t rc_neg ?_
    have e : (lN (rc_pk M r 0)).toInt32 = nI r := lN_i r
    rw [e]
    exact H _ _ _ (fun s hs => h s (by omega) hs)
  | succ m ih =>
    intro a8 a9 a10 hm h
    have hvs := hv.1 m
    have hlt := rc_pk_54 (k := m + 1) hv.1 hr (by omega)
    have hpd := rc_pd_lt hvs
    have hvs' := hvs
    obtain ⟨v1, v2, v3⟩ := hvs'
    have e0 : rc_pk M r (m + 1) = rc_pk M r m * 1024 + rc_pd (M m) := rfl
    have e1 : rc_pk M r (m + 1) % 1024 = rc_pd (M m) := by omega
    have e2 : rc_pk M r (m + 1) / 1024 = rc_pk M r m := by omega
    have t2 := rc_t2 (M m).1 (by omega) (M m).2.1 (by omega) (M m).2.2 (by omega)
    rw [nI_pred]
    refine br_f (nI_pos (by omega)) (nm_r (e' := nI (rc_pd (M m))) (by rw [rc_p2 (by omega), e1]) ⟨pk_in m 5 (by omega), nm_e ⟨pk_in m 5 (by omega), nm_e ⟨pk_in m 5 (by omega), nm_e (nm_r (e' := lN (rc_pk M r m)) (by rw [rc_p3 (by omega), e2]) (nm_r (rc_md m) (ih _ _ _ (by omega) (fun s h1 h2 => ?_))))⟩⟩⟩)
    rw [nI_clamp (show m < 2 ^ 31 by omega)]
    by_cases e : s = m
    · subst e
      exact ⟨by rw [pk_us]; exact t2.1, by rw [pk_us]; exact t2.2.1, by rw [pk_us]; exact t2.2.2⟩
    · have hh := h s (by omega) h2
      exact ⟨by rw [pk_un e]; exact hh.1, by rw [pk_un e]; exact hh.2.1, by rw [pk_un e]; exact hh.2.2⟩
theorem rc_unp {post : St1 → Prop} {ru sz li co go re wa fo la : Int32} {a1 a2 a3 a4 a5 a6 a7 a8 a9 a10 a11 a12 a13 : Nat → Int32} {a14 : Nat → Int64} {a15 : Nat → Int32} {a16 : Nat → Int64} {a17 a18 : Nat → Int32} {p0 : Int64} {k r : Nat} {M : rc_M} (hli : li = nI k) (hk : k ≤ 5) (hv : rc_vM k M) (hr : r ≤ 12) (e0 : p0 = lN (rc_pk M r k)) (H : ∀ (a8' : Nat → Int32) (a9' : Nat → Int32) (a10' : Nat → Int32), rc_mm k M a8' a9' a10' → post (ru, sz, li, co, go, nI r, 1, fo, la, a1, a2, a3, a4, a5, a6, a7, a8', a9', a10', a11, a12, a13, a14, a15, a16, a17, a18)) : wpX_unpack post (ru, sz, li, co, go, re, wa, fo, la, a1, a2, a3, a4, a5, a6, a7, a8, a9, a10, a11, a12, a13, a14, a15, a16, a17, a18) p0 := by
  subst e0 hli
  exact nm_e ⟨k + 1, rc_unp10 hk hv hr H k a8 a9 a10 (Nat.le_refl k) (fun s h1 h2 => absurd h1 (by omega))⟩
end
section
/-! memories with numbers -/
abbrev rc_S : Type := rc_M × Nat
def rc_G (k f : Nat) (Q : Nat → rc_S) (c : Nat → Nat) (a14 : Nat → Int64) (a15 : Nat → Int32) : Prop := ∀ i, i < f → rc_vM k (Q i).1 ∧ (Q i).2 ≤ 12 ∧ a14 i = lN (rc_pk (Q i).1 (Q i).2 k) ∧ a15 i = nI (c i)
def rc_ql (q : rc_S) : rc_Q := (q.1, (q.2, true))
def rc_cq (T : rc_T) (W : List Nat) (m : Nat) (q : rc_S) : Nat := rc_ct T W m (rc_ql q)
theorem rc_sm_inc (c g : Nat → Nat) (cc : Nat) {i : Nat} : ∀ j, i < j → rc_sm (fun t => (if t = i then c t + cc else c t) * g t) j = rc_sm (fun t => c t * g t) j + cc * g i := by
  intro j
  induction j with
  | zero => intro h; exact absurd h (by omega)
  | succ j ih =>
    intro h
    rw [rc_sm_s, rc_sm_s]
    by_cases e : j = i
    · subst e
      rw [if_pos rfl, Nat.add_mul]
      have h2 : rc_sm (fun t => (if t = j then c t + cc else c t) * g t) j = rc_sm (fun t => c t * g t) j := rc_sm_congr (fun t ht => by rw [if_neg (by omega)])
      rw [h2]
      omega
    · rw [if_neg e, ih (by omega)]
      omega
theorem rc_sm_4 (h : Nat → Nat) : ∀ f, rc_sm h (4 * f) = rc_sm (fun i => rc_sm (fun l => h (4 * i + l)) 4) f := by
  intro f
  induction f with
  | zero => rfl
  | succ f ih =>
    rw [show 4 * (f + 1) = 4 * f + 4 by omega, rc_sm_split, ih]
    rfl
theorem rc_sm_mul (c : Nat) (h : Nat → Nat) : ∀ n, rc_sm (fun i => c * h i) n = c * rc_sm h n := by
  intro n
  induction n with
  | zero => rfl
  | succ n ih => rw [rc_sm_s, rc_sm_s, ih, Nat.mul_add]
theorem rc_keep3 {post : St1 → Prop} {ru sz li co go re wa fo la : Int32} {a1 a2 a3 a4 a5 a6 a7 a8 a9 a10 a11 a12 a13 : Nat → Int32} {a14 : Nat → Int64} {a15 : Nat → Int32} {a16 : Nat → Int64} {a17 a18 : Nat → Int32} {x1 : Int64} {x3 : Int32} {j : Nat} (hla : la = nI j) (hj : j < 1024)
    (H1 : ∀ i, i < j → a16 i = x1 → post (ru, sz, li, co, go, re, wa, fo, la, a1, a2, a3, a4, a5, a6, a7, a8, a9, a10, a11, a12, a13, a14, a15, a16, upd a17 i (a17 i + x3), a18))
    (H2 : (∀ i, i < j → ¬ a16 i = x1) → post (ru, sz, li, co, go, re, wa, fo, nI (j + 1), a1, a2, a3, a4, a5, a6, a7, a8, a9, a10, a11, a12, a13, a14, a15, vp_updL a16 j x1, upd a17 j x3, a18)) : ∀ d i : Nat, i + d = j → (∀ t, t < i → ¬ a16 t = x1) → wX_keepNext_3 post x1 x3 ru sz li co go re wa fo la a1 a2 a3 a4 a5 a6 a7 a8 a9 a10 a11 a12 a13 a14 a15 a16 a17 a18 (d + 1) (nI i) := by
  have hcj : la.toNatClampNeg = j := by
    rw [hla]
    exact nI_clamp (by omega)
  intro d
  induction d with
  | zero =>
    intro i hi h
    have e : i = j := by omega
    subst e
    refine pk_le i i (fun _ => ⟨pk_in i 1024 hj hla, nm_e ⟨pk_in i 1024 hj hla, nm_e (nm_r (e' := nI (i + 1)) (by rw [hla]; exact nI_1 i) ?_)⟩⟩) (fun z => absurd z (by omega)) hla
    rw [hcj]
    exact H2 h
  | succ d ih =>
    intro i hi h
    refine pk_le j i (fun z => absurd z (by omega)) (fun _ => ⟨pk_in i 1024 (by omega), ?_⟩) hla
    rw [nI_clamp (show i < 2 ^ 31 by omega)]
    refine br_c (fun he => ⟨pk_in i 1024 (by omega), pk_in i 1024 (by omega), nm_e (H1 i (by omega) he)⟩) (fun he => nm_r (nI_1 i) (ih (i + 1) (by omega) (fun t ht => ?_)))
    by_cases e : t = i
    · rw [e]
      exact he
    · exact h t (by omega)
theorem rc_keep {post : St1 → Prop} {ru sz li co go re wa fo la : Int32} {a1 a2 a3 a4 a5 a6 a7 a8 a9 a10 a11 a12 a13 : Nat → Int32} {a14 : Nat → Int64} {a15 : Nat → Int32} {a16 : Nat → Int64} {a17 a18 : Nat → Int32} {p0 : Int64} {p1 : Int32} {k j cc r : Nat} {M : rc_M} {Q : Nat → rc_S} {c : Nat → Nat} (hk : k ≤ 5) (hla : la = nI j) (hj : j < 1024) (hG : rc_G k j Q c a16 a17) (e0 : p0 = lN (rc_pk M r k)) (hv : rc_vM k M) (hr : r ≤ 12) (e1 : p1 = nI cc)
    (H : ∀ (j' : Nat) (Q' : Nat → rc_S) (c' : Nat → Nat) (la' : Int32) (a16' : Nat → Int64) (a17' : Nat → Int32), la' = nI j' → j' ≤ j + 1 → rc_G k j' Q' c' a16' a17' → (∀ g : rc_S → Nat, rc_sm (fun t => c' t * g (Q' t)) j' = rc_sm (fun t => c t * g (Q t)) j + cc * g (M, r)) → post (ru, sz, li, co, go, re, wa, fo, la', a1, a2, a3, a4, a5, a6, a7, a8, a9, a10, a11, a12, a13, a14, a15, a16', a17', a18)) : wpX_keepNext post (ru, sz, li, co, go, re, wa, fo, la, a1, a2, a3, a4, a5, a6, a7, a8, a9, a10, a11, a12, a13, a14, a15, a16, a17, a18) p0 p1 := by
  refine ⟨j + 1, rc_keep3 hla hj (fun i hi he => ?_) (fun hn => ?_) j 0 (by omega) (fun t ht => absurd ht (by omega))⟩
  · obtain ⟨g1, g2, g3, g4⟩ := hG i hi
    have hlt := rc_pk_54 g1.1 g2 hk
    have hlt2 := rc_pk_54 hv.1 hr hk
    rw [g3, e0] at he
    have eq := rc_pk_inj g1 hv ((pk_lEQ (by omega) (by omega)).mp he)
    have eQ : Q i = (M, r) := by
      rw [← eq.1, ← eq.2]
    refine H j Q (fun t => if t = i then c t + cc else c t) _ _ _ hla (by omega) (fun t ht => ?_) (fun g => ?_)
    · obtain ⟨t1, t2, t3, t4⟩ := hG t ht
      refine ⟨t1, t2, t3, ?_⟩
      by_cases e : t = i
      · rw [e]
        show _ = nI (if i = i then c i + cc else c i)
        rw [pk_us, if_pos rfl, g4, e1, nI_add]
      · show _ = nI (if t = i then c t + cc else c t)
        rw [pk_un e, if_neg e]
        exact t4
    · rw [rc_sm_inc c (fun t => g (Q t)) cc j hi, eQ]
  · refine H (j + 1) (fun t => if t = j then (M, r) else Q t) (fun t => if t = j then cc else c t) _ _ _ rfl (by omega) (fun t ht => ?_) (fun g => ?_)
    · by_cases e : t = j
      · subst e
        simp only [if_true]
        exact ⟨hv, hr, by rw [pk_uLs, e0], by rw [pk_us, e1]⟩
      · obtain ⟨t1, t2, t3, t4⟩ := hG t (by omega)
        simp only [if_neg e]
        exact ⟨t1, t2, by rw [pk_uLn e]; exact t3, by rw [pk_un e]; exact t4⟩
    · rw [rc_sm_s]
      simp only [if_true]
      congr 1
      refine rc_sm_congr (fun t ht => ?_)
      rw [if_neg (by omega), if_neg (by omega)]
theorem rc_st_v {k : Nat} {T : rc_T} {W : List Nat} {q : rc_S} {x : Nat} (hT : rc_vT k T) (hv : rc_vM k q.1) (hr : q.2 ≤ 12) (hx : x ≤ 4) : rc_vM k (rc_st T W (rc_ql q) x).1 ∧ (rc_st T W (rc_ql q) x).2.1 ≤ 12 :=
  ⟨(hT q.1 x hv hx).1, rc_em_12 W _ hr⟩
theorem rc_ct_ok {T : rc_T} {W : List Nat} {m : Nat} {q : rc_Q} (h : q.2.2 = true) : rc_ct T W m q = rc_cq T W m (q.1, q.2.1) := by
  obtain ⟨M, r, ok⟩ := q
  have h' : ok = true := h
  rw [h']
  rfl
theorem rc_om77 {post : St1 → Prop} {ru : Int32} {sz : Int32} {li : Int32} {co : Int32} {go : Int32} {re : Int32} {wa : Int32} {fo : Int32} {la : Int32} {a1 : Nat → Int32} {a2 : Nat → Int32} {a3 : Nat → Int32} {a4 : Nat → Int32} {a5 : Nat → Int32} {a6 : Nat → Int32} {a7 : Nat → Int32} {a8 : Nat → Int32} {a9 : Nat → Int32} {a10 : Nat → Int32} {a11 : Nat → Int32} {a12 : Nat → Int32} {a13 : Nat → Int32} {a16 : Nat → Int64} {a17 : Nat → Int32} {a18 : Nat → Int32} {j : Nat} (hla : la = nI j) (hj : j ≤ 1024) (H : ∀ (a14' : Nat → Int64) (a15' : Nat → Int32), (∀ t, t < j → a14' t = a16 t ∧ a15' t = a17 t) → post (ru, sz, li, co, go, re, wa, fo, la, a1, a2, a3, a4, a5, a6, a7, a8, a9, a10, a11, a12, a13, a14', a15', a16, a17, a18)) : ∀ (d i : Nat) (a14 : Nat → Int64) (a15 : Nat → Int32), i + d = j → (∀ t, t < i → a14 t = a16 t ∧ a15 t = a17 t) → wX_oneMore_77 post ru sz li co go re wa fo la (d + 1) (nI i) a1 a2 a3 a4 a5 a6 a7 a8 a9 a10 a11 a12 a13 a14 a15 a16 a17 a18 := by
  intro d
  induction d with
  | zero =>
    intro i a14 a15 hi h
    have e : i = j := by omega
    subst e
    exact pk_le i i (fun _ => H _ _ h) (fun z => absurd z (by omega)) hla
  | succ d ih =>
    intro i a14 a15 hi h
    have hp : vp_in (nI i) 1024 := pk_in i 1024 (by omega)
    refine pk_le j i (fun z => absurd z (by omega)) (fun _ => ⟨hp, hp, nm_e ⟨hp, hp, nm_e (nm_r (nI_1 i) (ih (i + 1) _ _ (by omega) (fun t ht => ?_)))⟩⟩) hla
    rw [nI_clamp (show i < 2 ^ 31 by omega)]
    by_cases e : t = i
    · subst e
      exact ⟨pk_uLs, pk_us⟩
    · rw [pk_uLn e, pk_un e]
      exact h t (by omega)
theorem rc_om7 {post : St1 → Prop} {ru : Int32} {sz : Int32} {li : Int32} {fo : Int32} {a1 : Nat → Int32} {a2 : Nat → Int32} {a3 : Nat → Int32} {a4 : Nat → Int32} {a5 : Nat → Int32} {a6 : Nat → Int32} {a7 : Nat → Int32} {a14 : Nat → Int64} {a15 : Nat → Int32} {a18 : Nat → Int32} {k f m : Nat} {A : Nat → Nat} {W : List Nat} {Q : Nat → rc_S} {c : Nat → Nat} (hC : rc_C k A W sz li a1 a2 a3 a4 a5 a6 a7) (hfo : fo = nI f) (hf : 4 * f ≤ 1024) (hG : rc_G k f Q c a14 a15)
    (H : ∀ (f' : Nat) (Q' : Nat → rc_S) (c' : Nat → Nat) (co' : Int32) (go' : Int32) (re' : Int32) (wa' : Int32) (a8' : Nat → Int32) (a9' : Nat → Int32) (a10' : Nat → Int32) (a11' : Nat → Int32) (a12' : Nat → Int32) (a13' : Nat → Int32) (fo' : Int32) (la' : Int32) (a14' : Nat → Int64) (a15' : Nat → Int32) (a16' : Nat → Int64) (a17' : Nat → Int32), fo' = nI f' → f' ≤ 4 * f → rc_G k f' Q' c' a14' a15' → rc_sm (fun t => c' t * rc_cq (rc_tA k A a1 a2 a3 a4 a5) W m (Q' t)) f' = rc_sm (fun t => c t * rc_cq (rc_tA k A a1 a2 a3 a4 a5) W (m + 1) (Q t)) f → post (ru, sz, li, co', go', re', wa', fo', la', a1, a2, a3, a4, a5, a6, a7, a8', a9', a10', a11', a12', a13', a14', a15', a16', a17', a18)) :
    ∀ (d kk j : Nat) (Q' : Nat → rc_S) (c' : Nat → Nat) (co : Int32) (go : Int32) (re : Int32) (wa : Int32) (a8 : Nat → Int32) (a9 : Nat → Int32) (a10 : Nat → Int32) (a11 : Nat → Int32) (a12 : Nat → Int32) (a13 : Nat → Int32) (la : Int32) (a16 : Nat → Int64) (a17 : Nat → Int32), kk + d = 4 * f → la = nI j → j ≤ kk → rc_G k j Q' c' a16 a17 → rc_sm (fun t => c' t * rc_cq (rc_tA k A a1 a2 a3 a4 a5) W m (Q' t)) j = rc_sm (fun t => c (t / 4) * rc_ct (rc_tA k A a1 a2 a3 a4 a5) W m (rc_st (rc_tA k A a1 a2 a3 a4 a5) W (rc_ql (Q (t / 4))) (t % 4))) kk → wX_oneMore_7 post (d + 1) (nI kk) ru sz li co go re wa fo la a1 a2 a3 a4 a5 a6 a7 a8 a9 a10 a11 a12 a13 a14 a15 a16 a17 a18 := by
  have hC' := hC
  obtain ⟨hli, hk5, hA, hK, hW⟩ := hC'
  have hT := rc_tA_v (k := k) (A := A) hK
  have h4 : (4 : Int32) * fo = nI (4 * f) := by
    rw [hfo, show (4 : Int32) = nI 4 from rfl, pk_mul]
  intro d
  induction d with
  | zero =>
    intro kk j Q' c' co go re wa a8 a9 a10 a11 a12 a13 la a16 a17 hd hla hj hG' hs
    have e : kk = 4 * f := by omega
    subst e
    refine pk_le (4 * f) (4 * f) (fun _ => ⟨j + 1, rc_om77 hla (by omega) (fun a14' a15' h => ?_) j 0 _ _ (by omega) (fun t ht => absurd ht (by omega))⟩) (fun z => absurd z (by omega)) h4
    refine H j Q' c' _ _ _ _ _ _ _ _ _ _ _ _ _ _ _ _ hla hj (fun t ht => ?_) ?_
    · obtain ⟨t1, t2, t3, t4⟩ := hG' t ht
      exact ⟨t1, t2, (h t ht).1.trans t3, (h t ht).2.trans t4⟩
    · rw [hs, rc_sm_4]
      refine rc_sm_congr (fun i _ => ?_)
      show _ = c i * rc_sm (fun l => rc_ct (rc_tA k A a1 a2 a3 a4 a5) W m (rc_st (rc_tA k A a1 a2 a3 a4 a5) W (rc_ql (Q i)) l)) 4
      rw [← rc_sm_mul]
      refine rc_sm_congr (fun l hl => ?_)
      rw [show (4 * i + l) / 4 = i by omega, show (4 * i + l) % 4 = l by omega]
  | succ d ih =>
    intro kk j Q' c' co go re wa a8 a9 a10 a11 a12 a13 la a16 a17 hd hla hj hG' hs
    have hi : kk / 4 < f := by omega
    obtain ⟨q1, q2, q3, q4⟩ := hG (kk / 4) hi
    have hl : kk % 4 < 4 := Nat.mod_lt _ (by decide)
    have e1 : nI kk >>> ((2 : Int32) &&& 31) = nI (kk / 4) := pk_shrN (by omega) _ 2 (by decide)
    have e2 : nI kk &&& 3 = nI (kk % 4) := pk_andN (k := 2) (by omega) (by decide)
    have hv := rc_st_v (W := W) (q := Q (kk / 4)) (x := kk % 4) hT q1 q2 (by omega)
    refine pk_le (4 * f) kk (fun z => absurd z (by omega)) (fun _ => ?_) h4
    rw [e1, e2, nI_clamp (show kk / 4 < 2 ^ 31 by omega)]
    refine ⟨pk_in (kk / 4) 1024 (by omega), rc_unp hli hk5 q1 q2 q3 (fun a8' a9' a10' hmm => ?_)⟩
    refine rc_feed (ok := true) hC rfl (by omega) q1 hmm rfl q2 rfl (fun co' go' re' wa' a8'' a9'' a10'' a11' a12' a13' k1 k2 k3 k4 => ?_)
    refine br_c (fun hw => ?_) (fun hw => ?_)
    · have hok := rc_bi_0 (k2.symm.trans hw)
      refine nm_r (nI_1 kk) (ih (kk + 1) j Q' c' _ _ _ _ _ _ _ _ _ _ _ _ _ (by omega) hla (by omega) hG' ?_)
      rw [rc_sm_s, hs]
      have z : rc_ct (rc_tA k A a1 a2 a3 a4 a5) W m (rc_st (rc_tA k A a1 a2 a3 a4 a5) W (rc_ql (Q (kk / 4))) (kk % 4)) = 0 := rc_ct_f hok
      rw [z]
      rfl
    · have hok := rc_bi_1 (b := (rc_st (rc_tA k A a1 a2 a3 a4 a5) W (rc_ql (Q (kk / 4))) (kk % 4)).2.2) (fun z => hw (k2.trans z))
      refine rc_pack hli hk5 hv.1 k3 k1 hv.2 ⟨pk_in (kk / 4) 1024 (by omega), ?_⟩
      refine rc_keep hk5 hla (by omega) hG' rfl hv.1 hv.2 q4 (fun j' Q'' c'' la' a16' a17' l1 l2 l3 l4 => ?_)
      refine nm_r (nI_1 kk) (ih (kk + 1) j' Q'' c'' _ _ _ _ _ _ _ _ _ _ _ _ _ (by omega) l1 (by omega) l3 ?_)
      rw [rc_sm_s, ← hs, l4, rc_ct_ok hok]
      rfl
theorem rc_om {post : St1 → Prop} {ru sz li co go re wa fo la : Int32} {a1 a2 a3 a4 a5 a6 a7 a8 a9 a10 a11 a12 a13 : Nat → Int32} {a14 : Nat → Int64} {a15 : Nat → Int32} {a16 : Nat → Int64} {a17 a18 : Nat → Int32} {k f m : Nat} {A : Nat → Nat} {W : List Nat} {Q : Nat → rc_S} {c : Nat → Nat} (hC : rc_C k A W sz li a1 a2 a3 a4 a5 a6 a7) (hfo : fo = nI f) (hf : 4 * f ≤ 1024) (hG : rc_G k f Q c a14 a15)
    (H : ∀ (f' : Nat) (Q' : Nat → rc_S) (c' : Nat → Nat) (co' : Int32) (go' : Int32) (re' : Int32) (wa' : Int32) (a8' : Nat → Int32) (a9' : Nat → Int32) (a10' : Nat → Int32) (a11' : Nat → Int32) (a12' : Nat → Int32) (a13' : Nat → Int32) (fo' : Int32) (la' : Int32) (a14' : Nat → Int64) (a15' : Nat → Int32) (a16' : Nat → Int64) (a17' : Nat → Int32), fo' = nI f' → f' ≤ 4 * f → rc_G k f' Q' c' a14' a15' → rc_sm (fun t => c' t * rc_cq (rc_tA k A a1 a2 a3 a4 a5) W m (Q' t)) f' = rc_sm (fun t => c t * rc_cq (rc_tA k A a1 a2 a3 a4 a5) W (m + 1) (Q t)) f → post (ru, sz, li, co', go', re', wa', fo', la', a1, a2, a3, a4, a5, a6, a7, a8', a9', a10', a11', a12', a13', a14', a15', a16', a17', a18)) : wpX_oneMore post (ru, sz, li, co, go, re, wa, fo, la, a1, a2, a3, a4, a5, a6, a7, a8, a9, a10, a11, a12, a13, a14, a15, a16, a17, a18) :=
  ⟨4 * f + 1, rc_om7 hC hfo hf hG H (4 * f) 0 0 Q c _ _ _ _ _ _ _ _ _ _ _ _ _ (by omega) rfl (by omega) (fun i hi => absurd hi (by omega)) rfl⟩
theorem rc_cf44 {post : Int32 → St1 → Prop} {ru : Int32} {sz : Int32} {li : Int32} {fo : Int32} {la : Int32} {a1 : Nat → Int32} {a2 : Nat → Int32} {a3 : Nat → Int32} {a4 : Nat → Int32} {a5 : Nat → Int32} {a6 : Nat → Int32} {a7 : Nat → Int32} {a14 : Nat → Int64} {a15 : Nat → Int32} {a16 : Nat → Int64} {a17 : Nat → Int32} {a18 : Nat → Int32} {k f : Nat} {A : Nat → Nat} {W : List Nat} {Q : Nat → rc_S} {c : Nat → Nat} (hC : rc_C k A W sz li a1 a2 a3 a4 a5 a6 a7) (hfo : fo = nI f) (hf : f ≤ 1024) (hG : rc_G k f Q c a14 a15)
    (H : ∀ (co' : Int32) (go' : Int32) (re' : Int32) (wa' : Int32) (a8' : Nat → Int32) (a9' : Nat → Int32) (a10' : Nat → Int32) (a11' : Nat → Int32) (a12' : Nat → Int32) (a13' : Nat → Int32), post (nI (rc_sm (fun t => c t * rc_cq (rc_tA k A a1 a2 a3 a4 a5) W 0 (Q t)) f)) (ru, sz, li, co', go', re', wa', fo, la, a1, a2, a3, a4, a5, a6, a7, a8', a9', a10', a11', a12', a13', a14, a15, a16, a17, a18)) :
    ∀ (d i : Nat) (co : Int32) (go : Int32) (re : Int32) (wa : Int32) (a8 : Nat → Int32) (a9 : Nat → Int32) (a10 : Nat → Int32) (a11 : Nat → Int32) (a12 : Nat → Int32) (a13 : Nat → Int32), i + d = f → wX_countFrom_44 post (d + 1) (nI (rc_sm (fun t => c t * rc_cq (rc_tA k A a1 a2 a3 a4 a5) W 0 (Q t)) i)) (nI i) ru sz li co go re wa fo la a1 a2 a3 a4 a5 a6 a7 a8 a9 a10 a11 a12 a13 a14 a15 a16 a17 a18 := by
  have hC' := hC
  obtain ⟨hli, hk5, hA, hK, hW⟩ := hC'
  have hT := rc_tA_v (k := k) (A := A) hK
  intro d
  induction d with
  | zero =>
    intro i co go re wa a8 a9 a10 a11 a12 a13 hd
    have e : i = f := by omega
    subst e
    exact pk_le i i (fun _ => H _ _ _ _ _ _ _ _ _ _) (fun z => absurd z (by omega)) hfo
  | succ d ih =>
    intro i co go re wa a8 a9 a10 a11 a12 a13 hd
    obtain ⟨q1, q2, q3, q4⟩ := hG i (by omega)
    have hv := rc_st_v (W := W) (q := Q i) (x := 4) hT q1 q2 (by omega)
    refine pk_le f i (fun z => absurd z (by omega)) (fun _ => ⟨pk_in i 1024 (by omega), ?_⟩) hfo
    rw [nI_clamp (show i < 2 ^ 31 by omega)]
    refine rc_unp hli hk5 q1 q2 q3 (fun a8' a9' a10' hmm => ?_)
    refine rc_feed (x := 4) (ok := true) hC rfl (by omega) q1 hmm rfl q2 rfl (fun co' go' re' wa' a8'' a9'' a10'' a11' a12' a13' k1 k2 k3 k4 => ?_)
    have skip : rc_ac W (rc_st (rc_tA k A a1 a2 a3 a4 a5) W (rc_ql (Q i)) 4) = 0 → wX_countFrom_44 post (d + 1) (nI (rc_sm (fun t => c t * rc_cq (rc_tA k A a1 a2 a3 a4 a5) W 0 (Q t)) i)) (nI (i + 1)) ru sz li co' go' re' wa' fo la a1 a2 a3 a4 a5 a6 a7 a8'' a9'' a10'' a11' a12' a13' a14 a15 a16 a17 a18 := by
      intro z
      have h := ih (i + 1) co' go' re' wa' a8'' a9'' a10'' a11' a12' a13' (by omega)
      rw [rc_sm_s] at h
      have z2 : rc_cq (rc_tA k A a1 a2 a3 a4 a5) W 0 (Q i) = 0 := z
      rw [z2] at h
      exact h
    refine br_c (fun hw => nm_r (nI_1 i) (skip ?_)) (fun hw => ?_)
    · exact rc_ac_f (rc_bi_0 (k2.symm.trans hw))
    · have hok := rc_bi_1 (b := (rc_st (rc_tA k A a1 a2 a3 a4 a5) W (rc_ql (Q i)) 4).2.2) (fun z => hw (k2.trans z))
      have hv2 := hv.2
      have hW2 := hW.2.1
      refine pk_eq (rc_st (rc_tA k A a1 a2 a3 a4 a5) W (rc_ql (Q i)) 4).2.1 W.length (fun he => ⟨pk_in i 1024 (by omega), ?_⟩) (fun he => nm_r (nI_1 i) (skip ?_)) k1 hW.1
      · have h := ih (i + 1) co' go' re' wa' a8'' a9'' a10'' a11' a12' a13' (by omega)
        have z2 : rc_cq (rc_tA k A a1 a2 a3 a4 a5) W 0 (Q i) = 1 := if_pos ⟨hok, he⟩
        rw [rc_sm_s, z2, Nat.mul_one] at h
        refine nm_r (e' := nI (rc_sm (fun t => c t * rc_cq (rc_tA k A a1 a2 a3 a4 a5) W 0 (Q t)) i + c i)) ?_ (nm_r (nI_1 i) h)
        rw [q4, nI_add]
      · exact if_neg (fun z => he z.2)
theorem rc_cf22 {post : Int32 → St1 → Prop} {ru : Int32} {sz : Int32} {li : Int32} {a1 : Nat → Int32} {a2 : Nat → Int32} {a3 : Nat → Int32} {a4 : Nat → Int32} {a5 : Nat → Int32} {a6 : Nat → Int32} {a7 : Nat → Int32} {a18 : Nat → Int32} {x3 : Int32} {k n Z : Nat} {A : Nat → Nat} {W : List Nat} (hC : rc_C k A W sz li a1 a2 a3 a4 a5 a6 a7) (e3 : x3 = nI n) (hn : n ≤ 5)
    (H : ∀ (co' : Int32) (go' : Int32) (re' : Int32) (wa' : Int32) (a8' : Nat → Int32) (a9' : Nat → Int32) (a10' : Nat → Int32) (a11' : Nat → Int32) (a12' : Nat → Int32) (a13' : Nat → Int32) (fo' : Int32) (la' : Int32) (a14' : Nat → Int64) (a15' : Nat → Int32) (a16' : Nat → Int64) (a17' : Nat → Int32), post (nI Z) (ru, sz, li, co', go', re', wa', fo', la', a1, a2, a3, a4, a5, a6, a7, a8', a9', a10', a11', a12', a13', a14', a15', a16', a17', a18)) :
    ∀ (d t f : Nat) (Q : Nat → rc_S) (c : Nat → Nat) (co : Int32) (go : Int32) (re : Int32) (wa : Int32) (a8 : Nat → Int32) (a9 : Nat → Int32) (a10 : Nat → Int32) (a11 : Nat → Int32) (a12 : Nat → Int32) (a13 : Nat → Int32) (fo : Int32) (la : Int32) (a14 : Nat → Int64) (a15 : Nat → Int32) (a16 : Nat → Int64) (a17 : Nat → Int32), t + d = n → fo = nI f → f ≤ 4 ^ t → rc_G k f Q c a14 a15 → rc_sm (fun i => c i * rc_cq (rc_tA k A a1 a2 a3 a4 a5) W d (Q i)) f = Z → wX_countFrom_22 post x3 (d + 1) (nI t) ru sz li co go re wa fo la a1 a2 a3 a4 a5 a6 a7 a8 a9 a10 a11 a12 a13 a14 a15 a16 a17 a18 := by
  intro d
  induction d with
  | zero =>
    intro t f Q c co go re wa a8 a9 a10 a11 a12 a13 fo la a14 a15 a16 a17 hd hfo hf hG hs
    have e : t = n := by omega
    subst e
    have h5 : 4 ^ t ≤ 4 ^ 5 := Nat.pow_le_pow_right (by decide) hn
    have h6 : 4 ^ 5 = 1024 := by decide
    refine pk_le t t (fun _ => ⟨f + 1, rc_cf44 hC hfo (by omega) hG ?_ f 0 _ _ _ _ _ _ _ _ _ _ (by omega)⟩) (fun z => absurd z (by omega)) e3
    rw [hs]
    intro co' go' re' wa' a8' a9' a10' a11' a12' a13'
    exact H _ _ _ _ _ _ _ _ _ _ _ _ _ _ _ _
  | succ d ih =>
    intro t f Q c co go re wa a8 a9 a10 a11 a12 a13 fo la a14 a15 a16 a17 hd hfo hf hG hs
    have h5 : 4 ^ (t + 1) ≤ 4 ^ 5 := Nat.pow_le_pow_right (by decide) (by omega)
    have h6 : 4 ^ 5 = 1024 := by decide
    rw [Nat.pow_succ] at h5
    refine pk_le n t (fun z => absurd z (by omega)) (fun _ => rc_om (m := d) hC hfo (by omega) hG (fun f' Q' c' co' go' re' wa' a8' a9' a10' a11' a12' a13' fo' la' a14' a15' a16' a17' l1 l2 l3 l4 => nm_r (nI_1 t) ?_)) e3
    exact ih (t + 1) f' Q' c' _ _ _ _ _ _ _ _ _ _ _ _ _ _ _ _ (by omega) l1 (by rw [Nat.pow_succ]; omega) l3 (l4.trans hs)
theorem rc_count {post : Int32 → St1 → Prop} {ru sz li co go re wa fo la : Int32} {a1 a2 a3 a4 a5 a6 a7 a8 a9 a10 a11 a12 a13 : Nat → Int32} {a14 : Nat → Int64} {a15 : Nat → Int32} {a16 : Nat → Int64} {a17 a18 : Nat → Int32} {p0 : Int64} {p1 : Int32} {k n : Nat} {q : rc_S} {A : Nat → Nat} {W : List Nat} (hC : rc_C k A W sz li a1 a2 a3 a4 a5 a6 a7) (hv : rc_vM k q.1) (hr : q.2 ≤ 12) (e0 : p0 = lN (rc_pk q.1 q.2 k)) (e1 : p1 = nI n) (hn : n ≤ 5)
    (H : ∀ (co' : Int32) (go' : Int32) (re' : Int32) (wa' : Int32) (a8' : Nat → Int32) (a9' : Nat → Int32) (a10' : Nat → Int32) (a11' : Nat → Int32) (a12' : Nat → Int32) (a13' : Nat → Int32) (fo' : Int32) (la' : Int32) (a14' : Nat → Int64) (a15' : Nat → Int32) (a16' : Nat → Int64) (a17' : Nat → Int32), post (nI (rc_cq (rc_tA k A a1 a2 a3 a4 a5) W n q)) (ru, sz, li, co', go', re', wa', fo', la', a1, a2, a3, a4, a5, a6, a7, a8', a9', a10', a11', a12', a13', a14', a15', a16', a17', a18)) : wpX_countFrom post (ru, sz, li, co, go, re, wa, fo, la, a1, a2, a3, a4, a5, a6, a7, a8, a9, a10, a11, a12, a13, a14, a15, a16, a17, a18) p0 p1 := by
  refine nm_e (nm_e ⟨n + 1, rc_cf22 hC e1 hn H n 0 1 (fun _ => q) (fun _ => 1) _ _ _ _ _ _ _ _ _ _ _ _ _ _ _ _ (by omega) rfl (Nat.le_refl 1) (fun i hi => ?_) ?_⟩)
  · have e : i = 0 := by omega
    subst e
    exact ⟨hv, hr, by rw [pk_uLs, e0], by rw [pk_us]; rfl⟩
  · show 0 + 1 * rc_cq (rc_tA k A a1 a2 a3 a4 a5) W n q = _
    omega
theorem rc_badN {post : Int32 → Prop} {u : St1} {p0 : Int32} {n : Nat} (e0 : p0 = nI n) (hn : n ≤ 5) (H : post 0) : wpX_badNumber post u p0 := by
  obtain ⟨_, _, _, _, _, _, _, _, _, _, _, _, _, _, _, _, _, _, _, _, _, _, _, _, _, _, _⟩ := u
  exact pk_lt n 0 (fun z => absurd z (by omega)) (fun _ => pk_le n 5 (fun _ => H) (fun z => absurd z (by omega)) e0) e0
/-- how many words of n letters give W -/
def rc_Z (k : Nat) (a1 a2 a3 a4 a5 : Nat → Int32) (W : List Nat) (n : Nat) : Nat := rc_sm (fun v => rc_eq (rc_F (rc_tk k a1 a2 a3 a4 a5) (rc_dg n v)) W) (4 ^ n)
theorem rc_Z_ub (k : Nat) (a1 a2 a3 a4 a5 : Nat → Int32) (W : List Nat) (n : Nat) : rc_Z k a1 a2 a3 a4 a5 W n ≤ 4 ^ n := rc_sm_ub (fun i _ => rc_eq_ub _ _)
theorem rc_srcs {post : Int32 → St1 → Prop} {ru sz li co go re wa fo la : Int32} {a1 a2 a3 a4 a5 a6 a7 a8 a9 a10 a11 a12 a13 : Nat → Int32} {a14 : Nat → Int64} {a15 : Nat → Int32} {a16 : Nat → Int64} {a17 a18 : Nat → Int32} {p0 : Int32} {k n : Nat} {W : List Nat} (hP : rc_P k W ru sz a1 a2 a3 a4 a5 a6) (e0 : p0 = nI n) (hn : n ≤ 5)
    (H : ∀ (li' : Int32) (a7' : Nat → Int32) (co' : Int32) (go' : Int32) (re' : Int32) (wa' : Int32) (a8' : Nat → Int32) (a9' : Nat → Int32) (a10' : Nat → Int32) (a11' : Nat → Int32) (a12' : Nat → Int32) (a13' : Nat → Int32) (fo' : Int32) (la' : Int32) (a14' : Nat → Int64) (a15' : Nat → Int32) (a16' : Nat → Int64) (a17' : Nat → Int32), post (nI (rc_Z k a1 a2 a3 a4 a5 W n)) (ru, sz, li', co', go', re', wa', fo', la', a1, a2, a3, a4, a5, a6, a7', a8', a9', a10', a11', a12', a13', a14', a15', a16', a17', a18)) : wpX_sources post (ru, sz, li, co, go, re, wa, fo, la, a1, a2, a3, a4, a5, a6, a7, a8, a9, a10, a11, a12, a13, a14, a15, a16, a17, a18) p0 := by
  obtain ⟨hru, hk, hK, hW⟩ := hP
  unfold wpX_sources
  dsimp only
  refine rc_badN e0 hn (br_t rfl (rc_use hru hk (fun a7' h7 => rc_beg (fun a8' a9' a10' hmm => ?_))))
  have hC : rc_C k (fun s => s) W sz ru a1 a2 a3 a4 a5 a6 a7' := ⟨hru, hk, fun s hs => ⟨h7 s hs, by show s < 5; omega⟩, hK, hW⟩
  refine rc_pack (r := 0) hru hk (rc_vM0 k) (rc_mm_le hmm hk) rfl (by omega) (rc_count (q := (rc_M0, 0)) hC (rc_vM0 k) (by show 0 ≤ 12; omega) rfl e0 hn ?_)
  intro co' go' re' wa' a8' a9' a10' a11' a12' a13' fo' la' a14' a15' a16' a17'
  have e : rc_cq (rc_tA k (fun s => s) a1 a2 a3 a4 a5) W n (rc_M0, 0) = rc_Z k a1 a2 a3 a4 a5 W n := rc_ct_F _ W n
  rw [e]
  exact H _ _ _ _ _ _ _ _ _ _ _ _ _ _ _ _ _ _
end
section
/-! source: the k-th word that gives the word -/
theorem rc_ct_ub (T : rc_T) (W : List Nat) (m : Nat) (q : rc_Q) : rc_ct T W m q ≤ 4 ^ m := by
  rw [rc_ct_av]
  exact rc_sm_ub (fun i _ => rc_av_ub T W m q i)
theorem rc_ql_st {q : rc_Q} (h : q.2.2 = true) : rc_ql (q.1, q.2.1) = q := by
  obtain ⟨M, r, ok⟩ := q
  have h' : ok = true := h
  rw [h']
  rfl
theorem rc_p46 {m : Nat} (h : m ≤ 5) : 4 ^ m ≤ 1024 := by
  have h5 : 4 ^ m ≤ 4 ^ 5 := Nat.pow_le_pow_right (by decide) h
  have h6 : 4 ^ 5 = 1024 := by decide
  omega
theorem rc_src79 {post : Int32 → St1 → Prop} {J59 : Int64 → Int32 → Int32 → Int32 → Int32 → Int32 → Int32 → Int32 → Int32 → Int32 → Int32 → Int32 → Int32 → (Nat → Int32) → (Nat → Int32) → (Nat → Int32) → (Nat → Int32) → (Nat → Int32) → (Nat → Int32) → (Nat → Int32) → (Nat → Int32) → (Nat → Int32) → (Nat → Int32) → (Nat → Int32) → (Nat → Int32) → (Nat → Int32) → (Nat → Int64) → (Nat → Int32) → (Nat → Int64) → (Nat → Int32) → (Nat → Int32) → Prop} {ru : Int32} {sz : Int32} {li : Int32} {a1 : Nat → Int32} {a2 : Nat → Int32} {a3 : Nat → Int32} {a4 : Nat → Int32} {a5 : Nat → Int32} {a6 : Nat → Int32} {a7 : Nat → Int32} {a18 : Nat → Int32} {x3 : Int64} {x7 x8 : Int32} {k m left0 : Nat} {q : rc_S} {A : Nat → Nat} {W : List Nat} (hC : rc_C k A W sz li a1 a2 a3 a4 a5 a6 a7) (hv : rc_vM k q.1) (hr : q.2 ≤ 12) (e3 : x3 = lN (rc_pk q.1 q.2 k)) (e8 : x8 = nI m) (hm : m ≤ 5) (hleft : left0 < rc_ct (rc_tA k A a1 a2 a3 a4 a5) W (m + 1) (rc_ql q))
    (H : ∀ (l left : Nat) (co' : Int32) (go' : Int32) (re' : Int32) (wa' : Int32) (a8' : Nat → Int32) (a9' : Nat → Int32) (a10' : Nat → Int32) (a11' : Nat → Int32) (a12' : Nat → Int32) (a13' : Nat → Int32) (fo' : Int32) (la' : Int32) (a14' : Nat → Int64) (a15' : Nat → Int32) (a16' : Nat → Int64) (a17' : Nat → Int32), l < 4 → left < rc_ct (rc_tA k A a1 a2 a3 a4 a5) W m (rc_st (rc_tA k A a1 a2 a3 a4 a5) W (rc_ql q) l) → left0 = left + rc_sm (fun j => rc_ct (rc_tA k A a1 a2 a3 a4 a5) W m (rc_st (rc_tA k A a1 a2 a3 a4 a5) W (rc_ql q) j)) l → J59 (lN (rc_pk (rc_st (rc_tA k A a1 a2 a3 a4 a5) W (rc_ql q) l).1 (rc_st (rc_tA k A a1 a2 a3 a4 a5) W (rc_ql q) l).2.1 k)) (nI left) (4 * x7 + nI l) (x8 + (-1)) ru sz li co' go' re' wa' fo' la' a1 a2 a3 a4 a5 a6 a7 a8' a9' a10' a11' a12' a13' a14' a15' a16' a17' a18) :
    ∀ (d l left : Nat) (x9 : Int32) (x10 : Int64) (co : Int32) (go : Int32) (re : Int32) (wa : Int32) (a8 : Nat → Int32) (a9 : Nat → Int32) (a10 : Nat → Int32) (a11 : Nat → Int32) (a12 : Nat → Int32) (a13 : Nat → Int32) (fo : Int32) (la : Int32) (a14 : Nat → Int64) (a15 : Nat → Int32) (a16 : Nat → Int64) (a17 : Nat → Int32), l + d = 4 → left0 = left + rc_sm (fun j => rc_ct (rc_tA k A a1 a2 a3 a4 a5) W m (rc_st (rc_tA k A a1 a2 a3 a4 a5) W (rc_ql q) j)) l → wX_source_79 post J59 x3 x7 x8 (d + 1) (nI left) x9 x10 1 (nI l) ru sz li co go re wa fo la a1 a2 a3 a4 a5 a6 a7 a8 a9 a10 a11 a12 a13 a14 a15 a16 a17 a18 := by
  have hC' := hC
  obtain ⟨hli, hk5, hA, hK, hW⟩ := hC'
  have hT := rc_tA_v (k := k) (A := A) hK
  have hub := rc_ct_ub (rc_tA k A a1 a2 a3 a4 a5) W (m + 1) (rc_ql q)
  have h46 := rc_p46 hm
  rw [Nat.pow_succ] at hub
  intro d
  induction d with
  | zero =>
    intro l left x9 x10 co go re wa a8 a9 a10 a11 a12 a13 fo la a14 a15 a16 a17 hd hs
    have e : l = 4 := by omega
    subst e
    have e2 : rc_ct (rc_tA k A a1 a2 a3 a4 a5) W (m + 1) (rc_ql q) = rc_sm (fun j => rc_ct (rc_tA k A a1 a2 a3 a4 a5) W m (rc_st (rc_tA k A a1 a2 a3 a4 a5) W (rc_ql q) j)) 4 := rfl
    exact absurd hleft (by omega)
  | succ d ih =>
    intro l left x9 x10 co go re wa a8 a9 a10 a11 a12 a13 fo la a14 a15 a16 a17 hd hs
    have hvs := rc_st_v (W := W) (q := q) (x := l) hT hv hr (by omega)
    have hub2 := rc_ct_ub (rc_tA k A a1 a2 a3 a4 a5) W m (rc_st (rc_tA k A a1 a2 a3 a4 a5) W (rc_ql q) l)
    refine pk_le 4 l (fun z => absurd z (by omega)) (fun _ => br_f rc_10 (rc_unp hli hk5 hv hr e3 (fun a8' a9' a10' hmm => ?_)))
    refine rc_feed (x := l) (ok := true) hC rfl (by omega) hv hmm rfl hr rfl (fun co' go' re' wa' a8'' a9'' a10'' a11' a12' a13' k1 k2 k3 k4 => ?_)
    refine rc_pack hli hk5 hvs.1 k3 k1 hvs.2 (rc_count (q := ((rc_st (rc_tA k A a1 a2 a3 a4 a5) W (rc_ql q) l).1, (rc_st (rc_tA k A a1 a2 a3 a4 a5) W (rc_ql q) l).2.1)) hC hvs.1 hvs.2 rfl e8 hm ?_)
    intro co' go' re' wa' a8' a9' a10' a11' a12' a13' fo' la' a14' a15' a16' a17'
    have go134 : ∀ z0 : Int32, z0 = nI (rc_ct (rc_tA k A a1 a2 a3 a4 a5) W m (rc_st (rc_tA k A a1 a2 a3 a4 a5) W (rc_ql q) l)) → wX_source_134 post J59 (wX_source_79 post J59 x3 x7 x8 (d + 1)) x3 (nI left) x7 x8 (lN (rc_pk (rc_st (rc_tA k A a1 a2 a3 a4 a5) W (rc_ql q) l).1 (rc_st (rc_tA k A a1 a2 a3 a4 a5) W (rc_ql q) l).2.1 k)) (nI l) z0 ru sz li co' go' re' wa' fo' la' a1 a2 a3 a4 a5 a6 a7 a8' a9' a10' a11' a12' a13' a14' a15' a16' a17' a18 := by
      intro z0 hz
      refine pk_lt left (rc_ct (rc_tA k A a1 a2 a3 a4 a5) W m (rc_st (rc_tA k A a1 a2 a3 a4 a5) W (rc_ql q) l)) (fun h => ?_) (fun h => ?_) rfl hz
      · have ex : wX_source_177 post J59 (nI left) x7 x8 (nI l) (lN (rc_pk (rc_st (rc_tA k A a1 a2 a3 a4 a5) W (rc_ql q) l).1 (rc_st (rc_tA k A a1 a2 a3 a4 a5) W (rc_ql q) l).2.1 k)) ru sz li co' go' re' wa' fo' la' a1 a2 a3 a4 a5 a6 a7 a8' a9' a10' a11' a12' a13' a14' a15' a16' a17' a18 := nm_e (nm_e (H l left _ _ _ _ _ _ _ _ _ _ _ _ _ _ _ _ (by omega) h hs))
        exact br_t rfl (nm_r (nI_1 l) (pk_le 4 (l + 1) (fun _ => ex) (fun _ => br_t rfl ex)))
      · refine br_f rc_10 (nm_r (e' := nI (left - rc_ct (rc_tA k A a1 a2 a3 a4 a5) W m (rc_st (rc_tA k A a1 a2 a3 a4 a5) W (rc_ql q) l))) (by rw [hz]; exact pk_sub h) (nm_r (nI_1 l) (ih (l + 1) _ _ _ _ _ _ _ _ _ _ _ _ _ _ _ _ _ _ _ (by omega) ?_)))
        rw [rc_sm_s]
        omega
    refine br_c (fun hw => go134 0 ?_) (fun hw => go134 _ ?_)
    · have hok := rc_bi_0 (k2.symm.trans hw)
      rw [rc_ct_f (T := rc_tA k A a1 a2 a3 a4 a5) (W := W) (n := m) (q := rc_st (rc_tA k A a1 a2 a3 a4 a5) W (rc_ql q) l) hok]
      rfl
    · have hok := rc_bi_1 (b := (rc_st (rc_tA k A a1 a2 a3 a4 a5) W (rc_ql q) l).2.2) (fun z => hw (k2.trans z))
      rw [rc_ct_ok hok]
theorem rc_src59 {post : Int32 → St1 → Prop} {ru : Int32} {sz : Int32} {li : Int32} {a1 : Nat → Int32} {a2 : Nat → Int32} {a3 : Nat → Int32} {a4 : Nat → Int32} {a5 : Nat → Int32} {a6 : Nat → Int32} {a7 : Nat → Int32} {a18 : Nat → Int32} {k : Nat} {A : Nat → Nat} {W : List Nat} (hC : rc_C k A W sz li a1 a2 a3 a4 a5 a6 a7) :
    ∀ (m : Nat) (q : rc_S) (left c : Nat) (co : Int32) (go : Int32) (re : Int32) (wa : Int32) (a8 : Nat → Int32) (a9 : Nat → Int32) (a10 : Nat → Int32) (a11 : Nat → Int32) (a12 : Nat → Int32) (a13 : Nat → Int32) (fo : Int32) (la : Int32) (a14 : Nat → Int64) (a15 : Nat → Int32) (a16 : Nat → Int64) (a17 : Nat → Int32), m ≤ 5 → rc_vM k q.1 → q.2 ≤ 12 → left < rc_ct (rc_tA k A a1 a2 a3 a4 a5) W m (rc_ql q) →
    (∀ (v : Nat) (co' : Int32) (go' : Int32) (re' : Int32) (wa' : Int32) (a8' : Nat → Int32) (a9' : Nat → Int32) (a10' : Nat → Int32) (a11' : Nat → Int32) (a12' : Nat → Int32) (a13' : Nat → Int32) (fo' : Int32) (la' : Int32) (a14' : Nat → Int64) (a15' : Nat → Int32) (a16' : Nat → Int64) (a17' : Nat → Int32), v < 4 ^ m → rc_av (rc_tA k A a1 a2 a3 a4 a5) W m (rc_ql q) v = 1 → rc_sm (rc_av (rc_tA k A a1 a2 a3 a4 a5) W m (rc_ql q)) v = left → post (nI (c * 4 ^ m + v)) (ru, sz, li, co', go', re', wa', fo', la', a1, a2, a3, a4, a5, a6, a7, a8', a9', a10', a11', a12', a13', a14', a15', a16', a17', a18)) → wX_source_59 post (m + 1) (lN (rc_pk q.1 q.2 k)) (nI left) (nI c) (nI m - 1) ru sz li co go re wa fo la a1 a2 a3 a4 a5 a6 a7 a8 a9 a10 a11 a12 a13 a14 a15 a16 a17 a18 := by
  have hT := rc_tA_v (k := k) (A := A) hC.2.2.2.1
  intro m
  induction m with
  | zero =>
    intro q left c co go re wa a8 a9 a10 a11 a12 a13 fo la a14 a15 a16 a17 hm hv hr hleft H
    have hub := rc_ct_ub (rc_tA k A a1 a2 a3 a4 a5) W 0 (rc_ql q)
    have e1 : rc_av (rc_tA k A a1 a2 a3 a4 a5) W 0 (rc_ql q) 0 = rc_ct (rc_tA k A a1 a2 a3 a4 a5) W 0 (rc_ql q) := rfl
    have e2 : 4 ^ 0 = 1 := rfl
    have h := H 0 co go re wa a8 a9 a10 a11 a12 a13 fo la a14 a15 a16 a17 (by omega) (by rw [e1]; omega) (by show 0 = left; omega)
    rw [show c * 4 ^ 0 + 0 = c by omega] at h
    exact br_t rc_neg h
  | succ m ih =>
    intro q left c co go re wa a8 a9 a10 a11 a12 a13 fo la a14 a15 a16 a17 hm hv hr hleft H
    rw [nI_pred]
    refine br_f (nI_pos (by omega)) ⟨5, rc_src79 hC hv hr rfl rfl (by omega) hleft (fun l left' co' go' re' wa' a8' a9' a10' a11' a12' a13' fo' la' a14' a15' a16' a17' hl h1 h2 => ?_) 4 0 left 0 0 _ _ _ _ _ _ _ _ _ _ _ _ _ _ _ _ (by omega) rfl⟩
    have hok : (rc_st (rc_tA k A a1 a2 a3 a4 a5) W (rc_ql q) l).2.2 = true := by
      cases z : (rc_st (rc_tA k A a1 a2 a3 a4 a5) W (rc_ql q) l).2.2 with
      | true => rfl
      | false =>
        rw [rc_ct_f z] at h1
        exact absurd h1 (by omega)
    have hvs := rc_st_v (W := W) (q := q) (x := l) hT hv hr (by omega)
    have es := rc_ql_st hok
    rw [show (4 : Int32) * nI c + nI l = nI (4 * c + l) by rw [show (4 : Int32) = nI 4 from rfl, pk_mul, nI_add], rc_md]
    refine ih ((rc_st (rc_tA k A a1 a2 a3 a4 a5) W (rc_ql q) l).1, (rc_st (rc_tA k A a1 a2 a3 a4 a5) W (rc_ql q) l).2.1) left' (4 * c + l) _ _ _ _ _ _ _ _ _ _ _ _ _ _ _ _ (by omega) hvs.1 hvs.2 (by rw [es]; exact h1) ?_
    rw [es]
    intro v co'' go'' re'' wa'' a8'' a9'' a10'' a11'' a12'' a13'' fo'' la'' a14'' a15'' a16'' a17'' g1 g2 g3
    have hlt : l * 4 ^ m + v < 4 ^ (m + 1) := by
      have h4 : l * 4 ^ m ≤ 3 * 4 ^ m := Nat.mul_le_mul_right _ (by omega)
      rw [Nat.pow_succ]
      omega
    have h := H (l * 4 ^ m + v) co'' go'' re'' wa'' a8'' a9'' a10'' a11'' a12'' a13'' fo'' la'' a14'' a15'' a16'' a17'' hlt (by rw [rc_av_bl hl g1]; exact g2) (by rw [rc_bl hl (by omega), g3, h2]; omega)
    have e : c * 4 ^ (m + 1) + (l * 4 ^ m + v) = (4 * c + l) * 4 ^ m + v := by
      rw [Nat.pow_succ, Nat.add_mul]
      have e5 : 4 * c * 4 ^ m = c * (4 ^ m * 4) := by
        rw [Nat.mul_comm 4 c, Nat.mul_assoc, Nat.mul_comm 4]
      omega
    rw [e] at h
    exact h
theorem rc_src {post : Int32 → St1 → Prop} {ru sz li co go re wa fo la : Int32} {a1 a2 a3 a4 a5 a6 a7 a8 a9 a10 a11 a12 a13 : Nat → Int32} {a14 : Nat → Int64} {a15 : Nat → Int32} {a16 : Nat → Int64} {a17 a18 : Nat → Int32} {p0 p1 : Int32} {k n i : Nat} {W : List Nat} (hP : rc_P k W ru sz a1 a2 a3 a4 a5 a6) (e0 : p0 = nI n) (hn : n ≤ 5) (e1 : p1 = nI i) (hi : i < 2 ^ 31)
    (H1 : ∀ (v : Nat) (li' : Int32) (a7' : Nat → Int32) (co' : Int32) (go' : Int32) (re' : Int32) (wa' : Int32) (a8' : Nat → Int32) (a9' : Nat → Int32) (a10' : Nat → Int32) (a11' : Nat → Int32) (a12' : Nat → Int32) (a13' : Nat → Int32) (fo' : Int32) (la' : Int32) (a14' : Nat → Int64) (a15' : Nat → Int32) (a16' : Nat → Int64) (a17' : Nat → Int32), i < rc_Z k a1 a2 a3 a4 a5 W n → v < 4 ^ n → rc_F (rc_tk k a1 a2 a3 a4 a5) (rc_dg n v) = W → rc_sm (fun u => rc_eq (rc_F (rc_tk k a1 a2 a3 a4 a5) (rc_dg n u)) W) v = i → post (nI (4 ^ n + v)) (ru, sz, li', co', go', re', wa', fo', la', a1, a2, a3, a4, a5, a6, a7', a8', a9', a10', a11', a12', a13', a14', a15', a16', a17', a18))
    (H0 : rc_Z k a1 a2 a3 a4 a5 W n ≤ i → ∀ (li' : Int32) (a7' : Nat → Int32) (co' : Int32) (go' : Int32) (re' : Int32) (wa' : Int32) (a8' : Nat → Int32) (a9' : Nat → Int32) (a10' : Nat → Int32) (a11' : Nat → Int32) (a12' : Nat → Int32) (a13' : Nat → Int32) (fo' : Int32) (la' : Int32) (a14' : Nat → Int64) (a15' : Nat → Int32) (a16' : Nat → Int64) (a17' : Nat → Int32), post (-4) (ru, sz, li', co', go', re', wa', fo', la', a1, a2, a3, a4, a5, a6, a7', a8', a9', a10', a11', a12', a13', a14', a15', a16', a17', a18)) : wpX_source post (ru, sz, li, co, go, re, wa, fo, la, a1, a2, a3, a4, a5, a6, a7, a8, a9, a10, a11, a12, a13, a14, a15, a16, a17, a18) p0 p1 := by
  obtain ⟨hru, hk, hK, hW⟩ := hP
  have hub := rc_Z_ub k a1 a2 a3 a4 a5 W n
  have h46 := rc_p46 hn
  unfold wpX_source
  dsimp only
  refine rc_badN e0 hn (br_t rfl (rc_use hru hk (fun a7' h7 => rc_beg (fun a8' a9' a10' hmm => ?_))))
  have hC : rc_C k (fun s => s) W sz ru a1 a2 a3 a4 a5 a6 a7' := ⟨hru, hk, fun s hs => ⟨h7 s hs, by show s < 5; omega⟩, hK, hW⟩
  refine rc_pack (r := 0) hru hk (rc_vM0 k) (rc_mm_le hmm hk) rfl (by omega) (rc_count (q := (rc_M0, 0)) hC (rc_vM0 k) (by show 0 ≤ 12; omega) rfl e0 hn ?_)
  intro co' go' re' wa' a8' a9' a10' a11' a12' a13' fo' la' a14' a15' a16' a17'
  have e : rc_cq (rc_tA k (fun s => s) a1 a2 a3 a4 a5) W n (rc_M0, 0) = rc_Z k a1 a2 a3 a4 a5 W n := rc_ct_F _ W n
  refine pk_lt i 0 (fun z => absurd z (by omega)) (fun _ => pk_lt i (rc_Z k a1 a2 a3 a4 a5 W n) (fun h => ?_) (fun h => ?_) e1 (by rw [e])) e1
  · have er : ∀ v, rc_av (rc_tA k (fun s => s) a1 a2 a3 a4 a5) W n (rc_ql (rc_M0, 0)) v = rc_eq (rc_F (rc_tk k a1 a2 a3 a4 a5) (rc_dg n v)) W := fun v => rc_av_F _ W n v
    rw [e0, e1]
    refine nm_e ⟨n + 1, rc_src59 hC n (rc_M0, 0) i 1 _ _ _ _ _ _ _ _ _ _ _ _ _ _ _ _ hn (rc_vM0 k) (by show 0 ≤ 12; omega) (by rw [show rc_ct (rc_tA k (fun s => s) a1 a2 a3 a4 a5) W n (rc_ql (rc_M0, 0)) = rc_Z k a1 a2 a3 a4 a5 W n from e]; exact h) ?_⟩
    intro v co'' go'' re'' wa'' a8'' a9'' a10'' a11'' a12'' a13'' fo'' la'' a14'' a15'' a16'' a17'' g1 g2 g3
    rw [er] at g2
    rw [rc_sm_congr (fun u _ => er u)] at g3
    rw [Nat.one_mul]
    refine H1 v _ _ _ _ _ _ _ _ _ _ _ _ _ _ _ _ _ _ h g1 ?_ g3
    by_cases z : rc_F (rc_tk k a1 a2 a3 a4 a5) (rc_dg n v) = W
    · exact z
    · rw [rc_eq_f z] at g2
      exact absurd g2 (by decide)
  · exact H0 h _ _ _ _ _ _ _ _ _ _ _ _ _ _ _ _ _ _
end
section
/-! images and still -/
def rc_ins (s : Nat → Nat) (p code : Nat) : Nat → Nat := fun i => if i < p then s i else if i = p then code else s (i - 1)
def rc_srt (s : Nat → Nat) (n : Nat) : Prop := ∀ i j, i < j → j < n → s i < s j
theorem rc_kc65 {post : Int32 → St1 → Prop} {ru : Int32} {sz : Int32} {li : Int32} {co : Int32} {go : Int32} {re : Int32} {wa : Int32} {fo : Int32} {la : Int32} {a1 : Nat → Int32} {a2 : Nat → Int32} {a3 : Nat → Int32} {a4 : Nat → Int32} {a5 : Nat → Int32} {a6 : Nat → Int32} {a7 : Nat → Int32} {a8 : Nat → Int32} {a9 : Nat → Int32} {a10 : Nat → Int32} {a11 : Nat → Int32} {a12 : Nat → Int32} {a13 : Nat → Int32} {a14 : Nat → Int64} {a15 : Nat → Int32} {a16 : Nat → Int64} {a17 : Nat → Int32} {x1 x2 x3 : Int32} {s : Nat → Nat} {code kept p : Nat} (e1 : x1 = nI code) (e2 : x2 = nI kept) (e3 : x3 = nI p) (hk : kept < 1024) (hp : p ≤ kept)
    (H : ∀ (a18' : Nat → Int32), (∀ i, i < kept + 1 → a18' i = nI (rc_ins s p code i)) → post (nI (kept + 1)) (ru, sz, li, co, go, re, wa, fo, la, a1, a2, a3, a4, a5, a6, a7, a8, a9, a10, a11, a12, a13, a14, a15, a16, a17, a18')) :
    ∀ (d : Nat) (a18 : Nat → Int32), p + d ≤ kept → (∀ i, i < p + d → a18 i = nI (s i)) → (∀ i, p + d < i → i < kept + 1 → a18 i = nI (s (i - 1))) → wX_keepCode_65 post x1 x2 x3 ru sz li co go re wa fo la (d + 1) (nI (p + d)) a1 a2 a3 a4 a5 a6 a7 a8 a9 a10 a11 a12 a13 a14 a15 a16 a17 a18 := by
  intro d
  induction d with
  | zero =>
    intro a18 hd h1 h2
    refine pk_le p p (fun _ => ⟨pk_in p 1024 (by omega) e3, nm_e ?_⟩) (fun z => absurd z (by omega)) rfl e3
    rw [e2, nI_1, e3, nI_clamp (show p < 2 ^ 31 by omega), e1]
    refine H _ (fun i hi => ?_)
    unfold rc_ins
    by_cases z : i = p
    · rw [z, pk_us, if_neg (by omega), if_pos rfl]
    · rw [pk_un z]
      by_cases y : i < p
      · rw [if_pos y]
        exact h1 i y
      · rw [if_neg y, if_neg z]
        exact h2 i (by omega) hi
  | succ d ih =>
    intro a18 hd h1 h2
    have e4 : nI (p + (d + 1)) - 1 = nI (p + d) := nI_pred (p + d)
    refine pk_le (p + (d + 1)) p (fun z => absurd z (by omega)) (fun _ => ?_) rfl e3
    rw [e4]
    refine ⟨pk_in (p + d) 1024 (by omega), pk_in (p + (d + 1)) 1024 (by omega), nm_e (nm_r (pk_m1 (p + d)) (ih _ (by omega) (fun i hi => ?_) (fun i hi1 hi2 => ?_)))⟩
    · rw [nI_clamp (show p + (d + 1) < 2 ^ 31 by omega), pk_un (by omega)]
      exact h1 i (by omega)
    · rw [nI_clamp (show p + (d + 1) < 2 ^ 31 by omega), nI_clamp (show p + d < 2 ^ 31 by omega)]
      by_cases z : i = p + (d + 1)
      · rw [z, pk_us]
        exact h1 (p + d) (by omega)
      · rw [pk_un z]
        exact h2 i (by omega) hi2
theorem rc_kc5 {post : Int32 → St1 → Prop} {ru sz li co go re wa fo la : Int32} {a1 a2 a3 a4 a5 a6 a7 a8 a9 a10 a11 a12 a13 : Nat → Int32} {a14 : Nat → Int64} {a15 : Nat → Int32} {a16 : Nat → Int64} {a17 a18 : Nat → Int32} {x1 x2 : Int32} {s : Nat → Nat} {code kept : Nat} (e1 : x1 = nI code) (hc : code < 2 ^ 31) (e2 : x2 = nI kept) (hk : kept < 1024) (hs : rc_srt s kept) (hb : ∀ i, i < kept → s i < 2 ^ 31) (ha : ∀ i, i < kept → a18 i = nI (s i))
    (H1 : (∃ i, i < kept ∧ s i = code) → post (nI kept) (ru, sz, li, co, go, re, wa, fo, la, a1, a2, a3, a4, a5, a6, a7, a8, a9, a10, a11, a12, a13, a14, a15, a16, a17, a18))
    (H2 : ∀ (p : Nat) (a18' : Nat → Int32), p ≤ kept → (∀ i, i < p → s i < code) → (∀ i, p ≤ i → i < kept → code < s i) → (∀ i, i < kept + 1 → a18' i = nI (rc_ins s p code i)) → post (nI (kept + 1)) (ru, sz, li, co, go, re, wa, fo, la, a1, a2, a3, a4, a5, a6, a7, a8, a9, a10, a11, a12, a13, a14, a15, a16, a17, a18')) :
    ∀ d low high : Nat, high - low < d → low ≤ high → high ≤ kept → (∀ i, i < low → s i < code) → (∀ i, high ≤ i → i < kept → code ≤ s i) → wX_keepCode_5 post x1 x2 ru sz li co go re wa fo la a1 a2 a3 a4 a5 a6 a7 a8 a9 a10 a11 a12 a13 a14 a15 a16 a17 a18 d (nI low) (nI high) := by
  intro d
  induction d with
  | zero => intro low high h; exact absurd h (by omega)
  | succ d ih =>
    intro low high hd hlh hhk hlo hhi
    refine pk_le high low (fun h => ?_) (fun h => ⟨by decide, nm_r (e' := nI ((low + high) / 2)) ?_ ⟨pk_in ((low + high) / 2) 1024 (by omega), ?_⟩⟩)
    · have e : low = high := by omega
      subst e
      have ins : (∀ i, low ≤ i → i < kept → code < s i) → ∃ fu65 : Nat, wX_keepCode_65 post x1 x2 (nI low) ru sz li co go re wa fo la fu65 x2 a1 a2 a3 a4 a5 a6 a7 a8 a9 a10 a11 a12 a13 a14 a15 a16 a17 a18 := by
        intro hgt
        refine ⟨kept - low + 1, ?_⟩
        have h65 := rc_kc65 (post := post) (ru := ru) (sz := sz) (li := li) (co := co) (go := go) (re := re) (wa := wa) (fo := fo) (la := la) (a1 := a1) (a2 := a2) (a3 := a3) (a4 := a4) (a5 := a5) (a6 := a6) (a7 := a7) (a8 := a8) (a9 := a9) (a10 := a10) (a11 := a11) (a12 := a12) (a13 := a13) (a14 := a14) (a15 := a15) (a16 := a16) (a17 := a17) (s := s) e1 e2 (show nI low = nI low from rfl) hk hhk (fun a18' h' => H2 low a18' hhk hlo hgt h') (kept - low) a18 (by omega) (fun i hi => ha i (by omega)) (fun i hi1 hi2 => absurd hi1 (by omega))
        rw [show low + (kept - low) = kept by omega, ← e2] at h65
        exact h65
      refine pk_le kept low (fun hkl => ins (fun i hi1 hi2 => absurd hi1 (by omega))) (fun hkl => ⟨pk_in low 1024 (by omega), ?_⟩) e2
      rw [nI_clamp (show low < 2 ^ 31 by omega), e2]
      have hb1 := hb low hkl
      refine pk_eq (s low) code (fun hq => H1 ⟨low, hkl, hq⟩) (fun hq => ?_) (ha low hkl) e1
      rw [← e2]
      refine ins (fun i hi1 hi2 => ?_)
      have h3 := hhi low (by omega) hkl
      by_cases z : i = low
      · rw [z]
        omega
      · have h4 := hs low i (by omega) hi2
        omega
    · rw [nI_add]
      exact pk_div (d := 2) (by omega) (by decide) (by decide)
    · have hm : (low + high) / 2 < kept := by omega
      have hb1 := hb _ hm
      rw [nI_clamp (show (low + high) / 2 < 2 ^ 31 by omega)]
      refine pk_le code (s ((low + high) / 2)) (fun hq => ih low ((low + high) / 2) (by omega) (by omega) (by omega) hlo (fun i hi1 hi2 => ?_)) (fun hq => nm_r (nI_1 _) (ih ((low + high) / 2 + 1) high (by omega) (by omega) hhk (fun i hi => ?_) hhi)) e1 (ha _ hm)
      · by_cases z : i = (low + high) / 2
        · rw [z]
          exact hq
        · have h4 := hs _ i (show (low + high) / 2 < i by omega) hi2
          omega
      · by_cases z : i = (low + high) / 2
        · rw [z]
          exact hq
        · have h4 := hs i _ (show i < (low + high) / 2 by omega) hm
          omega
theorem rc_kc {post : Int32 → St1 → Prop} {ru sz li co go re wa fo la : Int32} {a1 a2 a3 a4 a5 a6 a7 a8 a9 a10 a11 a12 a13 : Nat → Int32} {a14 : Nat → Int64} {a15 : Nat → Int32} {a16 : Nat → Int64} {a17 a18 : Nat → Int32} {p0 p1 : Int32} {s : Nat → Nat} {code kept : Nat} (e0 : p0 = nI code) (hc : code < 2 ^ 31) (e1 : p1 = nI kept) (hk : kept < 1024) (hs : rc_srt s kept) (hb : ∀ i, i < kept → s i < 2 ^ 31) (ha : ∀ i, i < kept → a18 i = nI (s i))
    (H1 : (∃ i, i < kept ∧ s i = code) → post (nI kept) (ru, sz, li, co, go, re, wa, fo, la, a1, a2, a3, a4, a5, a6, a7, a8, a9, a10, a11, a12, a13, a14, a15, a16, a17, a18))
    (H2 : ∀ (p : Nat) (a18' : Nat → Int32), p ≤ kept → (∀ i, i < p → s i < code) → (∀ i, p ≤ i → i < kept → code < s i) → (∀ i, i < kept + 1 → a18' i = nI (rc_ins s p code i)) → post (nI (kept + 1)) (ru, sz, li, co, go, re, wa, fo, la, a1, a2, a3, a4, a5, a6, a7, a8, a9, a10, a11, a12, a13, a14, a15, a16, a17, a18')) : wpX_keepCode post (ru, sz, li, co, go, re, wa, fo, la, a1, a2, a3, a4, a5, a6, a7, a8, a9, a10, a11, a12, a13, a14, a15, a16, a17, a18) p0 p1 := by
  have h := rc_kc5 (ru := ru) (sz := sz) (li := li) (co := co) (go := go) (re := re) (wa := wa) (fo := fo) (la := la) (a1 := a1) (a2 := a2) (a3 := a3) (a4 := a4) (a5 := a5) (a6 := a6) (a7 := a7) (a8 := a8) (a9 := a9) (a10 := a10) (a11 := a11) (a12 := a12) (a13 := a13) (a14 := a14) (a15 := a15) (a16 := a16) (a17 := a17) e0 hc e1 hk hs hb ha H1 H2 (kept + 1) 0 kept (by omega) (by omega) (by omega) (fun i hi => absurd hi (by omega)) (fun i hi1 hi2 => absurd hi1 (by omega))
  rw [← e1] at h
  exact ⟨_, h⟩
/-- the codes kept so far -/
def rc_I (c : Nat → Nat) (w kept : Nat) (s : Nat → Nat) : Prop := rc_srt s kept ∧ (∀ u, u < w → ∃ i, i < kept ∧ s i = c u) ∧ (∀ i, i < kept → ∃ u, u < w ∧ c u = s i) ∧ kept = rc_sm (rc_nw c) w
theorem rc_I_old {c : Nat → Nat} {w kept : Nat} {s : Nat → Nat} (h : rc_I c w kept s) (hx : ∃ i, i < kept ∧ s i = c w) : rc_I c (w + 1) kept s := by
  obtain ⟨h1, h2, h3, h4⟩ := h
  refine ⟨h1, fun u hu => ?_, fun i hi => ?_, ?_⟩
  · by_cases z : u = w
    · rw [z]
      exact hx
    · exact h2 u (by omega)
  · obtain ⟨u, hu, e⟩ := h3 i hi
    exact ⟨u, by omega, e⟩
  · obtain ⟨i, hi, e⟩ := hx
    obtain ⟨u, hu, e2⟩ := h3 i hi
    rw [rc_sm_s, rc_nw_0 hu (e2.trans e), ← h4]
    omega
theorem rc_I_new {c : Nat → Nat} {w kept p : Nat} {s : Nat → Nat} (h : rc_I c w kept s) (hp : p ≤ kept) (hlo : ∀ i, i < p → s i < c w) (hhi : ∀ i, p ≤ i → i < kept → c w < s i) : rc_I c (w + 1) (kept + 1) (rc_ins s p (c w)) := by
  obtain ⟨h1, h2, h3, h4⟩ := h
  have hne : ∀ i, i < kept → s i ≠ c w := by
    intro i hi z
    by_cases y : i < p
    · have := hlo i y
      omega
    · have := hhi i (by omega) hi
      omega
  refine ⟨fun i j hij hj => ?_, fun u hu => ?_, fun i hi => ?_, ?_⟩
  · unfold rc_ins
    by_cases a : i < p
    · rw [if_pos a]
      by_cases b : j < p
      · rw [if_pos b]
        exact h1 i j hij (by omega)
      · rw [if_neg b]
        by_cases e : j = p
        · rw [if_pos e]
          exact hlo i a
        · rw [if_neg e]
          exact h1 i (j - 1) (by omega) (by omega)
    · rw [if_neg a, if_neg (show ¬ j < p by omega), if_neg (show ¬ j = p by omega)]
      by_cases e : i = p
      · rw [if_pos e]
        exact hhi (j - 1) (by omega) (by omega)
      · rw [if_neg e]
        exact h1 (i - 1) (j - 1) (by omega) (by omega)
  · by_cases z : u = w
    · refine ⟨p, by omega, ?_⟩
      unfold rc_ins
      rw [if_neg (by omega), if_pos rfl, z]
    · obtain ⟨i, hi, e⟩ := h2 u (by omega)
      by_cases a : i < p
      · refine ⟨i, by omega, ?_⟩
        unfold rc_ins
        rw [if_pos a]
        exact e
      · refine ⟨i + 1, by omega, ?_⟩
        unfold rc_ins
        rw [if_neg (by omega), if_neg (by omega), Nat.add_sub_cancel]
        exact e
  · unfold rc_ins
    by_cases a : i < p
    · rw [if_pos a]
      obtain ⟨u, hu, e⟩ := h3 i (by omega)
      exact ⟨u, by omega, e⟩
    · rw [if_neg a]
      by_cases e : i = p
      · rw [if_pos e]
        exact ⟨w, by omega, rfl⟩
      · rw [if_neg e]
        obtain ⟨u, hu, e⟩ := h3 (i - 1) (by omega)
        exact ⟨u, by omega, e⟩
  · rw [rc_sm_s, rc_nw_1 (fun u hu z => ?_), ← h4]
    obtain ⟨i, hi, e⟩ := h2 u hu
    exact hne i hi (e.trans z)
/-- the code of the result of word number w -/
def rc_cc (T : rc_T) (n w : Nat) : Nat := rc_cd (rc_F T (rc_dg n w))
theorem rc_cc_lt {k : Nat} {T : rc_T} (hT : rc_vT k T) (n w : Nat) : rc_cc T n w < 33554432 := by
  have h := rc_F_ok hT (rc_dg_l4 n w)
  exact rc_cd_lt h.1 h.2
theorem rc_im22 {post : Int32 → St1 → Prop} {ru : Int32} {sz : Int32} {li : Int32} {fo : Int32} {la : Int32} {a1 : Nat → Int32} {a2 : Nat → Int32} {a3 : Nat → Int32} {a4 : Nat → Int32} {a5 : Nat → Int32} {a6 : Nat → Int32} {a7 : Nat → Int32} {a14 : Nat → Int64} {a15 : Nat → Int32} {a16 : Nat → Int64} {a17 : Nat → Int32} {x1 : Int32} {k n : Nat} {A : Nat → Nat} {W : List Nat} (hC : rc_C k A W sz li a1 a2 a3 a4 a5 a6 a7) (e1 : x1 = nI n) (hn : n ≤ 5)
    (H : ∀ (co' : Int32) (go' : Int32) (re' : Int32) (wa' : Int32) (a8' : Nat → Int32) (a9' : Nat → Int32) (a10' : Nat → Int32) (a11' : Nat → Int32) (a12' : Nat → Int32) (a13' : Nat → Int32) (a18' : Nat → Int32), post (nI (rc_sm (rc_nw (rc_cc (rc_tA k A a1 a2 a3 a4 a5) n)) (4 ^ n))) (ru, sz, li, co', go', re', wa', fo, la, a1, a2, a3, a4, a5, a6, a7, a8', a9', a10', a11', a12', a13', a14, a15, a16, a17, a18')) :
    ∀ (d w kept : Nat) (s : Nat → Nat) (co : Int32) (go : Int32) (re : Int32) (wa : Int32) (a8 : Nat → Int32) (a9 : Nat → Int32) (a10 : Nat → Int32) (a11 : Nat → Int32) (a12 : Nat → Int32) (a13 : Nat → Int32) (a18 : Nat → Int32), w + d = 4 ^ n → rc_I (rc_cc (rc_tA k A a1 a2 a3 a4 a5) n) w kept s → (∀ i, i < kept → a18 i = nI (s i)) → wX_images_22 post x1 (d + 1) (nI kept) (nI w) ru sz li co go re wa fo la a1 a2 a3 a4 a5 a6 a7 a8 a9 a10 a11 a12 a13 a14 a15 a16 a17 a18 := by
  have hT := rc_tA_v (k := k) (A := A) hC.2.2.2.1
  have h46 := rc_p46 hn
  have e4 : ((1 : Int32) <<< ((2 * x1) &&& 31)) = nI (4 ^ n) := by
    rw [e1]
    exact rc_sh1 n (by omega)
  intro d
  induction d with
  | zero =>
    intro w kept s co go re wa a8 a9 a10 a11 a12 a13 a18 hd hI ha
    have e : w = 4 ^ n := by omega
    subst e
    refine pk_le (4 ^ n) (4 ^ n) (fun _ => ?_) (fun z => absurd z (by omega)) e4
    rw [hI.2.2.2]
    exact H _ _ _ _ _ _ _ _ _ _ _
  | succ d ih =>
    intro w kept s co go re wa a8 a9 a10 a11 a12 a13 a18 hd hI ha
    have hkw : kept ≤ w := by
      rw [hI.2.2.2]
      exact rc_im_ub _ w
    have hlt := rc_cc_lt hT n w
    have hb : ∀ i, i < kept → s i < 2 ^ 31 := by
      intro i hi
      obtain ⟨u, _, e⟩ := hI.2.2.1 i hi
      have := rc_cc_lt hT n u
      rw [← e]
      omega
    refine pk_le (4 ^ n) w (fun z => absurd z (by omega)) (fun _ => rc_runN hC rfl (by omega) e1 hn (fun co' go' re' wa' a8' a9' a10' a11' a12' a13' => ?_)) e4
    refine rc_kc (s := s) (code := rc_cc (rc_tA k A a1 a2 a3 a4 a5) n w) rfl (by omega) rfl (by omega) hI.1 hb ha (fun hx => nm_r (nI_1 w) ?_) (fun p a18' hp hlo hhi ha' => nm_r (nI_1 w) ?_)
    · exact ih (w + 1) kept s _ _ _ _ _ _ _ _ _ _ _ (by omega) (rc_I_old hI hx) ha
    · exact ih (w + 1) (kept + 1) _ _ _ _ _ _ _ _ _ _ _ _ (by omega) (rc_I_new hI hp hlo hhi) ha'
/-- how many results there are -/
def rc_im (k : Nat) (a1 a2 a3 a4 a5 : Nat → Int32) (n : Nat) : Nat := rc_sm (rc_nw (rc_cc (rc_tk k a1 a2 a3 a4 a5) n)) (4 ^ n)
def rc_sl (k : Nat) (a1 a2 a3 a4 a5 : Nat → Int32) (n : Nat) : Nat := rc_sm (fun w => if rc_cc (rc_tk k a1 a2 a3 a4 a5) n w = 4 ^ n + w then 1 else 0) (4 ^ n)
theorem rc_images {post : Int32 → St1 → Prop} {ru sz li co go re wa fo la : Int32} {a1 a2 a3 a4 a5 a6 a7 a8 a9 a10 a11 a12 a13 : Nat → Int32} {a14 : Nat → Int64} {a15 : Nat → Int32} {a16 : Nat → Int64} {a17 a18 : Nat → Int32} {p0 : Int32} {k n : Nat} {W : List Nat} (hP : rc_P k W ru sz a1 a2 a3 a4 a5 a6) (e0 : p0 = nI n) (hn : n ≤ 5)
    (H : ∀ (li' : Int32) (a7' : Nat → Int32) (co' : Int32) (go' : Int32) (re' : Int32) (wa' : Int32) (a8' : Nat → Int32) (a9' : Nat → Int32) (a10' : Nat → Int32) (a11' : Nat → Int32) (a12' : Nat → Int32) (a13' : Nat → Int32) (fo' : Int32) (la' : Int32) (a14' : Nat → Int64) (a15' : Nat → Int32) (a16' : Nat → Int64) (a17' : Nat → Int32) (a18' : Nat → Int32), post (nI (rc_im k a1 a2 a3 a4 a5 n)) (ru, sz, li', co', go', re', wa', fo', la', a1, a2, a3, a4, a5, a6, a7', a8', a9', a10', a11', a12', a13', a14', a15', a16', a17', a18')) : wpX_images post (ru, sz, li, co, go, re, wa, fo, la, a1, a2, a3, a4, a5, a6, a7, a8, a9, a10, a11, a12, a13, a14, a15, a16, a17, a18) p0 := by
  obtain ⟨hru, hk, hK, hW⟩ := hP
  unfold wpX_images
  dsimp only
  refine rc_badN e0 hn (br_t rfl (rc_use hru hk (fun a7' h7 => ?_)))
  have hC : rc_C k (fun s => s) W sz ru a1 a2 a3 a4 a5 a6 a7' := ⟨hru, hk, fun s hs => ⟨h7 s hs, by show s < 5; omega⟩, hK, hW⟩
  exact ⟨4 ^ n + 1, rc_im22 hC e0 hn (fun co' go' re' wa' a8' a9' a10' a11' a12' a13' a18' => H _ _ _ _ _ _ _ _ _ _ _ _ _ _ _ _ _ _ _) (4 ^ n) 0 0 (fun _ => 0) _ _ _ _ _ _ _ _ _ _ _ (by omega) ⟨fun i j _ hj => absurd hj (by omega), fun u hu => absurd hu (by omega), fun i hi => absurd hi (by omega), rfl⟩ (fun i hi => absurd hi (by omega))⟩
theorem rc_or4 : ∀ n, n < 4 → ∀ w, w < 4 ^ n → (((1 : Int32) <<< ((2 * nI n) &&& 31)) ||| nI w) = nI (4 ^ n + w) := by decide +kernel
theorem rc_st22 {post : Int32 → St1 → Prop} {ru : Int32} {sz : Int32} {li : Int32} {fo : Int32} {la : Int32} {a1 : Nat → Int32} {a2 : Nat → Int32} {a3 : Nat → Int32} {a4 : Nat → Int32} {a5 : Nat → Int32} {a6 : Nat → Int32} {a7 : Nat → Int32} {a14 : Nat → Int64} {a15 : Nat → Int32} {a16 : Nat → Int64} {a17 : Nat → Int32} {a18 : Nat → Int32} {x1 : Int32} {k n : Nat} {A : Nat → Nat} {W : List Nat} (hC : rc_C k A W sz li a1 a2 a3 a4 a5 a6 a7) (e1 : x1 = nI n) (hn : n ≤ 3)
    (H : ∀ (co' : Int32) (go' : Int32) (re' : Int32) (wa' : Int32) (a8' : Nat → Int32) (a9' : Nat → Int32) (a10' : Nat → Int32) (a11' : Nat → Int32) (a12' : Nat → Int32) (a13' : Nat → Int32), post (nI (rc_sm (fun w => if rc_cc (rc_tA k A a1 a2 a3 a4 a5) n w = 4 ^ n + w then 1 else 0) (4 ^ n))) (ru, sz, li, co', go', re', wa', fo, la, a1, a2, a3, a4, a5, a6, a7, a8', a9', a10', a11', a12', a13', a14, a15, a16, a17, a18)) :
    ∀ (d w : Nat) (co : Int32) (go : Int32) (re : Int32) (wa : Int32) (a8 : Nat → Int32) (a9 : Nat → Int32) (a10 : Nat → Int32) (a11 : Nat → Int32) (a12 : Nat → Int32) (a13 : Nat → Int32), w + d = 4 ^ n → wX_still_22 post x1 (d + 1) (nI (rc_sm (fun w => if rc_cc (rc_tA k A a1 a2 a3 a4 a5) n w = 4 ^ n + w then 1 else 0) w)) (nI w) ru sz li co go re wa fo la a1 a2 a3 a4 a5 a6 a7 a8 a9 a10 a11 a12 a13 a14 a15 a16 a17 a18 := by
  have hT := rc_tA_v (k := k) (A := A) hC.2.2.2.1
  have h46 := rc_p46 (show n ≤ 5 by omega)
  have e4 : ((1 : Int32) <<< ((2 * x1) &&& 31)) = nI (4 ^ n) := by
    rw [e1]
    exact rc_sh1 n (by omega)
  intro d
  induction d with
  | zero =>
    intro w co go re wa a8 a9 a10 a11 a12 a13 hd
    have e : w = 4 ^ n := by omega
    subst e
    exact pk_le (4 ^ n) (4 ^ n) (fun _ => H _ _ _ _ _ _ _ _ _ _) (fun z => absurd z (by omega)) e4
  | succ d ih =>
    intro w co go re wa a8 a9 a10 a11 a12 a13 hd
    have hlt := rc_cc_lt hT n w
    have e5 : (((1 : Int32) <<< ((2 * x1) &&& 31)) ||| nI w) = nI (4 ^ n + w) := by
      rw [e1]
      exact rc_or4 n (by omega) w (by omega)
    refine pk_le (4 ^ n) w (fun z => absurd z (by omega)) (fun _ => rc_runN hC rfl (by omega) e1 (by omega) (fun co' go' re' wa' a8' a9' a10' a11' a12' a13' => ?_)) e4
    have h := ih (w + 1) co' go' re' wa' a8' a9' a10' a11' a12' a13' (by omega)
    rw [rc_sm_s] at h
    refine pk_eq (rc_cc (rc_tA k A a1 a2 a3 a4 a5) n w) (4 ^ n + w) (fun z => ?_) (fun z => ?_) rfl e5
    · rw [if_pos z] at h
      exact nm_r (nI_1 _) (nm_r (nI_1 w) h)
    · rw [if_neg z] at h
      exact nm_r (nI_1 w) h
theorem rc_still {post : Int32 → St1 → Prop} {ru sz li co go re wa fo la : Int32} {a1 a2 a3 a4 a5 a6 a7 a8 a9 a10 a11 a12 a13 : Nat → Int32} {a14 : Nat → Int64} {a15 : Nat → Int32} {a16 : Nat → Int64} {a17 a18 : Nat → Int32} {p0 : Int32} {k n : Nat} {W : List Nat} (hP : rc_P k W ru sz a1 a2 a3 a4 a5 a6) (e0 : p0 = nI n) (hn : n ≤ 3)
    (H : ∀ (li' : Int32) (a7' : Nat → Int32) (co' : Int32) (go' : Int32) (re' : Int32) (wa' : Int32) (a8' : Nat → Int32) (a9' : Nat → Int32) (a10' : Nat → Int32) (a11' : Nat → Int32) (a12' : Nat → Int32) (a13' : Nat → Int32), post (nI (rc_sl k a1 a2 a3 a4 a5 n)) (ru, sz, li', co', go', re', wa', fo, la, a1, a2, a3, a4, a5, a6, a7', a8', a9', a10', a11', a12', a13', a14, a15, a16, a17, a18)) : wpX_still post (ru, sz, li, co, go, re, wa, fo, la, a1, a2, a3, a4, a5, a6, a7, a8, a9, a10, a11, a12, a13, a14, a15, a16, a17, a18) p0 := by
  obtain ⟨hru, hk, hK, hW⟩ := hP
  unfold wpX_still
  dsimp only
  refine rc_badN e0 (by omega) (br_t rfl (rc_use hru hk (fun a7' h7 => ?_)))
  have hC : rc_C k (fun s => s) W sz ru a1 a2 a3 a4 a5 a6 a7' := ⟨hru, hk, fun s hs => ⟨h7 s hs, by show s < 5; omega⟩, hK, hW⟩
  exact ⟨4 ^ n + 1, rc_st22 hC e0 hn (fun co' go' re' wa' a8' a9' a10' a11' a12' a13' => H _ _ _ _ _ _ _ _ _ _ _ _) (4 ^ n) 0 _ _ _ _ _ _ _ _ _ _ (by omega)⟩
end
section
/-! keepAll, sameAll, commute, idle; changes of the rules and the word -/
theorem rc_ka10 {post : St1 → Prop} {ru : Int32} {sz : Int32} {li : Int32} {fo : Int32} {la : Int32} {a1 : Nat → Int32} {a2 : Nat → Int32} {a3 : Nat → Int32} {a4 : Nat → Int32} {a5 : Nat → Int32} {a6 : Nat → Int32} {a7 : Nat → Int32} {a14 : Nat → Int64} {a15 : Nat → Int32} {a16 : Nat → Int64} {a17 : Nat → Int32} {x1 : Int32} {k n : Nat} {A : Nat → Nat} {W : List Nat} (hC : rc_C k A W sz li a1 a2 a3 a4 a5 a6 a7) (e1 : x1 = nI n) (hn : n ≤ 5)
    (H : ∀ (co' : Int32) (go' : Int32) (re' : Int32) (wa' : Int32) (a8' : Nat → Int32) (a9' : Nat → Int32) (a10' : Nat → Int32) (a11' : Nat → Int32) (a12' : Nat → Int32) (a13' : Nat → Int32) (a18' : Nat → Int32), (∀ w, w < 4 ^ n → a18' w = nI (rc_cc (rc_tA k A a1 a2 a3 a4 a5) n w)) → post (ru, sz, li, co', go', re', wa', fo, la, a1, a2, a3, a4, a5, a6, a7, a8', a9', a10', a11', a12', a13', a14, a15, a16, a17, a18')) :
    ∀ (d w : Nat) (co : Int32) (go : Int32) (re : Int32) (wa : Int32) (a8 : Nat → Int32) (a9 : Nat → Int32) (a10 : Nat → Int32) (a11 : Nat → Int32) (a12 : Nat → Int32) (a13 : Nat → Int32) (a18 : Nat → Int32), w + d = 4 ^ n → (∀ u, u < w → a18 u = nI (rc_cc (rc_tA k A a1 a2 a3 a4 a5) n u)) → wX_keepAll_10 post x1 (d + 1) (nI w) ru sz li co go re wa fo la a1 a2 a3 a4 a5 a6 a7 a8 a9 a10 a11 a12 a13 a14 a15 a16 a17 a18 := by
  have h46 := rc_p46 hn
  have e4 : ((1 : Int32) <<< ((2 * x1) &&& 31)) = nI (4 ^ n) := by
    rw [e1]
    exact rc_sh1 n (by omega)
  intro d
  induction d with
  | zero =>
    intro w co go re wa a8 a9 a10 a11 a12 a13 a18 hd ha
    have e : w = 4 ^ n := by omega
    subst e
    exact pk_le (4 ^ n) (4 ^ n) (fun _ => H _ _ _ _ _ _ _ _ _ _ _ ha) (fun z => absurd z (by omega)) e4
  | succ d ih =>
    intro w co go re wa a8 a9 a10 a11 a12 a13 a18 hd ha
    refine pk_le (4 ^ n) w (fun z => absurd z (by omega)) (fun _ => rc_runNz hC rfl (by omega) e1 hn (fun co' go' re' wa' a8' a9' a10' a11' a12' a13' => ⟨pk_in w 1024 (by omega), nm_e (nm_r (nI_1 w) (ih (w + 1) _ _ _ _ _ _ _ _ _ _ _ (by omega) (fun u hu => ?_)))⟩)) e4
    rw [nI_clamp (show w < 2 ^ 31 by omega)]
    by_cases z : u = w
    · rw [z, pk_us]
      rfl
    · rw [pk_un z]
      exact ha u (by omega)
theorem rc_keepAll {post : St1 → Prop} {ru sz li co go re wa fo la : Int32} {a1 a2 a3 a4 a5 a6 a7 a8 a9 a10 a11 a12 a13 : Nat → Int32} {a14 : Nat → Int64} {a15 : Nat → Int32} {a16 : Nat → Int64} {a17 a18 : Nat → Int32} {p0 : Int32} {k n : Nat} {W : List Nat} (hP : rc_P k W ru sz a1 a2 a3 a4 a5 a6) (e0 : p0 = nI n) (hn : n ≤ 5)
    (H : ∀ (a7' : Nat → Int32) (co' : Int32) (go' : Int32) (re' : Int32) (wa' : Int32) (a8' : Nat → Int32) (a9' : Nat → Int32) (a10' : Nat → Int32) (a11' : Nat → Int32) (a12' : Nat → Int32) (a13' : Nat → Int32) (a18' : Nat → Int32), (∀ s, s < k → a7' s = nI s) → (∀ w, w < 4 ^ n → a18' w = nI (rc_cc (rc_tk k a1 a2 a3 a4 a5) n w)) → post (ru, sz, ru, co', go', re', wa', fo, la, a1, a2, a3, a4, a5, a6, a7', a8', a9', a10', a11', a12', a13', a14, a15, a16, a17, a18')) : wpX_keepAll post (ru, sz, li, co, go, re, wa, fo, la, a1, a2, a3, a4, a5, a6, a7, a8, a9, a10, a11, a12, a13, a14, a15, a16, a17, a18) p0 := by
  obtain ⟨hru, hk, hK, hW⟩ := hP
  unfold wpX_keepAll
  dsimp only
  refine rc_use hru hk (fun a7' h7 => ?_)
  have hC : rc_C k (fun s => s) W sz ru a1 a2 a3 a4 a5 a6 a7' := ⟨hru, hk, fun s hs => ⟨h7 s hs, by show s < 5; omega⟩, hK, hW⟩
  exact ⟨4 ^ n + 1, rc_ka10 hC e0 hn (fun co' go' re' wa' a8' a9' a10' a11' a12' a13' a18' h' => H _ _ _ _ _ _ _ _ _ _ _ _ h7 h') (4 ^ n) 0 _ _ _ _ _ _ _ _ _ _ _ (by omega) (fun u hu => absurd hu (by omega))⟩
theorem rc_bi_n (b : Bool) : narrow .boolean (.int (rc_bi b)) = .int (rc_bi b) := by
  cases b <;> rfl
theorem rc_sa4 {post : Int32 → St1 → Prop} {ru : Int32} {sz : Int32} {li : Int32} {fo : Int32} {la : Int32} {a1 : Nat → Int32} {a2 : Nat → Int32} {a3 : Nat → Int32} {a4 : Nat → Int32} {a5 : Nat → Int32} {a6 : Nat → Int32} {a7 : Nat → Int32} {a14 : Nat → Int64} {a15 : Nat → Int32} {a16 : Nat → Int64} {a17 : Nat → Int32} {a18 : Nat → Int32} {x1 : Int32} {k n : Nat} {A : Nat → Nat} {W : List Nat} {e : Nat → Nat} (hC : rc_C k A W sz li a1 a2 a3 a4 a5 a6 a7) (e1 : x1 = nI n) (hn : n ≤ 5) (ha : ∀ w, w < 4 ^ n → a18 w = nI (e w) ∧ e w < 2 ^ 31)
    (H : ∀ (b : Bool) (co' : Int32) (go' : Int32) (re' : Int32) (wa' : Int32) (a8' : Nat → Int32) (a9' : Nat → Int32) (a10' : Nat → Int32) (a11' : Nat → Int32) (a12' : Nat → Int32) (a13' : Nat → Int32), (b = true → ∀ w, w < 4 ^ n → rc_cc (rc_tA k A a1 a2 a3 a4 a5) n w = e w) → post (rc_bi b) (ru, sz, li, co', go', re', wa', fo, la, a1, a2, a3, a4, a5, a6, a7, a8', a9', a10', a11', a12', a13', a14, a15, a16, a17, a18)) :
    ∀ (d w : Nat) (b : Bool) (co : Int32) (go : Int32) (re : Int32) (wa : Int32) (a8 : Nat → Int32) (a9 : Nat → Int32) (a10 : Nat → Int32) (a11 : Nat → Int32) (a12 : Nat → Int32) (a13 : Nat → Int32), w + d = 4 ^ n → (b = true → ∀ u, u < w → rc_cc (rc_tA k A a1 a2 a3 a4 a5) n u = e u) → wX_sameAll_4 post x1 (d + 1) (rc_bi b) (nI w) ru sz li co go re wa fo la a1 a2 a3 a4 a5 a6 a7 a8 a9 a10 a11 a12 a13 a14 a15 a16 a17 a18 := by
  have hT := rc_tA_v (k := k) (A := A) hC.2.2.2.1
  have h46 := rc_p46 hn
  have e4 : ((1 : Int32) <<< ((2 * x1) &&& 31)) = nI (4 ^ n) := by
    rw [e1]
    exact rc_sh1 n (by omega)
  intro d
  induction d with
  | zero =>
    intro w b co go re wa a8 a9 a10 a11 a12 a13 hd hb
    have e5 : w = 4 ^ n := by omega
    subst e5
    exact pk_le (4 ^ n) (4 ^ n) (fun _ => ⟨rc_bi_n b, H b _ _ _ _ _ _ _ _ _ _ hb⟩) (fun z => absurd z (by omega)) e4
  | succ d ih =>
    intro w b co go re wa a8 a9 a10 a11 a12 a13 hd hb
    have hlt := rc_cc_lt hT n w
    have haw := ha w (by omega)
    have haw2 := haw.2
    refine pk_le (4 ^ n) w (fun z => absurd z (by omega)) (fun _ => br_c (fun hz => ⟨rc_bi_n b, H b _ _ _ _ _ _ _ _ _ _ (fun t => ?_)⟩) (fun hz => ?_)) e4
    · rw [rc_bi_0 hz] at t
      exact absurd t (by decide)
    · have hbt := rc_bi_1 hz
      refine rc_runN hC rfl (by omega) e1 hn (fun co' go' re' wa' a8' a9' a10' a11' a12' a13' => ⟨pk_in w 1024 (by omega), ?_⟩)
      rw [nI_clamp (show w < 2 ^ 31 by omega)]
      refine pk_eq (rc_cc (rc_tA k A a1 a2 a3 a4 a5) n w) (e w) (fun hq => nm_r (nI_1 w) (ih (w + 1) true _ _ _ _ _ _ _ _ _ _ (by omega) (fun _ u hu => ?_))) (fun hq => nm_r (nI_1 w) (ih (w + 1) false _ _ _ _ _ _ _ _ _ _ (by omega) (fun t => absurd t (by decide)))) rfl haw.1
      by_cases y : u = w
      · rw [y]
        exact hq
      · exact hb hbt u (by omega)
theorem rc_sameAll {post : Int32 → St1 → Prop} {ru sz li co go re wa fo la : Int32} {a1 a2 a3 a4 a5 a6 a7 a8 a9 a10 a11 a12 a13 : Nat → Int32} {a14 : Nat → Int64} {a15 : Nat → Int32} {a16 : Nat → Int64} {a17 a18 : Nat → Int32} {p0 : Int32} {k n : Nat} {A : Nat → Nat} {W : List Nat} {e : Nat → Nat} (hC : rc_C k A W sz li a1 a2 a3 a4 a5 a6 a7) (e0 : p0 = nI n) (hn : n ≤ 5) (ha : ∀ w, w < 4 ^ n → a18 w = nI (e w) ∧ e w < 2 ^ 31)
    (H : ∀ (b : Bool) (co' : Int32) (go' : Int32) (re' : Int32) (wa' : Int32) (a8' : Nat → Int32) (a9' : Nat → Int32) (a10' : Nat → Int32) (a11' : Nat → Int32) (a12' : Nat → Int32) (a13' : Nat → Int32), (b = true → ∀ w, w < 4 ^ n → rc_cc (rc_tA k A a1 a2 a3 a4 a5) n w = e w) → post (rc_bi b) (ru, sz, li, co', go', re', wa', fo, la, a1, a2, a3, a4, a5, a6, a7, a8', a9', a10', a11', a12', a13', a14, a15, a16, a17, a18)) : wpX_sameAll post (ru, sz, li, co, go, re, wa, fo, la, a1, a2, a3, a4, a5, a6, a7, a8, a9, a10, a11, a12, a13, a14, a15, a16, a17, a18) p0 :=
  ⟨4 ^ n + 1, rc_sa4 hC e0 hn ha H (4 ^ n) 0 true _ _ _ _ _ _ _ _ _ _ (by omega) (fun _ u hu => absurd hu (by omega))⟩
/-- two neighbours change places -/
def rc_sw (i : Nat) : Nat → Nat := fun s => if s = i then i + 1 else if s = i + 1 then i else s
/-- one is left out -/
def rc_sk (i : Nat) : Nat → Nat := fun s => if s < i then s else s + 1
theorem rc_41 : ¬ (-4 : Int32) = 1 := by decide
theorem rc_commute {post : Int32 → St1 → Prop} {ru sz li co go re wa fo la : Int32} {a1 a2 a3 a4 a5 a6 a7 a8 a9 a10 a11 a12 a13 : Nat → Int32} {a14 : Nat → Int64} {a15 : Nat → Int32} {a16 : Nat → Int64} {a17 a18 : Nat → Int32} {p0 p1 : Int32} {k n i : Nat} {W : List Nat} (hP : rc_P k W ru sz a1 a2 a3 a4 a5 a6) (e0 : p0 = nI i) (hi : i < 100) (e1 : p1 = nI n) (hn : n ≤ 5)
    (H : ∀ (r : Int32) (li' : Int32) (a7' : Nat → Int32) (co' : Int32) (go' : Int32) (re' : Int32) (wa' : Int32) (a8' : Nat → Int32) (a9' : Nat → Int32) (a10' : Nat → Int32) (a11' : Nat → Int32) (a12' : Nat → Int32) (a13' : Nat → Int32) (a18' : Nat → Int32), (r = 1 → i + 1 < k ∧ ∀ w, w < 4 ^ n → rc_cc (rc_tA k (rc_sw i) a1 a2 a3 a4 a5) n w = rc_cc (rc_tk k a1 a2 a3 a4 a5) n w) → post r (ru, sz, li', co', go', re', wa', fo, la, a1, a2, a3, a4, a5, a6, a7', a8', a9', a10', a11', a12', a13', a14, a15, a16, a17, a18')) : wpX_commute post (ru, sz, li, co, go, re, wa, fo, la, a1, a2, a3, a4, a5, a6, a7, a8, a9, a10, a11, a12, a13, a14, a15, a16, a17, a18) p0 p1 := by
  have hP' := hP
  obtain ⟨hru, hk, hK, hW⟩ := hP'
  have hT := rc_tA_v (k := k) (A := fun s => s) hK
  refine pk_lt i 0 (fun z => absurd z (by omega)) (fun _ => ?_) e0
  have bad : ¬ i + 1 < k → post (-4) (ru, sz, li, co, go, re, wa, fo, la, a1, a2, a3, a4, a5, a6, a7, a8, a9, a10, a11, a12, a13, a14, a15, a16, a17, a18) := fun _ => H (-4) _ _ _ _ _ _ _ _ _ _ _ _ _ (fun z => absurd z rc_41)
  by_cases hik : i + 1 < k
  · refine br_t ?_ (rc_badN e1 hn (br_t rfl (rc_keepAll hP e1 hn (fun a7' co' go' re' wa' a8' a9' a10' a11' a12' a13' a18' h7 h18 => ⟨pk_in i 5 (by omega) e0, nm_e ⟨pk_in (i + 1) 5 (by omega) (by rw [e0]; exact nI_1 i), nm_e ?_⟩⟩))))
    · rw [e0, hru, show k = (k - 1) + 1 by omega, nI_pred]
      exact nI_lt (by omega) (by omega)
    · have hA : ∀ s, s < k → upd (upd a7' p0.toNatClampNeg (p0 + 1).toInt8.toInt32) (p0 + 1).toNatClampNeg p0.toInt8.toInt32 s = nI (rc_sw i s) ∧ rc_sw i s < 5 := by
        intro s hs
        rw [e0, nI_1, nI_clamp (show i < 2 ^ 31 by omega), nI_clamp (show i + 1 < 2 ^ 31 by omega), rc_b8 i (by omega), rc_b8 (i + 1) (by omega)]
        unfold rc_sw
        by_cases z1 : s = i
        · rw [if_pos z1, pk_un (by omega), z1, pk_us]
          exact ⟨rfl, by omega⟩
        · rw [if_neg z1]
          by_cases z2 : s = i + 1
          · rw [if_pos z2, z2, pk_us]
            exact ⟨rfl, by omega⟩
          · rw [if_neg z2, pk_un z2, pk_un z1]
            exact ⟨h7 s hs, by omega⟩
      have hC : rc_C k (rc_sw i) W sz ru a1 a2 a3 a4 a5 a6 (upd (upd a7' p0.toNatClampNeg (p0 + 1).toInt8.toInt32) (p0 + 1).toNatClampNeg p0.toInt8.toInt32) := ⟨hru, hk, hA, hK, hW⟩
      refine rc_sameAll hC e1 hn (fun w hw => ⟨h18 w hw, ?_⟩) (fun b co'' go'' re'' wa'' a8'' a9'' a10'' a11'' a12'' a13'' hb => ?_)
      · have := rc_cc_lt hT n w
        exact Nat.lt_trans this (by decide)
      · refine br_c (fun hz => H 0 _ _ _ _ _ _ _ _ _ _ _ _ _ (fun z => absurd z.symm rc_10)) (fun hz => H 1 _ _ _ _ _ _ _ _ _ _ _ _ _ (fun _ => ⟨hik, hb (rc_bi_1 hz)⟩))
  · refine br_f ?_ (bad hik)
    rw [e0, hru]
    by_cases z : k = 0
    · rw [z]
      intro y
      have h1 : nI i < 0 := Int32.lt_trans y rc_neg
      exact nI_pos (by omega) h1
    · rw [show k = (k - 1) + 1 by omega, nI_pred]
      exact nI_nlt (by omega) (by omega)
theorem rc_idle42 {post : Int32 → St1 → Prop} {ru : Int32} {sz : Int32} {li : Int32} {fo : Int32} {la : Int32} {a1 : Nat → Int32} {a2 : Nat → Int32} {a3 : Nat → Int32} {a4 : Nat → Int32} {a5 : Nat → Int32} {a6 : Nat → Int32} {a14 : Nat → Int64} {a15 : Nat → Int32} {a16 : Nat → Int64} {a17 : Nat → Int32} {a18 : Nat → Int32} {co : Int32} {go : Int32} {re : Int32} {wa : Int32} {a8 : Nat → Int32} {a9 : Nat → Int32} {a10 : Nat → Int32} {a11 : Nat → Int32} {a12 : Nat → Int32} {a13 : Nat → Int32} {x2 : Int32} {k n i : Nat} {W : List Nat} {e : Nat → Nat} (hli : li = nI k) (hk : k < 5) (hK : rc_K a1 a2 a3 a4 a5) (hW : rc_wd W sz a6) (e2 : x2 = nI n) (hn : n ≤ 5) (ha : ∀ w, w < 4 ^ n → a18 w = nI (e w) ∧ e w < 2 ^ 31)
    (H : ∀ (r : Int32) (a7' : Nat → Int32) (co' : Int32) (go' : Int32) (re' : Int32) (wa' : Int32) (a8' : Nat → Int32) (a9' : Nat → Int32) (a10' : Nat → Int32) (a11' : Nat → Int32) (a12' : Nat → Int32) (a13' : Nat → Int32), (r = 1 → ∀ w, w < 4 ^ n → rc_cc (rc_tA k (rc_sk i) a1 a2 a3 a4 a5) n w = e w) → post r (ru, sz, li, co', go', re', wa', fo, la, a1, a2, a3, a4, a5, a6, a7', a8', a9', a10', a11', a12', a13', a14, a15, a16, a17, a18)) :
    ∀ (d s : Nat) (a7 : Nat → Int32), s + d = k → i ≤ s → (∀ j, j < s → a7 j = nI (rc_sk i j)) → (∀ j, s ≤ j → j < k → a7 j = nI j) → wX_idle_42 post x2 ru sz li co go re wa fo la (d + 1) (nI s) a1 a2 a3 a4 a5 a6 a7 a8 a9 a10 a11 a12 a13 a14 a15 a16 a17 a18 := by
  intro d
  induction d with
  | zero =>
    intro s a7 hd his h1 h2
    have e5 : s = k := by omega
    subst e5
    have hC : rc_C s (rc_sk i) W sz li a1 a2 a3 a4 a5 a6 a7 := ⟨hli, by omega, fun j hj => ⟨h1 j hj, by unfold rc_sk; split <;> omega⟩, hK, hW⟩
    refine pk_le s s (fun _ => rc_sameAll hC e2 hn ha (fun b co' go' re' wa' a8' a9' a10' a11' a12' a13' hb => ?_)) (fun z => absurd z (by omega)) hli
    exact br_c (fun hz => H 0 _ _ _ _ _ _ _ _ _ _ _ (fun z => absurd z.symm rc_10)) (fun hz => H 1 _ _ _ _ _ _ _ _ _ _ _ (fun _ => hb (rc_bi_1 hz)))
  | succ d ih =>
    intro s a7 hd his h1 h2
    refine pk_le k s (fun z => absurd z (by omega)) (fun _ => ⟨pk_in s 5 (by omega), nm_e (nm_r (nI_1 s) (ih (s + 1) _ (by omega) (by omega) (fun j hj => ?_) (fun j hj1 hj2 => ?_)))⟩) hli
    · rw [nI_1, nI_clamp (show s < 2 ^ 31 by omega), rc_b8 (s + 1) (by omega)]
      by_cases z : j = s
      · rw [z, pk_us]
        unfold rc_sk
        rw [if_neg (by omega)]
      · rw [pk_un z]
        exact h1 j (by omega)
    · rw [nI_clamp (show s < 2 ^ 31 by omega), pk_un (by omega)]
      exact h2 j (by omega) hj2
theorem rc_idle {post : Int32 → St1 → Prop} {ru sz li co go re wa fo la : Int32} {a1 a2 a3 a4 a5 a6 a7 a8 a9 a10 a11 a12 a13 : Nat → Int32} {a14 : Nat → Int64} {a15 : Nat → Int32} {a16 : Nat → Int64} {a17 a18 : Nat → Int32} {p0 p1 : Int32} {k n i : Nat} {W : List Nat} (hP : rc_P k W ru sz a1 a2 a3 a4 a5 a6) (e0 : p0 = nI i) (hi : i < 100) (e1 : p1 = nI n) (hn : n ≤ 5)
    (H : ∀ (r : Int32) (li' : Int32) (a7' : Nat → Int32) (co' : Int32) (go' : Int32) (re' : Int32) (wa' : Int32) (a8' : Nat → Int32) (a9' : Nat → Int32) (a10' : Nat → Int32) (a11' : Nat → Int32) (a12' : Nat → Int32) (a13' : Nat → Int32) (a18' : Nat → Int32), (r = 1 → i < k ∧ ∀ w, w < 4 ^ n → rc_cc (rc_tA (k - 1) (rc_sk i) a1 a2 a3 a4 a5) n w = rc_cc (rc_tk k a1 a2 a3 a4 a5) n w) → post r (ru, sz, li', co', go', re', wa', fo, la, a1, a2, a3, a4, a5, a6, a7', a8', a9', a10', a11', a12', a13', a14, a15, a16, a17, a18')) : wpX_idle post (ru, sz, li, co, go, re, wa, fo, la, a1, a2, a3, a4, a5, a6, a7, a8, a9, a10, a11, a12, a13, a14, a15, a16, a17, a18) p0 p1 := by
  have hP' := hP
  obtain ⟨hru, hk, hK, hW⟩ := hP'
  have hT := rc_tA_v (k := k) (A := fun s => s) hK
  refine pk_lt i 0 (fun z => absurd z (by omega)) (fun _ => pk_lt i k (fun hik => ?_) (fun _ => H (-4) _ _ _ _ _ _ _ _ _ _ _ _ _ (fun z => absurd z rc_41)) e0 hru) e0
  refine rc_badN e1 hn (br_t rfl (rc_keepAll hP e1 hn (fun a7' co' go' re' wa' a8' a9' a10' a11' a12' a13' a18' h7 h18 => nm_r (e' := nI (k - 1)) ?_ ⟨k - 1 - i + 1, ?_⟩)))
  · rw [hru, show k = (k - 1) + 1 by omega, nI_pred]
    rfl
  · rw [e0]
    refine rc_idle42 (i := i) rfl (by omega) hK hW e1 hn (fun w hw => ⟨h18 w hw, ?_⟩) (fun r a7'' co'' go'' re'' wa'' a8'' a9'' a10'' a11'' a12'' a13'' hr => H r _ _ _ _ _ _ _ _ _ _ _ _ _ (fun z => ⟨hik, hr z⟩)) (k - 1 - i) i a7' (by omega) (Nat.le_refl i) (fun j hj => ?_) (fun j hj1 hj2 => h7 j (by omega))
    · have := rc_cc_lt hT n w
      exact Nat.lt_trans this (by decide)
    · unfold rc_sk
      rw [if_pos hj]
      exact h7 j (by omega)
/-! the rules' arrays change -/
def rc_pm (p : Nat → Nat) (a1 a2 a3 a4 a5 b1 b2 b3 b4 b5 : Nat → Int32) : Prop := ∀ x, b1 x = a1 (p x) ∧ b2 x = a2 (p x) ∧ b3 x = a3 (p x) ∧ b4 x = a4 (p x) ∧ b5 x = a5 (p x)
theorem rc_pm_K {p : Nat → Nat} {a1 a2 a3 a4 a5 b1 b2 b3 b4 b5 : Nat → Int32} (h : rc_pm p a1 a2 a3 a4 a5 b1 b2 b3 b4 b5) (hK : rc_K a1 a2 a3 a4 a5) : rc_K b1 b2 b3 b4 b5 := by
  intro x
  obtain ⟨h1, h2, h3, h4, h5⟩ := h x
  rw [h1, h2, h3, h4, h5]
  exact hK (p x)
theorem rc_pm_rl {p : Nat → Nat} {a1 a2 a3 a4 a5 b1 b2 b3 b4 b5 : Nat → Int32} (h : rc_pm p a1 a2 a3 a4 a5 b1 b2 b3 b4 b5) (x : Nat) : rc_rl b1 b2 b3 b4 b5 x = rc_rl a1 a2 a3 a4 a5 (p x) := by
  obtain ⟨h1, h2, h3, h4, h5⟩ := h x
  unfold rc_rl
  rw [h1, h2, h3, h4, h5]
theorem rc_pm_tk {p A : Nat → Nat} {k : Nat} {a1 a2 a3 a4 a5 b1 b2 b3 b4 b5 : Nat → Int32} (h : rc_pm p a1 a2 a3 a4 a5 b1 b2 b3 b4 b5) (hA : ∀ s, s < k → p s = A s) : rc_tk k b1 b2 b3 b4 b5 = rc_tA k A a1 a2 a3 a4 a5 := by
  refine rc_tm_congr (fun s hs => ?_)
  rw [rc_pm_rl h s, hA s hs]
theorem rc_pm_id {a1 a2 a3 a4 a5 b1 b2 b3 b4 b5 c1 c2 c3 c4 c5 : Nat → Int32} {p q : Nat → Nat} (h : rc_pm p a1 a2 a3 a4 a5 b1 b2 b3 b4 b5) (g : rc_pm q b1 b2 b3 b4 b5 c1 c2 c3 c4 c5) (hq : ∀ x, p (q x) = x) : c1 = a1 ∧ c2 = a2 ∧ c3 = a3 ∧ c4 = a4 ∧ c5 = a5 := by
  refine ⟨?_, ?_, ?_, ?_, ?_⟩
  · funext x
    rw [(g x).1, (h (q x)).1, hq]
  · funext x
    rw [(g x).2.1, (h (q x)).2.1, hq]
  · funext x
    rw [(g x).2.2.1, (h (q x)).2.2.1, hq]
  · funext x
    rw [(g x).2.2.2.1, (h (q x)).2.2.2.1, hq]
  · funext x
    rw [(g x).2.2.2.2, (h (q x)).2.2.2.2, hq]
theorem rc_sw_sw (i x : Nat) : rc_sw i (rc_sw i x) = x := by
  unfold rc_sw
  by_cases z1 : x = i
  · rw [if_pos z1, if_neg (by omega), if_pos rfl, z1]
  · rw [if_neg z1]
    by_cases z2 : x = i + 1
    · rw [if_pos z2, if_pos rfl, z2]
    · rw [if_neg z2, if_neg z1, if_neg z2]
theorem rc_K_nar {a1 a2 a3 a4 a5 : Nat → Int32} (hK : rc_K a1 a2 a3 a4 a5) (i : Nat) : vp_nar .byte (a1 i) = a1 i ∧ vp_nar .byte (a2 i) = a2 i ∧ vp_nar .byte (a3 i) = a3 i ∧ vp_nar .byte (a4 i) = a4 i ∧ vp_nar .byte (a5 i) = a5 i := by
  obtain ⟨h1, h2, h3, h4, h5⟩ := hK i
  refine ⟨?_, ?_, ?_, ?_, ?_⟩
  · rw [vp_nar_byte]
    exact h1
  · rw [vp_nar_byte]
    exact h2
  · rw [h3.1]
    exact rc_nb8 (by have := h3.2; omega)
  · rw [vp_nar_byte]
    exact h4
  · rw [vp_nar_byte]
    exact h5
theorem rc_copy {post : St1 → Prop} {ru sz li co go re wa fo la : Int32} {a1 a2 a3 a4 a5 a6 a7 a8 a9 a10 a11 a12 a13 : Nat → Int32} {a14 : Nat → Int64} {a15 : Nat → Int32} {a16 : Nat → Int64} {a17 a18 : Nat → Int32} {p0 p1 : Int32} {i j : Nat} (hK : rc_K a1 a2 a3 a4 a5) (e0 : p0 = nI i) (hi : i < 5) (e1 : p1 = nI j) (hj : j < 5) (H : post (ru, sz, li, co, go, re, wa, fo, la, upd a1 j (a1 i), upd a2 j (a2 i), upd a3 j (a3 i), upd a4 j (a4 i), upd a5 j (a5 i), a6, a7, a8, a9, a10, a11, a12, a13, a14, a15, a16, a17, a18)) : wpX_copyRule post (ru, sz, li, co, go, re, wa, fo, la, a1, a2, a3, a4, a5, a6, a7, a8, a9, a10, a11, a12, a13, a14, a15, a16, a17, a18) p0 p1 := by
  subst e0 e1
  obtain ⟨h1, h2, h3, h4, h5⟩ := rc_K_nar hK i
  have q0 : vp_in (nI i) 5 := pk_in i 5 hi
  have q1 : vp_in (nI j) 5 := pk_in j 5 hj
  unfold wpX_copyRule
  dsimp only
  rw [nI_clamp (show i < 2 ^ 31 by omega), nI_clamp (show j < 2 ^ 31 by omega), h1, h2, h3, h4, h5]
  exact ⟨q0, q1, nm_e ⟨q0, q1, nm_e ⟨q0, q1, nm_e ⟨q0, q1, nm_e ⟨q0, q1, nm_e H⟩⟩⟩⟩⟩
theorem rc_upp {a b : Nat → Int32} {p p' : Nat → Nat} {i j : Nat} (h : ∀ x, b x = a (p x)) (hj : p' j = p i) (hp : ∀ x, x ≠ j → p' x = p x) : ∀ x, upd b j (b i) x = a (p' x) := by
  intro x
  by_cases z : x = j
  · rw [z, pk_us, hj, h]
  · rw [pk_un z, hp x z, h]
theorem rc_pm_cp {a1 a2 a3 a4 a5 b1 b2 b3 b4 b5 : Nat → Int32} {p p' : Nat → Nat} {i j : Nat} (h : rc_pm p a1 a2 a3 a4 a5 b1 b2 b3 b4 b5) (hj : p' j = p i) (hp : ∀ x, x ≠ j → p' x = p x) : rc_pm p' a1 a2 a3 a4 a5 (upd b1 j (b1 i)) (upd b2 j (b2 i)) (upd b3 j (b3 i)) (upd b4 j (b4 i)) (upd b5 j (b5 i)) :=
  fun x => ⟨rc_upp (fun y => (h y).1) hj hp x, rc_upp (fun y => (h y).2.1) hj hp x, rc_upp (fun y => (h y).2.2.1) hj hp x, rc_upp (fun y => (h y).2.2.2.1) hj hp x, rc_upp (fun y => (h y).2.2.2.2) hj hp x⟩
/-- what dropping has done when it stands at place s -/
def rc_dp (i s : Nat) : Nat → Nat := fun x => if i ≤ x ∧ x < s then x + 1 else x
theorem rc_drop27 {post : Int32 → St1 → Prop} {ru : Int32} {sz : Int32} {li : Int32} {co : Int32} {go : Int32} {re : Int32} {wa : Int32} {fo : Int32} {la : Int32} {a6 : Nat → Int32} {a7 : Nat → Int32} {a8 : Nat → Int32} {a9 : Nat → Int32} {a10 : Nat → Int32} {a11 : Nat → Int32} {a12 : Nat → Int32} {a13 : Nat → Int32} {a14 : Nat → Int64} {a15 : Nat → Int32} {a16 : Nat → Int64} {a17 : Nat → Int32} {a18 : Nat → Int32} {k i : Nat} {b1 b2 b3 b4 b5 : Nat → Int32} (hK : rc_K b1 b2 b3 b4 b5) (hru : ru = nI k) (hk : k < 5)
    (H : ∀ (a1' : Nat → Int32) (a2' : Nat → Int32) (a3' : Nat → Int32) (a4' : Nat → Int32) (a5' : Nat → Int32), rc_pm (rc_dp i k) b1 b2 b3 b4 b5 a1' a2' a3' a4' a5' → post (nI k) (nI k, sz, li, co, go, re, wa, fo, la, a1', a2', a3', a4', a5', a6, a7, a8, a9, a10, a11, a12, a13, a14, a15, a16, a17, a18)) :
    ∀ (d s : Nat) (a1 : Nat → Int32) (a2 : Nat → Int32) (a3 : Nat → Int32) (a4 : Nat → Int32) (a5 : Nat → Int32), s + d = k → i ≤ s → rc_pm (rc_dp i s) b1 b2 b3 b4 b5 a1 a2 a3 a4 a5 → wX_drop_27 post (d + 1) (nI s) ru sz li co go re wa fo la a1 a2 a3 a4 a5 a6 a7 a8 a9 a10 a11 a12 a13 a14 a15 a16 a17 a18 := by
  intro d
  induction d with
  | zero =>
    intro s a1 a2 a3 a4 a5 hd his h
    have e : s = k := by omega
    subst e
    refine pk_le s s (fun _ => ?_) (fun z => absurd z (by omega)) hru
    rw [hru]
    exact H _ _ _ _ _ h
  | succ d ih =>
    intro s a1 a2 a3 a4 a5 hd his h
    refine pk_le k s (fun z => absurd z (by omega)) (fun _ => rc_copy (rc_pm_K h hK) (nI_1 s) (by omega) rfl (by omega) (nm_r (nI_1 s) (ih (s + 1) _ _ _ _ _ (by omega) (by omega) (rc_pm_cp h ?_ (fun x hx => ?_))))) hru
    · unfold rc_dp
      rw [if_pos ⟨by omega, by omega⟩, if_neg (by omega)]
    · unfold rc_dp
      by_cases z : i ≤ x ∧ x < s
      · rw [if_pos z, if_pos ⟨z.1, by omega⟩]
      · rw [if_neg z, if_neg (by omega)]
theorem rc_drop {post : Int32 → St1 → Prop} {ru sz li co go re wa fo la : Int32} {a1 a2 a3 a4 a5 a6 a7 a8 a9 a10 a11 a12 a13 : Nat → Int32} {a14 : Nat → Int64} {a15 : Nat → Int32} {a16 : Nat → Int64} {a17 a18 : Nat → Int32} {p0 : Int32} {k i : Nat} (hru : ru = nI k) (hk : k ≤ 5) (hK : rc_K a1 a2 a3 a4 a5) (e0 : p0 = nI i) (hi : i < 100)
    (H1 : i < k → ∀ (a1' : Nat → Int32) (a2' : Nat → Int32) (a3' : Nat → Int32) (a4' : Nat → Int32) (a5' : Nat → Int32), rc_pm (rc_dp i (k - 1)) a1 a2 a3 a4 a5 a1' a2' a3' a4' a5' → post (nI (k - 1)) (nI (k - 1), sz, li, co, go, re, wa, fo, la, a1', a2', a3', a4', a5', a6, a7, a8, a9, a10, a11, a12, a13, a14, a15, a16, a17, a18))
    (H0 : k ≤ i → post (-4) (ru, sz, li, co, go, re, wa, fo, la, a1, a2, a3, a4, a5, a6, a7, a8, a9, a10, a11, a12, a13, a14, a15, a16, a17, a18)) : wpX_drop post (ru, sz, li, co, go, re, wa, fo, la, a1, a2, a3, a4, a5, a6, a7, a8, a9, a10, a11, a12, a13, a14, a15, a16, a17, a18) p0 := by
  refine pk_lt i 0 (fun z => absurd z (by omega)) (fun _ => pk_lt i k (fun hik => nm_r (e' := nI (k - 1)) ?_ ⟨k - 1 - i + 1, ?_⟩) H0 e0 hru) e0
  · rw [hru, show k = (k - 1) + 1 by omega, nI_pred]
    rfl
  · rw [e0]
    refine rc_drop27 (i := i) hK rfl (by omega) (H1 hik) (k - 1 - i) i a1 a2 a3 a4 a5 (by omega) (Nat.le_refl i) (fun x => ?_)
    have e : rc_dp i i x = x := by
      unfold rc_dp
      rw [if_neg (by omega)]
    rw [e]
    exact ⟨rfl, rfl, rfl, rfl, rfl⟩
theorem rc_swu {a : Nat → Int32} (i : Nat) : ∀ x, upd (upd a i (a (i + 1))) (i + 1) (a i) x = a (rc_sw i x) := by
  intro x
  unfold rc_sw
  by_cases z1 : x = i
  · rw [if_pos z1, pk_un (by omega), z1, pk_us]
  · rw [if_neg z1]
    by_cases z2 : x = i + 1
    · rw [if_pos z2, z2, pk_us]
    · rw [if_neg z2, pk_un z2, pk_un z1]
theorem rc_swap {post : Int32 → St1 → Prop} {ru sz li co go re wa fo la : Int32} {a1 a2 a3 a4 a5 a6 a7 a8 a9 a10 a11 a12 a13 : Nat → Int32} {a14 : Nat → Int64} {a15 : Nat → Int32} {a16 : Nat → Int64} {a17 a18 : Nat → Int32} {p0 : Int32} {k i : Nat} (hru : ru = nI k) (hk : k ≤ 5) (hK : rc_K a1 a2 a3 a4 a5) (e0 : p0 = nI i) (hi : i < 100)
    (H1 : i + 1 < k → ∀ (a1' : Nat → Int32) (a2' : Nat → Int32) (a3' : Nat → Int32) (a4' : Nat → Int32) (a5' : Nat → Int32), rc_pm (rc_sw i) a1 a2 a3 a4 a5 a1' a2' a3' a4' a5' → post 0 (ru, sz, li, co, go, re, wa, fo, la, a1', a2', a3', a4', a5', a6, a7, a8, a9, a10, a11, a12, a13, a14, a15, a16, a17, a18))
    (H0 : k ≤ i + 1 → post (-4) (ru, sz, li, co, go, re, wa, fo, la, a1, a2, a3, a4, a5, a6, a7, a8, a9, a10, a11, a12, a13, a14, a15, a16, a17, a18)) : wpX_swap post (ru, sz, li, co, go, re, wa, fo, la, a1, a2, a3, a4, a5, a6, a7, a8, a9, a10, a11, a12, a13, a14, a15, a16, a17, a18) p0 := by
  refine pk_lt i 0 (fun z => absurd z (by omega)) (fun _ => ?_) e0
  by_cases hik : i + 1 < k
  · obtain ⟨h1, h2, h3, h4, h5⟩ := rc_K_nar hK i
    have q0 : vp_in p0 5 := pk_in i 5 (by omega) e0
    have q1 : vp_in (p0 + 1) 5 := pk_in (i + 1) 5 (by omega) (by rw [e0]; exact nI_1 i)
    have c0 : p0.toNatClampNeg = i := by
      rw [e0]
      exact nI_clamp (by omega)
    have c1 : (p0 + 1).toNatClampNeg = i + 1 := by
      rw [e0, nI_1]
      exact nI_clamp (by omega)
    refine br_t ?_ ⟨q0, nm_e ⟨q0, nm_e ⟨q0, nm_e ⟨q0, nm_e ⟨q0, nm_e ?_⟩⟩⟩⟩⟩
    · rw [e0, hru, show k = (k - 1) + 1 by omega, nI_pred]
      exact nI_lt (by omega) (by omega)
    · rw [c0]
      refine rc_copy hK (by rw [e0]; exact nI_1 i) (by omega) e0 (by omega) ?_
      rw [c1]
      refine ⟨q1, nm_r (e' := upd (upd a1 i (a1 (i + 1))) (i + 1) (a1 i)) (by rw [h1]) ⟨q1, nm_r (e' := upd (upd a2 i (a2 (i + 1))) (i + 1) (a2 i)) (by rw [h2]) ⟨q1, nm_r (e' := upd (upd a3 i (a3 (i + 1))) (i + 1) (a3 i)) (by rw [h3]) ⟨q1, nm_r (e' := upd (upd a4 i (a4 (i + 1))) (i + 1) (a4 i)) (by rw [h4]) ⟨q1, nm_r (e' := upd (upd a5 i (a5 (i + 1))) (i + 1) (a5 i)) (by rw [h5]) ?_⟩⟩⟩⟩⟩
      exact H1 hik _ _ _ _ _ (fun x => ⟨rc_swu i x, rc_swu i x, rc_swu i x, rc_swu i x, rc_swu i x⟩)
  · refine br_f ?_ (H0 (by omega))
    rw [e0, hru]
    by_cases z : k = 0
    · rw [z]
      intro y
      have h1 : nI i < 0 := Int32.lt_trans y rc_neg
      exact nI_pos (by omega) h1
    · rw [show k = (k - 1) + 1 by omega, nI_pred]
      exact nI_nlt (by omega) (by omega)
theorem rc_app18 {post : Int32 → St1 → Prop} {ru : Int32} {sz : Int32} {li : Int32} {co : Int32} {go : Int32} {re : Int32} {wa : Int32} {fo : Int32} {la : Int32} {a1 : Nat → Int32} {a2 : Nat → Int32} {a3 : Nat → Int32} {a4 : Nat → Int32} {a5 : Nat → Int32} {a7 : Nat → Int32} {a8 : Nat → Int32} {a9 : Nat → Int32} {a10 : Nat → Int32} {a11 : Nat → Int32} {a12 : Nat → Int32} {a13 : Nat → Int32} {a14 : Nat → Int64} {a15 : Nat → Int32} {a16 : Nat → Int64} {a17 : Nat → Int32} {a18 : Nat → Int32} : ∀ (ys X : List Nat) (a6 : Nat → Int32), rc_at a13 X.length ys → rc_at a6 0 X → re = nI (X.length + ys.length) → X.length + ys.length ≤ 12 →
    (∀ (a6' : Nat → Int32), rc_at a6' 0 (X ++ ys) → post sz (ru, sz, li, co, go, re, wa, fo, la, a1, a2, a3, a4, a5, a6', a7, a8, a9, a10, a11, a12, a13, a14, a15, a16, a17, a18)) → wX_apply_18 post ru sz li co go re wa fo la (ys.length + 1) (nI X.length) a1 a2 a3 a4 a5 a6 a7 a8 a9 a10 a11 a12 a13 a14 a15 a16 a17 a18 := by
  intro ys
  induction ys with
  | nil =>
    intro X a6 _ hX hg h12 H
    rw [List.length_nil] at h12
    exact pk_le X.length X.length (fun _ => H a6 (rc_apn hX)) (fun z => absurd z (by omega)) hg
  | cons y ys ih =>
    intro X a6 hy hX hg h12 H
    rw [List.length_cons] at hg h12
    refine pk_le (X.length + (ys.length + 1)) X.length (fun z => absurd z (by omega)) (fun _ => ⟨pk_in X.length 12 (by omega), pk_in X.length 12 (by omega), nm_e (nm_r (nI_1 X.length) ?_)⟩) hg
    rw [nI_clamp (show X.length < 2 ^ 31 by omega)]
    have hX' : rc_at (upd a6 X.length (vp_nar .byte (a13 X.length))) 0 (X ++ [y]) := rc_at_put hX hy.2.1 (by rw [hy.1]; exact rc_nb8 (by have := hy.2.1; omega)) rfl
    have e : (X ++ [y]).length = X.length + 1 := by
      rw [List.length_append]
      rfl
    have h := ih (X ++ [y]) (upd a6 X.length (vp_nar .byte (a13 X.length))) (by rw [e]; exact hy.2.2) hX' (by rw [e, hg]; congr 1; omega) (by rw [e]; omega) (fun a6' h' => H a6' (by rw [List.append_assoc] at h'; exact h'))
    rw [e] at h
    exact h
theorem rc_apply {post : Int32 → St1 → Prop} {ru sz li co go re wa fo la : Int32} {a1 a2 a3 a4 a5 a6 a7 a8 a9 a10 a11 a12 a13 : Nat → Int32} {a14 : Nat → Int64} {a15 : Nat → Int32} {a16 : Nat → Int64} {a17 a18 : Nat → Int32} {k : Nat} {W : List Nat} (hP : rc_P k W ru sz a1 a2 a3 a4 a5 a6)
    (H : ∀ (r : Int32) (sz' : Int32) (a6' : Nat → Int32) (li' : Int32) (a7' : Nat → Int32) (co' : Int32) (go' : Int32) (re' : Int32) (wa' : Int32) (a8' : Nat → Int32) (a9' : Nat → Int32) (a10' : Nat → Int32) (a11' : Nat → Int32) (a12' : Nat → Int32) (a13' : Nat → Int32), rc_wd (rc_F (rc_tk k a1 a2 a3 a4 a5) W) sz' a6' → post r (ru, sz', li', co', go', re', wa', fo, la, a1, a2, a3, a4, a5, a6', a7', a8', a9', a10', a11', a12', a13', a14, a15, a16, a17, a18)) : wpX_apply post (ru, sz, li, co, go, re, wa, fo, la, a1, a2, a3, a4, a5, a6, a7, a8, a9, a10, a11, a12, a13, a14, a15, a16, a17, a18) := by
  obtain ⟨hru, hk, hK, hW⟩ := hP
  have hF := rc_tk_F (k := k) hK hW
  unfold wpX_apply
  dsimp only
  refine rc_run hru hk hK hW (fun li' a7' co' go' re' wa' a8' a9' a10' a11' a12' a13' k1 k2 => ⟨(rc_F (rc_tk k a1 a2 a3 a4 a5) W).length + 1, ?_⟩)
  exact rc_app18 (rc_F (rc_tk k a1 a2 a3 a4 a5) W) [] a6 k2 trivial (by rw [k1, List.length_nil, Nat.zero_add]) (by rw [List.length_nil]; omega) (fun a6' h' => H _ _ _ _ _ _ _ _ _ _ _ _ _ _ _ ⟨k1, hF.2, h'⟩)
end
section
/-! rule, and the law's parts -/
theorem rc_badAny {post : Int32 → Prop} {u : St1} {p0 : Int32} (h0 : post 0) (h1 : post 1) : wpX_badLetter post u p0 := by
  obtain ⟨_, _, _, _, _, _, _, _, _, _, _, _, _, _, _, _, _, _, _, _, _, _, _, _, _, _, _⟩ := u
  exact br_c (fun _ => h1) (fun _ => br_c (fun _ => h0) (fun _ => h1))
theorem rc_bb (z : Int32) : z.toInt8.toInt32.toInt8.toInt32 = z.toInt8.toInt32 := by
  have h := pk_vb z
  rw [vp_nar_byte] at h
  exact h
theorem rc_K_up {a1 a2 a3 a4 a5 : Nat → Int32} (hK : rc_K a1 a2 a3 a4 a5) (j : Nat) (v1 v2 v4 v5 : Int32) {v3 : Int32} {y : Nat} (h3 : v3 = nI y) (hy : y < 4) : rc_K (upd a1 j v1.toInt8.toInt32) (upd a2 j v2.toInt8.toInt32) (upd a3 j v3.toInt8.toInt32) (upd a4 j v4.toInt8.toInt32) (upd a5 j v5.toInt8.toInt32) := by
  intro i
  by_cases z : i = j
  · rw [z, pk_us, pk_us, pk_us, pk_us, pk_us, h3, rc_b8 y (by omega), nI_clamp (show y < 2 ^ 31 by omega)]
    exact ⟨rc_bb _, rc_bb _, ⟨rfl, hy⟩, rc_bb _, rc_bb _⟩
  · rw [pk_un z, pk_un z, pk_un z, pk_un z, pk_un z]
    exact hK i
theorem rc_rule59 {post : Int32 → St1 → Prop} {ru sz li co go re wa fo la : Int32} {a1 a2 a3 a4 a5 a6 a7 a8 a9 a10 a11 a12 a13 : Nat → Int32} {a14 : Nat → Int64} {a15 : Nat → Int32} {a16 : Nat → Int64} {a17 a18 : Nat → Int32} {x1 x2 x3 x4 x5 x6 : Int32} {k y : Nat} (hru : ru = nI k) (hk : k ≤ 5) (hK : rc_K a1 a2 a3 a4 a5) (e3 : x3 = nI y) (hy : y < 4)
    (H : ∀ (r : Int32) (k' : Nat) (ru' : Int32) (a1' : Nat → Int32) (a2' : Nat → Int32) (a3' : Nat → Int32) (a4' : Nat → Int32) (a5' : Nat → Int32), ru' = nI k' → k' ≤ 5 → rc_K a1' a2' a3' a4' a5' → post r (ru', sz, li, co, go, re, wa, fo, la, a1', a2', a3', a4', a5', a6, a7, a8, a9, a10, a11, a12, a13, a14, a15, a16, a17, a18)) : wX_rule_59 post x1 x2 x3 x4 x5 x6 ru sz li co go re wa fo la a1 a2 a3 a4 a5 a6 a7 a8 a9 a10 a11 a12 a13 a14 a15 a16 a17 a18 := by
  have same : ∀ r : Int32, post r (ru, sz, li, co, go, re, wa, fo, la, a1, a2, a3, a4, a5, a6, a7, a8, a9, a10, a11, a12, a13, a14, a15, a16, a17, a18) := fun r => H r k _ _ _ _ _ _ hru hk hK
  refine br_c (fun _ => same _) (fun _ => br_c (fun _ => pk_eq k 5 (fun _ => same _) (fun hk5 => ?_) hru) (fun _ => same _))
  have hin : vp_in ru 5 := pk_in k 5 (by omega) hru
  have hc : ru.toNatClampNeg = k := by
    rw [hru]
    exact nI_clamp (by omega)
  have h134 : ∀ (z2 z3 : Int32) (y' : Nat), z3 = nI y' → y' < 4 → wX_rule_134 post x4 z3 ru ru sz li co go re wa fo la (upd a1 ru.toNatClampNeg x1.toInt8.toInt32) (upd a2 ru.toNatClampNeg z2.toInt8.toInt32) a3 a4 a5 a6 a7 a8 a9 a10 a11 a12 a13 a14 a15 a16 a17 a18 := by
    intro z2 z3 y' h3 hy'
    refine ⟨hin, nm_e ⟨hin, nm_e ⟨hin, nm_e (nm_r (e' := nI (k + 1)) (by rw [hru]; exact nI_1 k) ?_)⟩⟩⟩
    rw [hc]
    exact H _ (k + 1) _ _ _ _ _ _ rfl (by omega) (rc_K_up hK k x1 z2 _ _ h3 hy')
  have h114 : ∀ z2 : Int32, wX_rule_114 post x3 x4 x6 z2 ru ru sz li co go re wa fo la (upd a1 ru.toNatClampNeg x1.toInt8.toInt32) a2 a3 a4 a5 a6 a7 a8 a9 a10 a11 a12 a13 a14 a15 a16 a17 a18 := by
    intro z2
    exact ⟨hin, nm_e (br_c (fun _ => h134 z2 0 0 rfl (by omega)) (fun _ => h134 z2 x3 y e3 hy))⟩
  exact ⟨hin, nm_e (br_c (fun _ => h114 0) (fun _ => h114 x2))⟩
theorem rc_rule {post : Int32 → St1 → Prop} {ru sz li co go re wa fo la : Int32} {a1 a2 a3 a4 a5 a6 a7 a8 a9 a10 a11 a12 a13 : Nat → Int32} {a14 : Nat → Int64} {a15 : Nat → Int32} {a16 : Nat → Int64} {a17 a18 : Nat → Int32} {p0 p1 p2 p3 : Int32} {k y : Nat} (hru : ru = nI k) (hk : k ≤ 5) (hK : rc_K a1 a2 a3 a4 a5) (e2 : p2 = nI y) (hy : y < 4)
    (H : ∀ (r : Int32) (k' : Nat) (ru' : Int32) (a1' : Nat → Int32) (a2' : Nat → Int32) (a3' : Nat → Int32) (a4' : Nat → Int32) (a5' : Nat → Int32), ru' = nI k' → k' ≤ 5 → rc_K a1' a2' a3' a4' a5' → post r (ru', sz, li, co, go, re, wa, fo, la, a1', a2', a3', a4', a5', a6, a7, a8, a9, a10, a11, a12, a13, a14, a15, a16, a17, a18)) : wpX_rule post (ru, sz, li, co, go, re, wa, fo, la, a1, a2, a3, a4, a5, a6, a7, a8, a9, a10, a11, a12, a13, a14, a15, a16, a17, a18) p0 p1 p2 p3 := by
  have same : ∀ r : Int32, post r (ru, sz, li, co, go, re, wa, fo, la, a1, a2, a3, a4, a5, a6, a7, a8, a9, a10, a11, a12, a13, a14, a15, a16, a17, a18) := fun r => H r k _ _ _ _ _ _ hru hk hK
  have h59 : ∀ x5 x6 : Int32, wX_rule_59 post p0 p1 p2 p3 x5 x6 ru sz li co go re wa fo la a1 a2 a3 a4 a5 a6 a7 a8 a9 a10 a11 a12 a13 a14 a15 a16 a17 a18 := fun x5 x6 => rc_rule59 hru hk hK e2 hy H
  have h46 : ∀ x5 x6 : Int32, wX_rule_46 post p0 p1 p2 p3 x5 x6 ru sz li co go re wa fo la a1 a2 a3 a4 a5 a6 a7 a8 a9 a10 a11 a12 a13 a14 a15 a16 a17 a18 := by
    intro x5 x6
    exact br_c (fun _ => h59 x5 x6) (fun _ => rc_badAny (br_t rfl (h59 x5 x6)) (br_f rc_10 (same _)))
  have h22 : ∀ x5 x6 : Int32, wX_rule_22 post p0 p1 p2 p3 x5 x6 ru sz li co go re wa fo la a1 a2 a3 a4 a5 a6 a7 a8 a9 a10 a11 a12 a13 a14 a15 a16 a17 a18 := by
    intro x5 x6
    exact br_c (fun _ => same _) (fun _ => br_c (fun _ => same _) (fun _ => br_c (fun _ => h46 x5 x6) (fun _ => rc_badAny (br_t rfl (h46 x5 x6)) (br_f rc_10 (same _)))))
  have h10 : ∀ x5 : Int32, wX_rule_10 post p0 p1 p2 p3 x5 ru sz li co go re wa fo la a1 a2 a3 a4 a5 a6 a7 a8 a9 a10 a11 a12 a13 a14 a15 a16 a17 a18 := fun x5 => br_c (fun _ => h22 x5 0) (fun _ => h22 x5 1)
  exact br_c (fun _ => h10 0) (fun _ => h10 1)
theorem rc_m5 (x : Int32) : ∃ j : Nat, j < 5 ∧ (x &&& 127) - (x &&& 127) / 5 * 5 = nI j := by
  obtain ⟨t, ht, e⟩ := pk_andE x (m := 127) 7 (by decide)
  refine ⟨t % 5, Nat.mod_lt _ (by decide), ?_⟩
  rw [e]
  exact pk_rem (d := 5) (by omega) (by decide) (by decide)
theorem rc_m4 (x : Int32) : ∃ j : Nat, j < 4 ∧ (x &&& 127) - (x &&& 127) / 4 * 4 = nI j := by
  obtain ⟨t, ht, e⟩ := pk_andE x (m := 127) 7 (by decide)
  refine ⟨t % 4, Nat.mod_lt _ (by decide), ?_⟩
  rw [e]
  exact pk_rem (d := 4) (by omega) (by decide) (by decide)
theorem rc_turn51 {post : St1 → Prop} {ru sz li co go re wa fo la : Int32} {a1 a2 a3 a4 a5 a6 a7 a8 a9 a10 a11 a12 a13 : Nat → Int32} {a14 : Nat → Int64} {a15 : Nat → Int32} {a16 : Nat → Int64} {a17 a18 : Nat → Int32} {x2 x3 x4 x5 x6 z0 : Int32} {k x y : Nat} {W : List Nat} (hP : rc_P k W ru sz a1 a2 a3 a4 a5 a6) (e5 : x5 = nI x) (hx : x < 4) (e6 : x6 = nI y) (hy : y < 4)
    (H : ∀ (k' : Nat) (W' : List Nat) (ru' : Int32) (sz' : Int32) (a1' : Nat → Int32) (a2' : Nat → Int32) (a3' : Nat → Int32) (a4' : Nat → Int32) (a5' : Nat → Int32) (a6' : Nat → Int32), rc_P k' W' ru' sz' a1' a2' a3' a4' a5' a6' → post (ru', sz', li, co, go, re, wa, fo, la, a1', a2', a3', a4', a5', a6', a7, a8, a9, a10, a11, a12, a13, a14, a15, a16, a17, a18)) : wL_turn_51 post x2 x3 x4 x5 x6 z0 ru sz li co go re wa fo la a1 a2 a3 a4 a5 a6 a7 a8 a9 a10 a11 a12 a13 a14 a15 a16 a17 a18 := by
  have same : post (ru, sz, li, co, go, re, wa, fo, la, a1, a2, a3, a4, a5, a6, a7, a8, a9, a10, a11, a12, a13, a14, a15, a16, a17, a18) := H k W _ _ _ _ _ _ _ _ hP
  have hP' := hP
  obtain ⟨hru, hk, hK, hW⟩ := hP'
  obtain ⟨i, hi, e⟩ := rc_m5 x2
  refine br_c (fun _ => br_c (fun _ => ⟨by decide, ?_⟩) (fun _ => br_c (fun _ => ⟨by decide, ?_⟩) (fun _ => br_c (fun _ => br_c (fun _ => ?_) (fun _ => same)) (fun _ => ?_)))) (fun _ => ?_)
  · exact rc_drop hru hk hK e (by omega) (fun hik a1' a2' a3' a4' a5' hp => H (k - 1) W _ _ _ _ _ _ _ _ ⟨rfl, by omega, rc_pm_K hp hK, hW⟩) (fun _ => same)
  · exact rc_swap hru hk hK e (by omega) (fun hik a1' a2' a3' a4' a5' hp => H k W _ _ _ _ _ _ _ _ ⟨hru, hk, rc_pm_K hp hK, hW⟩) (fun _ => same)
  · exact rc_clear (H k [] _ _ _ _ _ _ _ _ ⟨hru, hk, hK, rfl, by rw [List.length_nil]; omega, trivial⟩)
  · by_cases h12 : W.length = 12
    · exact rc_push_full hW e5 hx h12 same
    · have h2 := hW.2.1
      exact rc_push hW e5 hx (by omega) (fun sz' a6' hW' => H k _ _ _ _ _ _ _ _ _ ⟨hru, hk, hK, hW'⟩)
  · exact rc_rule hru hk hK e6 hy (fun r k' ru' a1' a2' a3' a4' a5' h1 h2 h3 => H k' W _ _ _ _ _ _ _ _ ⟨h1, h2, h3, hW⟩)
theorem rc_turn {post : St1 → Prop} {ru sz li co go re wa fo la : Int32} {a1 a2 a3 a4 a5 a6 a7 a8 a9 a10 a11 a12 a13 : Nat → Int32} {a14 : Nat → Int64} {a15 : Nat → Int32} {a16 : Nat → Int64} {a17 a18 : Nat → Int32} {p1 p2 : Int32} {k : Nat} {W : List Nat} (hP : rc_P k W ru sz a1 a2 a3 a4 a5 a6)
    (H : ∀ (k' : Nat) (W' : List Nat) (ru' : Int32) (sz' : Int32) (a1' : Nat → Int32) (a2' : Nat → Int32) (a3' : Nat → Int32) (a4' : Nat → Int32) (a5' : Nat → Int32) (a6' : Nat → Int32), rc_P k' W' ru' sz' a1' a2' a3' a4' a5' a6' → post (ru', sz', li, co, go, re, wa, fo, la, a1', a2', a3', a4', a5', a6', a7, a8, a9, a10, a11, a12, a13, a14, a15, a16, a17, a18)) : wpL_turn post (ru, sz, li, co, go, re, wa, fo, la, a1, a2, a3, a4, a5, a6, a7, a8, a9, a10, a11, a12, a13, a14, a15, a16, a17, a18) p1 p2 := by
  obtain ⟨x, hx, ex⟩ := pk_andE (p2 >>> ((7 : Int32) &&& 31)) (m := 3) 2 (by decide)
  obtain ⟨y, hy, ey⟩ := pk_andE (p2 >>> ((9 : Int32) &&& 31)) (m := 3) 2 (by decide)
  exact nm_e ⟨by decide, nm_e (nm_r ex (nm_r ey (br_c (fun _ => rc_turn51 hP rfl hx rfl hy H) (fun _ => rc_turn51 hP rfl hx rfl hy H))))⟩
/-! counts -/
theorem rc_cn66 {post : Int32 → St1 → Prop} {ru sz li co go re wa fo la : Int32} {a1 a2 a3 a4 a5 a6 a7 a8 a9 a10 a11 a12 a13 : Nat → Int32} {a14 : Nat → Int64} {a15 : Nat → Int32} {a16 : Nat → Int64} {a17 a18 : Nat → Int32} {x1 x2 x3 x4 : Int32} {k n : Nat} {W : List Nat} (hP : rc_P k W ru sz a1 a2 a3 a4 a5 a6) (e1 : x1 = nI n) (hn : n ≤ 3) (e2 : x2 = nI (rc_Z k a1 a2 a3 a4 a5 W n)) (e3 : x3 = nI (rc_im k a1 a2 a3 a4 a5 n)) (e4 : x4 = nI (rc_sl k a1 a2 a3 a4 a5 n))
    (H : ∀ (li' : Int32) (a7' : Nat → Int32) (co' : Int32) (go' : Int32) (re' : Int32) (wa' : Int32) (a8' : Nat → Int32) (a9' : Nat → Int32) (a10' : Nat → Int32) (a11' : Nat → Int32) (a12' : Nat → Int32) (a13' : Nat → Int32) (fo' : Int32) (la' : Int32) (a14' : Nat → Int64) (a15' : Nat → Int32) (a16' : Nat → Int64) (a17' : Nat → Int32) (a18' : Nat → Int32), post 1 (ru, sz, li', co', go', re', wa', fo', la', a1, a2, a3, a4, a5, a6, a7', a8', a9', a10', a11', a12', a13', a14', a15', a16', a17', a18')) : wL_counts_66 post x1 x2 x3 x4 ru sz li co go re wa fo la a1 a2 a3 a4 a5 a6 a7 a8 a9 a10 a11 a12 a13 a14 a15 a16 a17 a18 := by
  have hub := rc_Z_ub k a1 a2 a3 a4 a5 W n
  have h46 := rc_p46 (show n ≤ 5 by omega)
  have i1 : 1 ≤ rc_im k a1 a2 a3 a4 a5 n := rc_im_pos _ (Nat.pow_pos (by decide))
  have i2 : rc_im k a1 a2 a3 a4 a5 n ≤ 4 ^ n := rc_im_ub _ _
  have i3 : rc_sl k a1 a2 a3 a4 a5 n ≤ rc_im k a1 a2 a3 a4 a5 n := rc_still_le _ _
  have e5 : ((1 : Int32) <<< ((2 * x1) &&& 31)) = nI (4 ^ n) := by
    rw [e1]
    exact rc_sh1 n (by omega)
  unfold wL_counts_66
  refine rc_src hP e1 (by omega) e2 (by omega) (fun v li' a7' co' go' re' wa' a8' a9' a10' a11' a12' a13' fo' la' a14' a15' a16' a17' h => absurd h (by omega)) (fun _ li' a7' co' go' re' wa' a8' a9' a10' a11' a12' a13' fo' la' a14' a15' a16' a17' => ?_)
  exact br_t rfl (pk_lt (rc_sl k a1 a2 a3 a4 a5 n) 0 (fun z => absurd z (by omega)) (fun _ => pk_lt (rc_im k a1 a2 a3 a4 a5 n) (rc_sl k a1 a2 a3 a4 a5 n) (fun z => absurd z (by omega)) (fun _ => pk_lt (rc_im k a1 a2 a3 a4 a5 n) 1 (fun z => absurd z (by omega)) (fun _ => pk_lt (4 ^ n) (rc_im k a1 a2 a3 a4 a5 n) (fun z => absurd z (by omega)) (fun _ => H _ _ _ _ _ _ _ _ _ _ _ _ _ _ _ _ _ _ _) e5 e3) e3) e3 e4) e4)
theorem rc_cn25 {post : Int32 → St1 → Prop} {ru : Int32} {sz : Int32} {a1 : Nat → Int32} {a2 : Nat → Int32} {a3 : Nat → Int32} {a4 : Nat → Int32} {a5 : Nat → Int32} {a6 : Nat → Int32} {x1 x2 x3 x4 : Int32} {k n : Nat} {W : List Nat} (hP : rc_P k W ru sz a1 a2 a3 a4 a5 a6) (e1 : x1 = nI n) (hn : n ≤ 3) (e2 : x2 = nI (rc_Z k a1 a2 a3 a4 a5 W n)) (e3 : x3 = nI (rc_im k a1 a2 a3 a4 a5 n)) (e4 : x4 = nI (rc_sl k a1 a2 a3 a4 a5 n))
    (H : ∀ (li' : Int32) (a7' : Nat → Int32) (co' : Int32) (go' : Int32) (re' : Int32) (wa' : Int32) (a8' : Nat → Int32) (a9' : Nat → Int32) (a10' : Nat → Int32) (a11' : Nat → Int32) (a12' : Nat → Int32) (a13' : Nat → Int32) (fo' : Int32) (la' : Int32) (a14' : Nat → Int64) (a15' : Nat → Int32) (a16' : Nat → Int64) (a17' : Nat → Int32) (a18' : Nat → Int32), post 1 (ru, sz, li', co', go', re', wa', fo', la', a1, a2, a3, a4, a5, a6, a7', a8', a9', a10', a11', a12', a13', a14', a15', a16', a17', a18')) :
    ∀ (d i lv : Nat) (li : Int32) (a7 : Nat → Int32) (co : Int32) (go : Int32) (re : Int32) (wa : Int32) (a8 : Nat → Int32) (a9 : Nat → Int32) (a10 : Nat → Int32) (a11 : Nat → Int32) (a12 : Nat → Int32) (a13 : Nat → Int32) (fo : Int32) (la : Int32) (a14 : Nat → Int64) (a15 : Nat → Int32) (a16 : Nat → Int64) (a17 : Nat → Int32) (a18 : Nat → Int32), i + d = rc_Z k a1 a2 a3 a4 a5 W n → lv < 2 ^ 31 → (∀ v, rc_sm (fun u => rc_eq (rc_F (rc_tk k a1 a2 a3 a4 a5) (rc_dg n u)) W) v = i → lv < 4 ^ n + v) → wL_counts_25 post x1 x2 x3 x4 (d + 1) (nI lv) (nI i) ru sz li co go re wa fo la a1 a2 a3 a4 a5 a6 a7 a8 a9 a10 a11 a12 a13 a14 a15 a16 a17 a18 := by
  have hub := rc_Z_ub k a1 a2 a3 a4 a5 W n
  have h46 := rc_p46 (show n ≤ 5 by omega)
  intro d
  induction d with
  | zero =>
    intro i lv li a7 co go re wa a8 a9 a10 a11 a12 a13 fo la a14 a15 a16 a17 a18 hd hlv hv
    exact pk_le (rc_Z k a1 a2 a3 a4 a5 W n) i (fun _ => rc_cn66 hP e1 hn e2 e3 e4 H) (fun z => absurd z (by omega)) e2
  | succ d ih =>
    intro i lv li a7 co go re wa a8 a9 a10 a11 a12 a13 fo la a14 a15 a16 a17 a18 hd hlv hv
    refine pk_le (rc_Z k a1 a2 a3 a4 a5 W n) i (fun z => absurd z (by omega)) (fun _ => pk_le 30 i (fun _ => rc_cn66 hP e1 hn e2 e3 e4 H) (fun _ => rc_src hP e1 (by omega) rfl (by omega) (fun v li' a7' co' go' re' wa' a8' a9' a10' a11' a12' a13' fo' la' a14' a15' a16' a17' h1 h2 h3 h4 => ?_) (fun z => absurd z (by omega)))) e2
    have hl := hv v h4
    refine br_t (nI_lt hl (by omega)) (nm_r (nI_1 i) (ih (i + 1) (4 ^ n + v) _ _ _ _ _ _ _ _ _ _ _ _ _ _ _ _ _ _ _ (by omega) (by omega) (fun v' hv' => ?_)))
    rcases Nat.lt_or_ge v v' with z | z
    · omega
    · have hmo := rc_sm_mono (fun u => rc_eq (rc_F (rc_tk k a1 a2 a3 a4 a5) (rc_dg n u)) W) z
      omega
theorem rc_counts {post : Int32 → St1 → Prop} {ru sz li co go re wa fo la : Int32} {a1 a2 a3 a4 a5 a6 a7 a8 a9 a10 a11 a12 a13 : Nat → Int32} {a14 : Nat → Int64} {a15 : Nat → Int32} {a16 : Nat → Int64} {a17 a18 : Nat → Int32} {p1 : Int32} {k n : Nat} {W : List Nat} (hP : rc_P k W ru sz a1 a2 a3 a4 a5 a6) (e1 : p1 = nI n) (hn : n ≤ 3) (H : ∀ (li' : Int32) (a7' : Nat → Int32) (co' : Int32) (go' : Int32) (re' : Int32) (wa' : Int32) (a8' : Nat → Int32) (a9' : Nat → Int32) (a10' : Nat → Int32) (a11' : Nat → Int32) (a12' : Nat → Int32) (a13' : Nat → Int32) (fo' : Int32) (la' : Int32) (a14' : Nat → Int64) (a15' : Nat → Int32) (a16' : Nat → Int64) (a17' : Nat → Int32) (a18' : Nat → Int32), post 1 (ru, sz, li', co', go', re', wa', fo', la', a1, a2, a3, a4, a5, a6, a7', a8', a9', a10', a11', a12', a13', a14', a15', a16', a17', a18')) : wpL_counts post (ru, sz, li, co, go, re, wa, fo, la, a1, a2, a3, a4, a5, a6, a7, a8, a9, a10, a11, a12, a13, a14, a15, a16, a17, a18) p1 := by
  have hp : 0 < 4 ^ n := Nat.pow_pos (by decide)
  unfold wpL_counts
  dsimp only
  refine rc_srcs hP e1 (by omega) (fun li' a7' co' go' re' wa' a8' a9' a10' a11' a12' a13' fo' la' a14' a15' a16' a17' => rc_images hP e1 (by omega) (fun li'' a7'' co'' go'' re'' wa'' a8'' a9'' a10'' a11'' a12'' a13'' fo'' la'' a14'' a15'' a16'' a17'' a18'' => rc_still hP e1 hn (fun li''' a7''' co''' go''' re''' wa''' a8''' a9''' a10''' a11''' a12''' a13''' => ⟨rc_Z k a1 a2 a3 a4 a5 W n + 1, ?_⟩)))
  exact rc_cn25 hP e1 hn rfl rfl rfl H (rc_Z k a1 a2 a3 a4 a5 W n) 0 0 _ _ _ _ _ _ _ _ _ _ _ _ _ _ _ _ _ _ _ (by omega) (by omega) (fun v _ => by omega)
/-! changes -/
theorem rc_nw_congr {c c' : Nat → Nat} {w : Nat} (h : ∀ u, u ≤ w → c u = c' u) : rc_nw c w = rc_nw c' w := by
  unfold rc_nw
  have e : rc_sm (fun u => if c u = c w then 1 else 0) w = rc_sm (fun u => if c' u = c' w then 1 else 0) w := rc_sm_congr (fun u hu => by rw [h u (by omega), h w (by omega)])
  rw [e]
theorem rc_same {k k' n : Nat} {a1 a2 a3 a4 a5 b1 b2 b3 b4 b5 : Nat → Int32} (W : List Nat) (hK : rc_K a1 a2 a3 a4 a5) (hK' : rc_K b1 b2 b3 b4 b5) (h : ∀ w, w < 4 ^ n → rc_cc (rc_tk k' b1 b2 b3 b4 b5) n w = rc_cc (rc_tk k a1 a2 a3 a4 a5) n w) : rc_Z k' b1 b2 b3 b4 b5 W n = rc_Z k a1 a2 a3 a4 a5 W n ∧ rc_im k' b1 b2 b3 b4 b5 n = rc_im k a1 a2 a3 a4 a5 n ∧ rc_sl k' b1 b2 b3 b4 b5 n = rc_sl k a1 a2 a3 a4 a5 n := by
  refine ⟨rc_sm_congr (fun w hw => ?_), rc_sm_congr (fun w hw => rc_nw_congr (fun u hu => h u (by omega))), rc_sm_congr (fun w hw => ?_)⟩
  · have f1 := rc_F_ok (rc_tA_v (k := k) (A := fun s => s) hK) (rc_dg_l4 n w)
    have f2 := rc_F_ok (rc_tA_v (k := k') (A := fun s => s) hK') (rc_dg_l4 n w)
    have e : rc_F (rc_tk k' b1 b2 b3 b4 b5) (rc_dg n w) = rc_F (rc_tk k a1 a2 a3 a4 a5) (rc_dg n w) := rc_cd_inj f2.1 f1.1 (h w hw)
    rw [e]
  · rw [h w hw]
theorem rc_ch126 {post : Int32 → St1 → Prop} {ru sz li co go re wa fo la : Int32} {a1 a2 a3 a4 a5 a6 a7 a8 a9 a10 a11 a12 a13 : Nat → Int32} {a14 : Nat → Int64} {a15 : Nat → Int32} {a16 : Nat → Int64} {a17 a18 : Nat → Int32} {k : Nat} {W : List Nat} (hP : rc_P k W ru sz a1 a2 a3 a4 a5 a6)
    (H : ∀ (W' : List Nat) (sz' : Int32) (a6' : Nat → Int32) (li' : Int32) (a7' : Nat → Int32) (co' : Int32) (go' : Int32) (re' : Int32) (wa' : Int32) (a8' : Nat → Int32) (a9' : Nat → Int32) (a10' : Nat → Int32) (a11' : Nat → Int32) (a12' : Nat → Int32) (a13' : Nat → Int32) (fo' : Int32) (la' : Int32) (a14' : Nat → Int64) (a15' : Nat → Int32) (a16' : Nat → Int64) (a17' : Nat → Int32) (a18' : Nat → Int32), rc_wd W' sz' a6' → post 1 (ru, sz', li', co', go', re', wa', fo', la', a1, a2, a3, a4, a5, a6', a7', a8', a9', a10', a11', a12', a13', a14', a15', a16', a17', a18')) : wL_changes_126 post ru sz li co go re wa fo la a1 a2 a3 a4 a5 a6 a7 a8 a9 a10 a11 a12 a13 a14 a15 a16 a17 a18 := by
  have hP' := hP
  obtain ⟨hru, hk, hK, hW⟩ := hP'
  unfold wL_changes_126
  refine rc_rules hP (fun li' a7' co' go' re' wa' a8' a9' a10' a11' a12' a13' => rc_after hP rfl (Nat.le_refl k) (fun li'' a7'' co'' go'' re'' wa'' a8'' a9'' a10'' a11'' a12'' a13'' => rc_apply hP (fun r sz' a6' li''' a7''' co''' go''' re''' wa''' a8''' a9''' a10''' a11''' a12''' a13''' hW' => ?_)))
  refine rc_after0 (W := rc_F (rc_tk k a1 a2 a3 a4 a5) W) ⟨hru, hk, hK, hW'⟩ (fun li'''' a7'''' co'''' go'''' re'''' wa'''' a8'''' a9'''' a10'''' a11'''' a12'''' a13'''' => ?_)
  exact br_t rfl (H _ _ _ _ _ _ _ _ _ _ _ _ _ _ _ _ _ _ _ _ _ _ hW')
theorem rc_dp_sk {i k s : Nat} (hs : s < k) : rc_dp i k s = rc_sk i s := by
  unfold rc_dp rc_sk
  by_cases z : s < i
  · rw [if_pos z, if_neg (by omega)]
  · rw [if_neg z, if_pos ⟨by omega, hs⟩]
theorem rc_ch77 {post : Int32 → St1 → Prop} {ru sz li co go re wa fo la : Int32} {a1 a2 a3 a4 a5 a6 a7 a8 a9 a10 a11 a12 a13 : Nat → Int32} {a14 : Nat → Int64} {a15 : Nat → Int32} {a16 : Nat → Int64} {a17 a18 : Nat → Int32} {x1 x2 x3 x4 x5 : Int32} {k n i : Nat} {W : List Nat} (hP : rc_P k W ru sz a1 a2 a3 a4 a5 a6) (e1 : x1 = nI i) (hi : i < 100) (e2 : x2 = nI n) (hn : n ≤ 3) (e3 : x3 = nI (rc_Z k a1 a2 a3 a4 a5 W n)) (e4 : x4 = nI (rc_im k a1 a2 a3 a4 a5 n)) (e5 : x5 = nI (rc_sl k a1 a2 a3 a4 a5 n))
    (H : ∀ (k' : Nat) (W' : List Nat) (ru' : Int32) (sz' : Int32) (a1' : Nat → Int32) (a2' : Nat → Int32) (a3' : Nat → Int32) (a4' : Nat → Int32) (a5' : Nat → Int32) (a6' : Nat → Int32) (li' : Int32) (a7' : Nat → Int32) (co' : Int32) (go' : Int32) (re' : Int32) (wa' : Int32) (a8' : Nat → Int32) (a9' : Nat → Int32) (a10' : Nat → Int32) (a11' : Nat → Int32) (a12' : Nat → Int32) (a13' : Nat → Int32) (fo' : Int32) (la' : Int32) (a14' : Nat → Int64) (a15' : Nat → Int32) (a16' : Nat → Int64) (a17' : Nat → Int32) (a18' : Nat → Int32), rc_P k' W' ru' sz' a1' a2' a3' a4' a5' a6' → post 1 (ru', sz', li', co', go', re', wa', fo', la', a1', a2', a3', a4', a5', a6', a7', a8', a9', a10', a11', a12', a13', a14', a15', a16', a17', a18')) : wL_changes_77 post x1 x2 x3 x4 x5 ru sz li co go re wa fo la a1 a2 a3 a4 a5 a6 a7 a8 a9 a10 a11 a12 a13 a14 a15 a16 a17 a18 := by
  have hP' := hP
  obtain ⟨hru, hk, hK, hW⟩ := hP'
  have fin : ∀ (k' : Nat) (ru' : Int32) (a1' : Nat → Int32) (a2' : Nat → Int32) (a3' : Nat → Int32) (a4' : Nat → Int32) (a5' : Nat → Int32) (li' : Int32) (a7' : Nat → Int32) (co' : Int32) (go' : Int32) (re' : Int32) (wa' : Int32) (a8' : Nat → Int32) (a9' : Nat → Int32) (a10' : Nat → Int32) (a11' : Nat → Int32) (a12' : Nat → Int32) (a13' : Nat → Int32) (fo' : Int32) (la' : Int32) (a14' : Nat → Int64) (a15' : Nat → Int32) (a16' : Nat → Int64) (a17' : Nat → Int32) (a18' : Nat → Int32), rc_P k' W ru' sz a1' a2' a3' a4' a5' a6 → wL_changes_126 post ru' sz li' co' go' re' wa' fo' la' a1' a2' a3' a4' a5' a6 a7' a8' a9' a10' a11' a12' a13' a14' a15' a16' a17' a18' := by
    intro k' ru' a1' a2' a3' a4' a5' li' a7' co' go' re' wa' a8' a9' a10' a11' a12' a13' fo' la' a14' a15' a16' a17' a18' hQ
    exact rc_ch126 hQ (fun W' sz'' a6'' li'' a7'' co'' go'' re'' wa'' a8'' a9'' a10'' a11'' a12'' a13'' fo'' la'' a14'' a15'' a16'' a17'' a18'' hW' => H k' W' _ _ _ _ _ _ _ _ _ _ _ _ _ _ _ _ _ _ _ _ _ _ _ _ _ _ _ ⟨hQ.1, hQ.2.1, hQ.2.2.1, hW'⟩)
  unfold wL_changes_77
  refine rc_idle hP e1 hi e2 (by omega) (fun r li' a7' co' go' re' wa' a8' a9' a10' a11' a12' a13' a18' hr => br_c (fun h1 => ?_) (fun _ => ?_))
  · obtain ⟨hik, hc⟩ := hr h1
    refine rc_drop hru hk hK e1 hi (fun _ a1' a2' a3' a4' a5' hp => ?_) (fun z => absurd z (by omega))
    have hK' := rc_pm_K hp hK
    have eT := rc_pm_tk (k := k - 1) hp (fun s hs => rc_dp_sk hs)
    rw [← eT] at hc
    obtain ⟨s1, s2, s3⟩ := rc_same W hK hK' hc
    have hQ : rc_P (k - 1) W (nI (k - 1)) sz a1' a2' a3' a4' a5' a6 := ⟨rfl, by omega, hK', hW⟩
    refine br_f (nI_pos (by omega)) (rc_srcs hQ e2 (by omega) (fun li'' a7'' co'' go'' re'' wa'' a8'' a9'' a10'' a11'' a12'' a13'' fo'' la'' a14'' a15'' a16'' a17'' => br_t (by rw [s1, e3]) (rc_images hQ e2 (by omega) (fun li''' a7''' co''' go''' re''' wa''' a8''' a9''' a10''' a11''' a12''' a13''' fo''' la''' a14''' a15''' a16''' a17''' a18''' => br_t (by rw [s2, e4]) (rc_still hQ e2 hn (fun li'''' a7'''' co'''' go'''' re'''' wa'''' a8'''' a9'''' a10'''' a11'''' a12'''' a13'''' => br_t (by rw [s3, e5]) ?_))))))
    exact fin (k - 1) _ _ _ _ _ _ _ _ _ _ _ _ _ _ _ _ _ _ _ _ _ _ _ _ _ hQ
  · exact fin k _ _ _ _ _ _ _ _ _ _ _ _ _ _ _ _ _ _ _ _ _ _ _ _ _ hP
/-! summed -/
/-- what word number c adds to the sum -/
def rc_gs (k : Nat) (a1 a2 a3 a4 a5 : Nat → Int32) (n c : Nat) : Nat := if rc_sm (fun u => rc_eq (rc_F (rc_tk k a1 a2 a3 a4 a5) (rc_dg n u)) (rc_F (rc_tk k a1 a2 a3 a4 a5) (rc_dg n c))) c = 0 then rc_Z k a1 a2 a3 a4 a5 (rc_F (rc_tk k a1 a2 a3 a4 a5) (rc_dg n c)) n else 0
theorem rc_gs_all (k : Nat) (a1 a2 a3 a4 a5 : Nat → Int32) (n : Nat) : rc_sm (rc_gs k a1 a2 a3 a4 a5 n) (4 ^ n) = 4 ^ n := rc_summed (fun u => rc_F (rc_tk k a1 a2 a3 a4 a5) (rc_dg n u)) (4 ^ n)
theorem rc_sum24 {post : Int32 → St1 → Prop} {ru : Int32} {a1 : Nat → Int32} {a2 : Nat → Int32} {a3 : Nat → Int32} {a4 : Nat → Int32} {a5 : Nat → Int32} {x1 x2 x4 x5 : Int32} {k n : Nat} {W : List Nat} (hru : ru = nI k) (hk : k ≤ 5) (hK : rc_K a1 a2 a3 a4 a5) (hW4 : rc_l4 W) (hW12 : W.length ≤ 12) (e1 : x1 = nI n) (hn : n ≤ 3) (e2 : x2 = nI (4 ^ n)) (e4 : x4 = nI (rc_cd W)) (e5 : x5 = nI k)
    (H : ∀ (sz' : Int32) (a6' : Nat → Int32) (li' : Int32) (a7' : Nat → Int32) (co' : Int32) (go' : Int32) (re' : Int32) (wa' : Int32) (a8' : Nat → Int32) (a9' : Nat → Int32) (a10' : Nat → Int32) (a11' : Nat → Int32) (a12' : Nat → Int32) (a13' : Nat → Int32) (fo' : Int32) (la' : Int32) (a14' : Nat → Int64) (a15' : Nat → Int32) (a16' : Nat → Int64) (a17' : Nat → Int32) (a18' : Nat → Int32), rc_wd W sz' a6' → post 1 (ru, sz', li', co', go', re', wa', fo', la', a1, a2, a3, a4, a5, a6', a7', a8', a9', a10', a11', a12', a13', a14', a15', a16', a17', a18')) :
    ∀ (d c : Nat) (V : List Nat) (sz : Int32) (a6 : Nat → Int32) (li : Int32) (a7 : Nat → Int32) (co : Int32) (go : Int32) (re : Int32) (wa : Int32) (a8 : Nat → Int32) (a9 : Nat → Int32) (a10 : Nat → Int32) (a11 : Nat → Int32) (a12 : Nat → Int32) (a13 : Nat → Int32) (fo : Int32) (la : Int32) (a14 : Nat → Int64) (a15 : Nat → Int32) (a16 : Nat → Int64) (a17 : Nat → Int32) (a18 : Nat → Int32), c + d = 4 ^ n → rc_wd V sz a6 → wL_summed_24 post x1 x2 x4 x5 (d + 1) (nI (rc_sm (rc_gs k a1 a2 a3 a4 a5 n) c)) (nI (4 ^ n + c)) ru sz li co go re wa fo la a1 a2 a3 a4 a5 a6 a7 a8 a9 a10 a11 a12 a13 a14 a15 a16 a17 a18 := by
  have h46 := rc_p46 (show n ≤ 5 by omega)
  have hp : 0 < 4 ^ n := Nat.pow_pos (by decide)
  have e22 : (2 : Int32) * x2 = nI (2 * 4 ^ n) := by
    rw [e2, show (2 : Int32) = nI 2 from rfl, pk_mul]
  intro d
  induction d with
  | zero =>
    intro c V sz a6 li a7 co go re wa a8 a9 a10 a11 a12 a13 fo la a14 a15 a16 a17 a18 hd hV
    have ec : c = 4 ^ n := by omega
    subst ec
    rw [rc_gs_all]
    refine pk_le (2 * 4 ^ n) (4 ^ n + 4 ^ n) (fun _ => br_t e2.symm (rc_write e4 hW4 hW12 (fun sz' a6' hW' => br_f rc_10 ?_))) (fun z => absurd z (by omega)) e22
    exact H _ _ _ _ _ _ _ _ _ _ _ _ _ _ _ _ _ _ _ _ _ hW'
  | succ d ih =>
    intro c V sz a6 li a7 co go re wa a8 a9 a10 a11 a12 a13 fo la a14 a15 a16 a17 a18 hd hV
    have hc : c < 4 ^ n := by omega
    have hcd := rc_dg_cd hc
    have hF := rc_F_ok (rc_tA_v (k := k) (A := fun s => s) hK) (rc_dg_l4 n c)
    have hz2 : rc_eq (rc_F (rc_tk k a1 a2 a3 a4 a5) (rc_dg n c)) (rc_F (rc_tk k a1 a2 a3 a4 a5) (rc_dg n c)) = 1 := rc_eq_t rfl
    have hz1 : 1 ≤ rc_Z k a1 a2 a3 a4 a5 (rc_F (rc_tk k a1 a2 a3 a4 a5) (rc_dg n c)) n := by
      have h := rc_sm_ge (fun w => rc_eq (rc_F (rc_tk k a1 a2 a3 a4 a5) (rc_dg n w)) (rc_F (rc_tk k a1 a2 a3 a4 a5) (rc_dg n c))) hc
      rw [hz2] at h
      exact h
    refine pk_le (2 * 4 ^ n) (4 ^ n + c) (fun z => absurd z (by omega)) (fun _ => rc_write (o := rc_dg n c) (by rw [hcd]) (rc_dg_l4 n c) (by rw [rc_dg_len]; omega) (fun sz' a6' hW' => br_f rc_10 ?_)) e22
    refine rc_after (k := k) (W := rc_dg n c) ⟨hru, hk, hK, hW'⟩ e5 (Nat.le_refl k) ?_
    intro li' a7' co' go' re' wa' a8' a9' a10' a11' a12' a13'
    refine rc_write (o := rc_F (rc_tk k a1 a2 a3 a4 a5) (rc_dg n c)) rfl hF.1 hF.2 (fun sz'' a6'' hW'' => br_f rc_10 ?_)
    have hQ : rc_P k (rc_F (rc_tk k a1 a2 a3 a4 a5) (rc_dg n c)) ru sz'' a1 a2 a3 a4 a5 a6'' := ⟨hru, hk, hK, hW''⟩
    refine rc_src (i := 0) hQ e1 (by omega) rfl (by omega) (fun v li' a7' co' go' re' wa' a8' a9' a10' a11' a12' a13' fo' la' a14' a15' a16' a17' g1 g2 g3 g4 => ?_) (fun z => absurd z (by omega))
    refine pk_eq (4 ^ n + v) (4 ^ n + c) (fun hq => ?_) (fun hq => ?_)
    · have evc : v = c := by omega
      rw [evc] at g4
      have eg : rc_gs k a1 a2 a3 a4 a5 n c = rc_Z k a1 a2 a3 a4 a5 (rc_F (rc_tk k a1 a2 a3 a4 a5) (rc_dg n c)) n := if_pos g4
      refine rc_srcs hQ e1 (by omega) ?_
      intro li'' a7'' co'' go'' re'' wa'' a8'' a9'' a10'' a11'' a12'' a13'' fo'' la'' a14'' a15'' a16'' a17''
      refine nm_r (e' := nI (rc_sm (rc_gs k a1 a2 a3 a4 a5 n) (c + 1))) ?_ (nm_r (nI_1 (4 ^ n + c)) ?_)
      · rw [nI_add, rc_sm_s, eg]
      · exact ih (c + 1) _ _ _ _ _ _ _ _ _ _ _ _ _ _ _ _ _ _ _ _ _ _ (by omega) hW''
    · have hnz : ¬ rc_sm (fun u => rc_eq (rc_F (rc_tk k a1 a2 a3 a4 a5) (rc_dg n u)) (rc_F (rc_tk k a1 a2 a3 a4 a5) (rc_dg n c))) c = 0 := by
        intro z
        rcases Nat.lt_or_ge v c with y | y
        · have h1 := rc_sm_ge (fun u => rc_eq (rc_F (rc_tk k a1 a2 a3 a4 a5) (rc_dg n u)) (rc_F (rc_tk k a1 a2 a3 a4 a5) (rc_dg n c))) y
          rw [z, rc_eq_t g3] at h1
          omega
        · have h1 := rc_sm_ge (fun u => rc_eq (rc_F (rc_tk k a1 a2 a3 a4 a5) (rc_dg n u)) (rc_F (rc_tk k a1 a2 a3 a4 a5) (rc_dg n c))) (show c < v by omega)
          rw [g4, hz2] at h1
          omega
      have eg : rc_gs k a1 a2 a3 a4 a5 n c = 0 := if_neg hnz
      have h := ih (c + 1) (rc_F (rc_tk k a1 a2 a3 a4 a5) (rc_dg n c)) sz'' a6'' li' a7' co' go' re' wa' a8' a9' a10' a11' a12' a13' fo' la' a14' a15' a16' a17' a18 (by omega) hW''
      rw [rc_sm_s, eg, Nat.add_zero] at h
      exact nm_r (nI_1 (4 ^ n + c)) h
theorem rc_sumd {post : Int32 → St1 → Prop} {ru sz li co go re wa fo la : Int32} {a1 a2 a3 a4 a5 a6 a7 a8 a9 a10 a11 a12 a13 : Nat → Int32} {a14 : Nat → Int64} {a15 : Nat → Int32} {a16 : Nat → Int64} {a17 a18 : Nat → Int32} {p1 : Int32} {k n : Nat} {W : List Nat} (hP : rc_P k W ru sz a1 a2 a3 a4 a5 a6) (e1 : p1 = nI n) (hn : n ≤ 3)
    (H : ∀ (sz' : Int32) (a6' : Nat → Int32) (li' : Int32) (a7' : Nat → Int32) (co' : Int32) (go' : Int32) (re' : Int32) (wa' : Int32) (a8' : Nat → Int32) (a9' : Nat → Int32) (a10' : Nat → Int32) (a11' : Nat → Int32) (a12' : Nat → Int32) (a13' : Nat → Int32) (fo' : Int32) (la' : Int32) (a14' : Nat → Int64) (a15' : Nat → Int32) (a16' : Nat → Int64) (a17' : Nat → Int32) (a18' : Nat → Int32), rc_wd W sz' a6' → post 1 (ru, sz', li', co', go', re', wa', fo', la', a1, a2, a3, a4, a5, a6', a7', a8', a9', a10', a11', a12', a13', a14', a15', a16', a17', a18')) : wpL_summed post (ru, sz, li, co, go, re, wa, fo, la, a1, a2, a3, a4, a5, a6, a7, a8, a9, a10, a11, a12, a13, a14, a15, a16, a17, a18) p1 := by
  have hP' := hP
  obtain ⟨hru, hk, hK, hW⟩ := hP'
  have e5 : ((1 : Int32) <<< ((2 * p1) &&& 31)) = nI (4 ^ n) := by
    rw [e1]
    exact rc_sh1 n (by omega)
  refine nm_r e5 (rc_after0 hP (fun li' a7' co' go' re' wa' a8' a9' a10' a11' a12' a13' => rc_rules hP (fun li'' a7'' co'' go'' re'' wa'' a8'' a9'' a10'' a11'' a12'' a13'' => ⟨4 ^ n + 1, ?_⟩)))
  exact rc_sum24 hru hk hK (rc_at_l4 hW.2.2) hW.2.1 e1 hn rfl rfl rfl H (4 ^ n) 0 W _ _ _ _ _ _ _ _ _ _ _ _ _ _ _ _ _ _ _ _ _ (by omega) hW
end
section
/-! changes -/
theorem rc_changes {post : Int32 → St1 → Prop} {ru sz li co go re wa fo la : Int32} {a1 a2 a3 a4 a5 a6 a7 a8 a9 a10 a11 a12 a13 : Nat → Int32} {a14 : Nat → Int64} {a15 : Nat → Int32} {a16 : Nat → Int64} {a17 a18 : Nat → Int32} {p1 p2 : Int32} {k n i : Nat} {W : List Nat} (hP : rc_P k W ru sz a1 a2 a3 a4 a5 a6) (e1 : p1 = nI i) (hi : i < 100) (e2 : p2 = nI n) (hn : n ≤ 3)
    (H : ∀ (k' : Nat) (W' : List Nat) (ru' : Int32) (sz' : Int32) (a1' : Nat → Int32) (a2' : Nat → Int32) (a3' : Nat → Int32) (a4' : Nat → Int32) (a5' : Nat → Int32) (a6' : Nat → Int32) (li' : Int32) (a7' : Nat → Int32) (co' : Int32) (go' : Int32) (re' : Int32) (wa' : Int32) (a8' : Nat → Int32) (a9' : Nat → Int32) (a10' : Nat → Int32) (a11' : Nat → Int32) (a12' : Nat → Int32) (a13' : Nat → Int32) (fo' : Int32) (la' : Int32) (a14' : Nat → Int64) (a15' : Nat → Int32) (a16' : Nat → Int64) (a17' : Nat → Int32) (a18' : Nat → Int32), rc_P k' W' ru' sz' a1' a2' a3' a4' a5' a6' → post 1 (ru', sz', li', co', go', re', wa', fo', la', a1', a2', a3', a4', a5', a6', a7', a8', a9', a10', a11', a12', a13', a14', a15', a16', a17', a18')) : wpL_changes post (ru, sz, li, co, go, re, wa, fo, la, a1, a2, a3, a4, a5, a6, a7, a8, a9, a10, a11, a12, a13, a14, a15, a16, a17, a18) p1 p2 := by
  have hP' := hP
  obtain ⟨hru, hk, hK, hW⟩ := hP'
  unfold wpL_changes
  dsimp only
  refine rc_srcs hP e2 (by omega) ?_
  intro li' a7' co' go' re' wa' a8' a9' a10' a11' a12' a13' fo' la' a14' a15' a16' a17'
  refine rc_images hP e2 (by omega) ?_
  intro li'' a7'' co'' go'' re'' wa'' a8'' a9'' a10'' a11'' a12'' a13'' fo'' la'' a14'' a15'' a16'' a17'' a18''
  refine rc_still hP e2 hn ?_
  intro li''' a7''' co''' go''' re''' wa''' a8''' a9''' a10''' a11''' a12''' a13'''
  refine rc_commute hP e1 hi e2 (by omega) ?_
  intro r li'''' a7'''' co'''' go'''' re'''' wa'''' a8'''' a9'''' a10'''' a11'''' a12'''' a13'''' a18'''' hr
  refine br_c (fun h1 => ?_) (fun _ => rc_ch77 hP e1 hi e2 hn rfl rfl rfl H)
  have hik := (hr h1).1
  have hc := (hr h1).2
  refine rc_swap hru hk hK e1 hi ?_ (fun z => absurd z (by omega))
  intro _ b1 b2 b3 b4 b5 hp
  have hK' := rc_pm_K hp hK
  have eT := rc_pm_tk (k := k) (A := rc_sw i) hp (fun s hs => rfl)
  rw [← eT] at hc
  have hs := rc_same W hK hK' hc
  have hQ : rc_P k W ru sz b1 b2 b3 b4 b5 a6 := ⟨hru, hk, hK', hW⟩
  refine br_t rfl ?_
  refine rc_srcs hQ e2 (by omega) ?_
  intro li' a7' co' go' re' wa' a8' a9' a10' a11' a12' a13' fo' la' a14' a15' a16' a17'
  refine br_t (by rw [hs.1]) ?_
  refine rc_images hQ e2 (by omega) ?_
  intro li' a7' co' go' re' wa' a8' a9' a10' a11' a12' a13' fo' la' a14' a15' a16' a17' a18'
  refine br_t (by rw [hs.2.1]) ?_
  refine rc_still hQ e2 hn ?_
  intro li' a7' co' go' re' wa' a8' a9' a10' a11' a12' a13'
  refine br_t (by rw [hs.2.2]) ?_
  refine rc_swap hru hk hK' e1 hi ?_ (fun z => absurd z (by omega))
  intro _ c1 c2 c3 c4 c5 hp2
  refine br_t rfl ?_
  have hq := rc_pm_id hp hp2 (rc_sw_sw i)
  rw [hq.1, hq.2.1, hq.2.2.1, hq.2.2.2.1, hq.2.2.2.2]
  exact rc_ch77 hP e1 hi e2 hn rfl rfl rfl H
end
section
/-! the law's loop, and what is owed -/
theorem rc_cell {post : Int32 → Prop} {L : Nat} {xs : Nat → Int32} {u : St2} {p1 : Int32} {j : Nat} (e1 : p1 = nI j) (hj : j < 1000) (hL : L ≤ 260) (H : ∀ r, post r) : wpL_cell post L xs u p1 :=
  pk_le L j (fun _ => H 0) (fun h => ⟨pk_in j L h e1, H _⟩) rfl e1
theorem rc_law12 {post : Int32 → Prop} {L kc ks : Nat} {xs : Nat → Int32} (hL : L ≤ 260) (Hp : post 1) : ∀ (d j k : Nat) (W : List Nat) (x2 : Int32) (ru : Int32) (sz : Int32) (a1 : Nat → Int32) (a2 : Nat → Int32) (a3 : Nat → Int32) (a4 : Nat → Int32) (a5 : Nat → Int32) (a6 : Nat → Int32) (li : Int32) (a7 : Nat → Int32) (co : Int32) (go : Int32) (re : Int32) (wa : Int32) (a8 : Nat → Int32) (a9 : Nat → Int32) (a10 : Nat → Int32) (a11 : Nat → Int32) (a12 : Nat → Int32) (a13 : Nat → Int32) (fo : Int32) (la : Int32) (a14 : Nat → Int64) (a15 : Nat → Int32) (a16 : Nat → Int64) (a17 : Nat → Int32) (a18 : Nat → Int32), L ≤ j + d → j ≤ 262 → rc_P k W ru sz a1 a2 a3 a4 a5 a6 → wL_law_12 post L xs kc ks (d + 1) x2 (nI j) ru sz li co go re wa fo la a1 a2 a3 a4 a5 a6 a7 a8 a9 a10 a11 a12 a13 a14 a15 a16 a17 a18 := by
  have fin : ∀ (k : Nat) (W : List Nat) (n j : Nat) (x2 : Int32) (ru : Int32) (sz : Int32) (a1 : Nat → Int32) (a2 : Nat → Int32) (a3 : Nat → Int32) (a4 : Nat → Int32) (a5 : Nat → Int32) (a6 : Nat → Int32) (li : Int32) (a7 : Nat → Int32) (co : Int32) (go : Int32) (re : Int32) (wa : Int32) (a8 : Nat → Int32) (a9 : Nat → Int32) (a10 : Nat → Int32) (a11 : Nat → Int32) (a12 : Nat → Int32) (a13 : Nat → Int32) (fo : Int32) (la : Int32) (a14 : Nat → Int64) (a15 : Nat → Int32) (a16 : Nat → Int64) (a17 : Nat → Int32) (a18 : Nat → Int32), L ≤ j → j ≤ 262 → rc_P k W ru sz a1 a2 a3 a4 a5 a6 → wL_law_12 post L xs kc ks (n + 1) x2 (nI j) ru sz li co go re wa fo la a1 a2 a3 a4 a5 a6 a7 a8 a9 a10 a11 a12 a13 a14 a15 a16 a17 a18 := by
    intro k W n j x2 ru sz a1 a2 a3 a4 a5 a6 li a7 co go re wa a8 a9 a10 a11 a12 a13 fo la a14 a15 a16 a17 a18 hLj hj hP
    have hru := hP.1
    have hk := hP.2.1
    have hK := hP.2.2.1
    refine pk_le L j (fun _ => ?_) (fun z => absurd z (by omega))
    refine rc_sumd (n := 0) hP rfl (by omega) ?_
    intro sz1 a61 li' a7' co' go' re' wa' a8' a9' a10' a11' a12' a13' fo' la' a14' a15' a16' a17' a18' hW1
    refine br_f rc_10 ?_
    refine rc_sumd (n := 1) (W := W) ⟨hru, hk, hK, hW1⟩ rfl (by omega) ?_
    intro sz2 a62 li'' a7'' co'' go'' re'' wa'' a8'' a9'' a10'' a11'' a12'' a13'' fo'' la'' a14'' a15'' a16'' a17'' a18'' hW2
    refine br_f rc_10 ?_
    refine rc_sumd (n := 2) (W := W) ⟨hru, hk, hK, hW2⟩ rfl (by omega) ?_
    intro sz3 a63 li''' a7''' co''' go''' re''' wa''' a8''' a9''' a10''' a11''' a12''' a13''' fo''' la''' a14''' a15''' a16''' a17''' a18''' hW3
    refine br_f rc_10 ?_
    refine rc_counts (n := 3) (W := W) ⟨hru, hk, hK, hW3⟩ rfl (by omega) ?_
    intro li'''' a7'''' co'''' go'''' re'''' wa'''' a8'''' a9'''' a10'''' a11'''' a12'''' a13'''' fo'''' la'''' a14'''' a15'''' a16'''' a17'''' a18''''
    refine br_f rc_10 ?_
    refine rc_changes (i := 0) (n := 2) (W := W) ⟨hru, hk, hK, hW3⟩ rfl (by omega) rfl (by omega) ?_
    intro k' W' ru' sz' a1' a2' a3' a4' a5' a6' li' a7' co' go' re' wa' a8' a9' a10' a11' a12' a13' fo' la' a14' a15' a16' a17' a18' hP'
    exact br_f rc_10 Hp
  intro d
  induction d with
  | zero =>
    intro j k W x2 ru sz a1 a2 a3 a4 a5 a6 li a7 co go re wa a8 a9 a10 a11 a12 a13 fo la a14 a15 a16 a17 a18 hLj hj hP
    exact fin k W 0 j x2 _ _ _ _ _ _ _ _ _ _ _ _ _ _ _ _ _ _ _ _ _ _ _ _ _ _ _ (by omega) hj hP
  | succ d ih =>
    intro j k W x2 ru sz a1 a2 a3 a4 a5 a6 li a7 co go re wa a8 a9 a10 a11 a12 a13 fo la a14 a15 a16 a17 a18 hLj hj hP
    by_cases hend : L ≤ j
    · exact fin k W (d + 1) j x2 _ _ _ _ _ _ _ _ _ _ _ _ _ _ _ _ _ _ _ _ _ _ _ _ _ _ _ hend hj hP
    · have e2 : nI j + 2 = nI (j + 2) := nI_add j 2
      refine pk_le L j (fun z => absurd z hend) (fun _ => ?_)
      refine rc_cell rfl (by omega) hL ?_
      intro c
      refine rc_cell (nI_1 j) (by omega) hL ?_
      intro dd
      refine rc_turn hP ?_
      intro k' W' ru' sz' a1' a2' a3' a4' a5' a6' hP'
      have h4 := rc_m4 (c >>> ((5 : Int32) &&& 31))
      have h5 := rc_m5 (c >>> ((12 : Int32) &&& 31))
      refine Exists.elim h4 (fun n hn => Exists.elim h5 (fun i hi => ?_))
      have hn4 := hn.1
      have hi5 := hi.1
      refine ⟨by decide, nm_r hn.2 ⟨by decide, nm_r hi.2 ?_⟩⟩
      refine br_c (fun _ => nm_e ?_) (fun _ => nm_r e2 (ih (j + 2) k' W' _ _ _ _ _ _ _ _ _ _ _ _ _ _ _ _ _ _ _ _ _ _ _ _ _ _ _ _ (by omega) (by omega) hP'))
      refine br_c (fun _ => nm_r e2 (ih (j + 2) k' W' _ _ _ _ _ _ _ _ _ _ _ _ _ _ _ _ _ _ _ _ _ _ _ _ _ _ _ _ (by omega) (by omega) hP')) (fun _ => ?_)
      refine rc_counts (n := n) hP' rfl (by omega) ?_
      intro li' a7' co' go' re' wa' a8' a9' a10' a11' a12' a13' fo' la' a14' a15' a16' a17' a18'
      refine br_f rc_10 ?_
      refine rc_changes (i := i) (n := n) hP' rfl (by omega) rfl (by omega) ?_
      intro k'' W'' ru'' sz'' a1'' a2'' a3'' a4'' a5'' a6'' li'' a7'' co'' go'' re'' wa'' a8'' a9'' a10'' a11'' a12'' a13'' fo'' la'' a14'' a15'' a16'' a17'' a18'' hP''
      exact br_f rc_10 (nm_r e2 (ih (j + 2) k'' W'' _ _ _ _ _ _ _ _ _ _ _ _ _ _ _ _ _ _ _ _ _ _ _ _ _ _ _ _ (by omega) (by omega) hP''))
theorem rc_K0 : rc_K (fun _ => 0) (fun _ => 0) (fun _ => 0) (fun _ => 0) (fun _ => 0) := by
  intro i
  dsimp only
  decide
theorem i_vc (xs : Nat → Int32) (L : Nat) (hL : L ≤ 260) : wpL_law (fun r => r = 1) L xs := by
  have hP : rc_P 0 [] 0 0 (fun _ => 0) (fun _ => 0) (fun _ => 0) (fun _ => 0) (fun _ => 0) (fun _ => 0) := ⟨rfl, by omega, rc_K0, rfl, by rw [List.length_nil]; omega, trivial⟩
  refine ⟨18, 5349, by omega, by omega, ?_⟩
  unfold wpX_init
  dsimp only
  refine ⟨by omega, by omega, by omega, by omega, by omega, by omega, by omega, by omega, by omega, by omega, by omega, by omega, by omega, by omega, by omega, by omega, by omega, by omega, by omega, by omega, by omega, by omega, by omega, by omega, by omega, by omega, by omega, by omega, by omega, by omega, by omega, by omega, by omega, by omega, by omega, by omega, ?_⟩
  exact ⟨L + 1, rc_law12 (post := fun r => r = 1) hL rfl L 0 0 [] 0 _ _ _ _ _ _ _ _ _ _ _ _ _ _ _ _ _ _ _ _ _ _ _ _ _ _ _ (by omega) (by omega) hP⟩
end
