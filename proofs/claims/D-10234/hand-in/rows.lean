section
/-! the plain law: counting through an automaton, ranks, and the list of a rank; no program in sight -/
/-- the sum of the first n values -/
def sr_su (f : Nat → Nat) : Nat → Nat
  | 0 => 0
  | n + 1 => sr_su f n + f n
theorem sr_su_s (f : Nat → Nat) (n : Nat) : sr_su f (n + 1) = sr_su f n + f n := rfl
theorem sr_su_mono (f : Nat → Nat) {m n : Nat} (h : m ≤ n) : sr_su f m ≤ sr_su f n := by
  induction n with
  | zero =>
    have e : m = 0 := by omega
    rw [e]
    exact Nat.le_refl _
  | succ n ih =>
    by_cases e : m = n + 1
    · rw [e]
      exact Nat.le_refl _
    · have t := ih (by omega)
      rw [sr_su_s]
      omega
theorem sr_su_le {f g : Nat → Nat} (n : Nat) (h : ∀ i, i < n → f i ≤ g i) : sr_su f n ≤ sr_su g n := by
  induction n with
  | zero => exact Nat.le_refl _
  | succ n ih =>
    rw [sr_su_s, sr_su_s]
    exact Nat.add_le_add (ih (fun i hi => h i (by omega))) (h n (by omega))
theorem sr_su_c {f : Nat → Nat} {b : Nat} (n : Nat) (h : ∀ i, i < n → f i ≤ b) : sr_su f n ≤ n * b := by
  induction n with
  | zero => exact Nat.zero_le _
  | succ n ih =>
    rw [sr_su_s, Nat.succ_mul]
    exact Nat.add_le_add (ih (fun i hi => h i (by omega))) (h n (by omega))
/-- the place of a number in the running sums is one alone -/
theorem sr_su_one {f : Nat → Nat} {v x y : Nat} (h1 : sr_su f x ≤ v) (h2 : v < sr_su f (x + 1)) (k1 : sr_su f y ≤ v) (k2 : v < sr_su f (y + 1)) : x = y := by
  rcases Nat.lt_trichotomy x y with h | h | h
  · have t := sr_su_mono f (show x + 1 ≤ y from h)
    omega
  · exact h
  · have t := sr_su_mono f (show y + 1 ≤ x from h)
    omega
/-- in how many ways a state leads to an accepted one by k elements -/
def sr_wy (nx : Nat → Nat → Nat) (ac : Nat → Bool) : Nat → Nat → Nat
  | 0 => fun s => if ac s = true then 1 else 0
  | k + 1 => fun s => sr_su (fun x => sr_wy nx ac k (nx s x)) 4
theorem sr_wy_0 (nx : Nat → Nat → Nat) (ac : Nat → Bool) (s : Nat) : sr_wy nx ac 0 s = if ac s = true then 1 else 0 := rfl
theorem sr_wy_s (nx : Nat → Nat → Nat) (ac : Nat → Bool) (k s : Nat) : sr_wy nx ac (k + 1) s = sr_su (fun x => sr_wy nx ac k (nx s x)) 4 := rfl
theorem sr_wy_le (nx : Nat → Nat → Nat) (ac : Nat → Bool) (k : Nat) : ∀ s, sr_wy nx ac k s ≤ 4 ^ k := by
  induction k with
  | zero =>
    intro s
    rw [sr_wy_0]
    split
    · exact Nat.le_refl _
    · exact Nat.zero_le _
  | succ k ih =>
    intro s
    rw [sr_wy_s]
    have t := sr_su_c (f := fun x => sr_wy nx ac k (nx s x)) (b := 4 ^ k) 4 (fun i _ => ih _)
    rw [Nat.pow_succ]
    omega
theorem sr_wy_b (nx : Nat → Nat → Nat) (ac : Nat → Bool) {k : Nat} (hk : k ≤ 6) (s : Nat) : sr_wy nx ac k s ≤ 4096 := by
  have t := sr_wy_le nx ac k s
  have u : 4 ^ k ≤ 4 ^ 6 := Nat.pow_le_pow_right (by decide) hk
  have v : (4 : Nat) ^ 6 = 4096 := by decide
  omega
/-- a finer automaton accepts no more -/
theorem sr_wy_mono {nx nx' : Nat → Nat → Nat} {ac ac' : Nat → Bool} (R : Nat → Nat → Prop) (ha : ∀ s s', R s s' → ac' s = true → ac s' = true) (hn : ∀ s s' x, R s s' → R (nx' s x) (nx s' x)) : ∀ k s s', R s s' → sr_wy nx' ac' k s ≤ sr_wy nx ac k s' := by
  intro k
  induction k with
  | zero =>
    intro s s' h
    rw [sr_wy_0, sr_wy_0]
    by_cases e : ac' s = true
    · rw [if_pos e, if_pos (ha s s' h e)]
      exact Nat.le_refl _
    · rw [if_neg e]
      exact Nat.zero_le _
  | succ k ih =>
    intro s s' h
    rw [sr_wy_s, sr_wy_s]
    exact sr_su_le 4 (fun x _ => ih _ _ (hn s s' x h))
/-- how many lists are shorter than len -/
def sr_S (nx : Nat → Nat → Nat) (ac : Nat → Bool) (len : Nat) : Nat := sr_su (fun k => sr_wy nx ac k 256) len
theorem sr_S_s (nx : Nat → Nat → Nat) (ac : Nat → Bool) (n : Nat) : sr_S nx ac (n + 1) = sr_S nx ac n + sr_wy nx ac n 256 := rfl
theorem sr_S_b (nx : Nat → Nat → Nat) (ac : Nat → Bool) {n : Nat} (h : n ≤ 7) : sr_S nx ac n ≤ 28672 := by
  have t := sr_su_mono (fun k => sr_wy nx ac k 256) h
  have u := sr_su_c (f := fun k => sr_wy nx ac k 256) (b := 4096) 7 (fun i hi => sr_wy_b nx ac (by omega) 256)
  unfold sr_S
  omega
/-- the lists that go on by an element below x -/
def sr_pre (nx : Nat → Nat → Nat) (ac : Nat → Bool) (k t x : Nat) : Nat := sr_su (fun y => sr_wy nx ac k (nx t y)) x
theorem sr_pre_s (nx : Nat → Nat → Nat) (ac : Nat → Bool) (k t x : Nat) : sr_pre nx ac k t (x + 1) = sr_pre nx ac k t x + sr_wy nx ac k (nx t x) := rfl
theorem sr_pre_4 (nx : Nat → Nat → Nat) (ac : Nat → Bool) (k t : Nat) : sr_pre nx ac k t 4 = sr_wy nx ac (k + 1) t := rfl
theorem sr_pre_b (nx : Nat → Nat → Nat) (ac : Nat → Bool) {k : Nat} (hk : k ≤ 6) (t : Nat) {x : Nat} (hx : x ≤ 4) : sr_pre nx ac k t x ≤ 16384 := by
  have u := sr_su_mono (fun y => sr_wy nx ac k (nx t y)) hx
  have v := sr_su_c (f := fun y => sr_wy nx ac k (nx t y)) (b := 4096) 4 (fun i _ => sr_wy_b nx ac hk _)
  unfold sr_pre
  omega
/-- the state behind the first i elements of e -/
def sr_run (nx : Nat → Nat → Nat) (e : Nat → Nat) : Nat → Nat
  | 0 => 256
  | i + 1 => nx (sr_run nx e i) (e i)
theorem sr_run_s (nx : Nat → Nat → Nat) (e : Nat → Nat) (i : Nat) : sr_run nx e (i + 1) = nx (sr_run nx e i) (e i) := rfl
theorem sr_run_c (nx : Nat → Nat → Nat) {e e' : Nat → Nat} (i : Nat) (h : ∀ j, j < i → e j = e' j) : sr_run nx e i = sr_run nx e' i := by
  induction i with
  | zero => rfl
  | succ i ih => rw [sr_run_s, sr_run_s, ih (fun j hj => h j (by omega)), h i (by omega)]
/-- how many lists of len elements are ahead of those that begin with the first i elements of e -/
def sr_rk (nx : Nat → Nat → Nat) (ac : Nat → Bool) (e : Nat → Nat) (len : Nat) : Nat → Nat
  | 0 => 0
  | i + 1 => sr_rk nx ac e len i + sr_pre nx ac (len - i - 1) (sr_run nx e i) (e i)
theorem sr_rk_s (nx : Nat → Nat → Nat) (ac : Nat → Bool) (e : Nat → Nat) (len i : Nat) : sr_rk nx ac e len (i + 1) = sr_rk nx ac e len i + sr_pre nx ac (len - i - 1) (sr_run nx e i) (e i) := rfl
theorem sr_rk_c (nx : Nat → Nat → Nat) (ac : Nat → Bool) {e e' : Nat → Nat} (len i : Nat) (h : ∀ j, j < i → e j = e' j) : sr_rk nx ac e len i = sr_rk nx ac e' len i := by
  induction i with
  | zero => rfl
  | succ i ih => rw [sr_rk_s, sr_rk_s, ih (fun j hj => h j (by omega)), h i (by omega), sr_run_c nx i (fun j hj => h j (by omega))]
/-- the first i elements of e are those of list number v among the lists of len elements -/
def sr_Fi (nx : Nat → Nat → Nat) (ac : Nat → Bool) (v len : Nat) (e : Nat → Nat) (i : Nat) : Prop :=
  (∀ j, j < i → e j < 4) ∧ ∀ j, j ≤ i → sr_rk nx ac e len j ≤ v ∧ v < sr_rk nx ac e len j + sr_wy nx ac (len - j) (sr_run nx e j)
/-- the first len elements of e are list number n -/
def sr_FD (nx : Nat → Nat → Nat) (ac : Nat → Bool) (n len : Nat) (e : Nat → Nat) : Prop :=
  len ≤ 6 ∧ ∃ v, n = sr_S nx ac len + v ∧ sr_Fi nx ac v len e len
theorem sr_Fi_c {nx : Nat → Nat → Nat} {ac : Nat → Bool} {v len : Nat} {e e' : Nat → Nat} {i : Nat} (h : sr_Fi nx ac v len e i) (he : ∀ j, j < i → e j = e' j) : sr_Fi nx ac v len e' i := by
  refine ⟨fun j hj => ?_, fun j hj => ?_⟩
  · rw [← he j hj]
    exact h.1 j hj
  · rw [← sr_rk_c nx ac len j (fun t ht => he t (by omega)), ← sr_run_c nx j (fun t ht => he t (by omega))]
    exact h.2 j hj
theorem sr_Fi_0 {nx : Nat → Nat → Nat} {ac : Nat → Bool} {v len : Nat} (e : Nat → Nat) (h : v < sr_wy nx ac len 256) : sr_Fi nx ac v len e 0 := by
  refine ⟨fun j hj => absurd hj (by omega), fun j hj => ?_⟩
  have e0 : j = 0 := by omega
  subst e0
  refine ⟨Nat.zero_le _, ?_⟩
  show v < 0 + sr_wy nx ac (len - 0) 256
  rw [Nat.zero_add, Nat.sub_zero]
  exact h
/-- element i is x -/
def sr_up (e : Nat → Nat) (i x : Nat) : Nat → Nat := fun j => if j = i then x else e j
theorem sr_up_s (e : Nat → Nat) (i x : Nat) : sr_up e i x i = x := if_pos rfl
theorem sr_up_n (e : Nat → Nat) {i j : Nat} (x : Nat) (h : j ≠ i) : sr_up e i x j = e j := if_neg h
theorem sr_Fi_s {nx : Nat → Nat → Nat} {ac : Nat → Bool} {v len : Nat} {e : Nat → Nat} {i x : Nat} (h : sr_Fi nx ac v len e i) (hi : i < len) (hx : x < 4)
    (h1 : sr_pre nx ac (len - i - 1) (sr_run nx e i) x ≤ v - sr_rk nx ac e len i) (h2 : v - sr_rk nx ac e len i < sr_pre nx ac (len - i - 1) (sr_run nx e i) (x + 1)) :
    sr_Fi nx ac v len (sr_up e i x) (i + 1) := by
  have he : ∀ j, j < i → e j = sr_up e i x j := fun j hj => (sr_up_n e x (by omega)).symm
  have hc := sr_Fi_c h he
  have hii := sr_up_s e i x
  have hr := sr_run_c nx i he
  have hk := sr_rk_c nx ac len i he
  have hv := (h.2 i (Nat.le_refl i)).1
  refine ⟨fun j hj => ?_, fun j hj => ?_⟩
  · by_cases q : j = i
    · rw [q, hii]
      exact hx
    · exact hc.1 j (by omega)
  · by_cases q : j = i + 1
    · rw [q, sr_rk_s, sr_run_s, ← hr, ← hk, hii]
      rw [sr_pre_s] at h2
      rw [show len - (i + 1) = len - i - 1 from by omega]
      omega
    · exact hc.2 j (by omega)
/-- what stands at the end: the list is accepted, and its number is n -/
theorem sr_FD_end {nx : Nat → Nat → Nat} {ac : Nat → Bool} {n len : Nat} {e : Nat → Nat} (h : sr_FD nx ac n len e) : ac (sr_run nx e len) = true ∧ sr_S nx ac len + sr_rk nx ac e len len = n := by
  obtain ⟨_, v, hn, hf⟩ := h
  have t := hf.2 len (Nat.le_refl len)
  rw [Nat.sub_self, sr_wy_0] at t
  by_cases q : ac (sr_run nx e len) = true
  · rw [if_pos q] at t
    exact ⟨q, by omega⟩
  · rw [if_neg q] at t
    omega
/-- the list of a number is one alone -/
theorem sr_FD_one {nx : Nat → Nat → Nat} {ac : Nat → Bool} {n len len' : Nat} {e e' : Nat → Nat} (h : sr_FD nx ac n len e) (h' : sr_FD nx ac n len' e') : len = len' ∧ ∀ j, j < len → e j = e' j := by
  obtain ⟨_, v, hn, hf⟩ := h
  obtain ⟨_, v', hn', hf'⟩ := h'
  have t0 := (hf.2 0 (Nat.zero_le _)).2
  have t0' := (hf'.2 0 (Nat.zero_le _)).2
  have a0 : v < sr_wy nx ac len 256 := by
    have z : v < 0 + sr_wy nx ac (len - 0) 256 := t0
    rw [Nat.zero_add, Nat.sub_zero] at z
    exact z
  have a0' : v' < sr_wy nx ac len' 256 := by
    have z : v' < 0 + sr_wy nx ac (len' - 0) 256 := t0'
    rw [Nat.zero_add, Nat.sub_zero] at z
    exact z
  have el : len = len' := by
    refine sr_su_one (f := fun k => sr_wy nx ac k 256) (v := n) ?_ ?_ ?_ ?_
    · show sr_S nx ac len ≤ n
      omega
    · show n < sr_S nx ac (len + 1)
      rw [sr_S_s]
      omega
    · show sr_S nx ac len' ≤ n
      omega
    · show n < sr_S nx ac (len' + 1)
      rw [sr_S_s]
      omega
  subst el
  have ev : v' = v := by omega
  subst ev
  refine ⟨rfl, ?_⟩
  have key : ∀ i, i ≤ len → ∀ j, j < i → e j = e' j := by
    intro i
    induction i with
    | zero => exact fun _ j hj => absurd hj (by omega)
    | succ i ih =>
      intro hi j hj
      have hp := ih (by omega)
      by_cases q : j = i
      · subst q
        have u := hf.2 (j + 1) hi
        have u' := hf'.2 (j + 1) hi
        rw [sr_rk_s, sr_run_s, show len - (j + 1) = len - j - 1 from by omega] at u u'
        rw [← sr_rk_c nx ac len j hp, ← sr_run_c nx j hp] at u'
        have s1 := sr_pre_s nx ac (len - j - 1) (sr_run nx e j) (e j)
        have s2 := sr_pre_s nx ac (len - j - 1) (sr_run nx e j) (e' j)
        refine sr_su_one (f := fun y => sr_wy nx ac (len - j - 1) (nx (sr_run nx e j) y)) (v := v' - sr_rk nx ac e len j) ?_ ?_ ?_ ?_
        · show sr_pre nx ac (len - j - 1) (sr_run nx e j) (e j) ≤ v' - sr_rk nx ac e len j
          omega
        · show v' - sr_rk nx ac e len j < sr_pre nx ac (len - j - 1) (sr_run nx e j) (e j + 1)
          omega
        · show sr_pre nx ac (len - j - 1) (sr_run nx e j) (e' j) ≤ v' - sr_rk nx ac e len j
          omega
        · show v' - sr_rk nx ac e len j < sr_pre nx ac (len - j - 1) (sr_run nx e j) (e' j + 1)
          omega
      · exact hp j (by omega)
  exact fun j hj => key len (Nat.le_refl len) j hj
end
section
/-! the automata: where a condition goes and what it accepts, as the code computes it; states as naturals -/
def sr_gI (k a b s l x : Int32) : Int32 :=
  if k < 0 then (if x = a then s ^^^ 1 else s) else
  if 8 < k then (if x = a then s ^^^ 1 else s) else
  if k = 0 then (if a ≤ 0 then (s + x) - (s + x) / 1 * 1 else (s + x) - (s + x) / a * a) else
  if k = 1 then (if x = a then (if b ≤ s then s else s + 1) else s) else
  if k = 2 then (if x = a then (if b < s then s else s + 1) else s) else
  if k = 3 then (if l = a then (if x = b then 1 else s) else s) else
  if k = 4 then (if l = a then (if x = b then 1 else s) else s) else
  if k = 5 then (if l = 4 then (if x < a then 2 else 1) else s) else
  if k = 6 then 0 else
  if k = 7 then (if a ≤ s then s else s + 1) else
  if k = 8 then (if x ≤ l then s else 1) else 0
def sr_aI (k a b s l : Int32) : Int32 :=
  if k < 0 then (if s = b then 1 else 0) else
  if 8 < k then (if s = b then 1 else 0) else
  if k = 0 then (if s = b then 1 else 0) else
  if k = 1 then (if s = b then 1 else 0) else
  if k = 2 then (if b < s then 0 else 1) else
  if k = 3 then (if s = 1 then 1 else 0) else
  if k = 4 then (if s = 0 then 1 else 0) else
  if k = 5 then (if s = 1 then 1 else 0) else
  if k = 6 then (if l = 4 then 0 else (if l < a then 0 else 1)) else
  if k = 7 then (if s = a then 1 else 0) else
  if k = 8 then (if s = 1 then 1 else 0) else 0
theorem sr_if {c A B : Prop} [Decidable c] {post : Int32 → Prop} {x y : Int32} (H : post (if c then x else y)) (f : post x → A) (g : post y → B) : (c → A) ∧ (¬ c → B) :=
  ⟨fun h => f (by rw [if_pos h] at H; exact H), fun h => g (by rw [if_neg h] at H; exact H)⟩
/-- kind and numbers of a condition, as 'condition' lets them in -/
def sr_ok (k a b : Int32) : Prop := ∃ k' a' b' : Nat, k = nI k' ∧ a = nI a' ∧ b = nI b' ∧ k' < 10 ∧ a' < 5 ∧ b' < 4 ∧ (k' = 2 → b' < 3) ∧ (k' = 7 → a' < 4)
def sr_ck (k a b : Nat) : Bool := (List.range 4).all (fun s => (List.range 5).all (fun l => (List.range 4).all (fun x => decide ((sr_gI (nI k) (nI a) (nI b) (nI s) (nI l) (nI x)).toBitVec.toNat < 4))))
def sr_ck2 (k a b : Nat) : Bool := (decide (k = 2) && decide (3 ≤ b)) || ((decide (k = 7) && decide (4 ≤ a)) || sr_ck k a b)
theorem sr_ck2_all : ∀ k, k < 10 → ∀ a, a < 5 → ∀ b, b < 4 → sr_ck2 k a b = true := by decide +kernel
theorem sr_ck_all (k : Nat) (hk : k < 10) (a : Nat) (ha : a < 5) (b : Nat) (hb : b < 4) (h1 : k = 2 → b < 3) (h2 : k = 7 → a < 4) : sr_ck k a b = true := by
  have t := sr_ck2_all k hk a ha b hb
  unfold sr_ck2 at t
  rw [Bool.or_eq_true, Bool.or_eq_true, Bool.and_eq_true, Bool.and_eq_true, decide_eq_true_iff, decide_eq_true_iff, decide_eq_true_iff, decide_eq_true_iff] at t
  rcases t with t | t | t
  · exact absurd (h1 t.1) (by omega)
  · exact absurd (h2 t.1) (by omega)
  · exact t
theorem sr_g_fin (k : Nat) (hk : k < 10) (a : Nat) (ha : a < 5) (b : Nat) (hb : b < 4) (h1 : k = 2 → b < 3) (h2 : k = 7 → a < 4) (s : Nat) (hs : s < 4) (l : Nat) (hl : l < 5) (x : Nat) (hx : x < 4) : (sr_gI (nI k) (nI a) (nI b) (nI s) (nI l) (nI x)).toBitVec.toNat < 4 := by
  have t := sr_ck_all k hk a ha b hb h1 h2
  unfold sr_ck at t
  exact of_decide_eq_true (List.all_eq_true.mp (List.all_eq_true.mp (List.all_eq_true.mp t s (List.mem_range.mpr hs)) l (List.mem_range.mpr hl)) x (List.mem_range.mpr hx))
theorem sr_back (y : Int32) : nI y.toBitVec.toNat = y := by
  apply Int32.toBitVec_inj.mp
  apply BitVec.eq_of_toNat_eq
  rw [pk_tn y.toBitVec.isLt]
/-- the weight of a condition's part of a state, and that part -/
def sr_q : Nat → Nat
  | 0 => 1
  | 1 => 4
  | _ => 16
def sr_d (st i : Nat) : Nat := st / sr_q i % 4
def sr_G (a1 a2 a3 : Nat → Int32) (i s l x : Nat) : Nat := (sr_gI (a1 i) (a2 i) (a3 i) (nI s) (nI l) (nI x)).toBitVec.toNat % 4
def sr_B (a1 a2 a3 : Nat → Int32) (i st : Nat) : Bool := decide (¬ sr_aI (a1 i) (a2 i) (a3 i) (nI (sr_d st i)) (nI (st / 64)) = 0)
def sr_A (c : Nat) (a1 a2 a3 : Nat → Int32) (st : Nat) : Bool := decide (∀ i, i < c → sr_B a1 a2 a3 i st = true)
def sr_lo (a1 a2 a3 : Nat → Int32) (st x : Nat) : Nat → Nat
  | 0 => x * 64
  | i + 1 => sr_lo a1 a2 a3 st x i + sr_G a1 a2 a3 i (sr_d st i) (st / 64) x * sr_q i
def sr_N (c : Nat) (a1 a2 a3 : Nat → Int32) (st x : Nat) : Nat := sr_lo a1 a2 a3 st x c
theorem sr_G4 (a1 a2 a3 : Nat → Int32) (i s l x : Nat) : sr_G a1 a2 a3 i s l x < 4 := Nat.mod_lt _ (by decide)
theorem sr_d4 (st i : Nat) : sr_d st i < 4 := Nat.mod_lt _ (by decide)
theorem sr_G_eq {a1 a2 a3 : Nat → Int32} {i s l x : Nat} (h : sr_ok (a1 i) (a2 i) (a3 i)) (hs : s < 4) (hl : l < 5) (hx : x < 4) : sr_gI (a1 i) (a2 i) (a3 i) (nI s) (nI l) (nI x) = nI (sr_G a1 a2 a3 i s l x) := by
  obtain ⟨k', a', b', e1, e2, e3, h1, h2, h3, h4, h5⟩ := h
  have t := sr_g_fin k' h1 a' h2 b' h3 h4 h5 s hs l hl x hx
  unfold sr_G
  rw [e1, e2, e3, Nat.mod_eq_of_lt t, sr_back]
theorem sr_lo_s (a1 a2 a3 : Nat → Int32) (st x i : Nat) : sr_lo a1 a2 a3 st x (i + 1) = sr_lo a1 a2 a3 st x i + sr_G a1 a2 a3 i (sr_d st i) (st / 64) x * sr_q i := rfl
/-- the four sizes of a state -/
theorem sr_N_0 (a1 a2 a3 : Nat → Int32) (st x : Nat) : sr_N 0 a1 a2 a3 st x = x * 64 := rfl
theorem sr_N_1 (a1 a2 a3 : Nat → Int32) (st x : Nat) : sr_N 1 a1 a2 a3 st x = x * 64 + sr_G a1 a2 a3 0 (sr_d st 0) (st / 64) x * 1 := rfl
theorem sr_N_2 (a1 a2 a3 : Nat → Int32) (st x : Nat) : sr_N 2 a1 a2 a3 st x = x * 64 + sr_G a1 a2 a3 0 (sr_d st 0) (st / 64) x * 1 + sr_G a1 a2 a3 1 (sr_d st 1) (st / 64) x * 4 := rfl
theorem sr_N_3 (a1 a2 a3 : Nat → Int32) (st x : Nat) : sr_N 3 a1 a2 a3 st x = x * 64 + sr_G a1 a2 a3 0 (sr_d st 0) (st / 64) x * 1 + sr_G a1 a2 a3 1 (sr_d st 1) (st / 64) x * 4 + sr_G a1 a2 a3 2 (sr_d st 2) (st / 64) x * 16 := rfl
theorem sr_d0 (s : Nat) : sr_d s 0 = s / 1 % 4 := rfl
theorem sr_d1 (s : Nat) : sr_d s 1 = s / 4 % 4 := rfl
theorem sr_d2 (s : Nat) : sr_d s 2 = s / 16 % 4 := rfl
theorem sr_le3 {c : Nat} (h : c ≤ 3) : c = 0 ∨ c = 1 ∨ c = 2 ∨ c = 3 := by omega
theorem sr_lt3 {c : Nat} (h : c < 3) : c = 0 ∨ c = 1 ∨ c = 2 := by omega
theorem sr_pj0 {x : Nat} : (x * 64) / 64 = x := by omega
theorem sr_pj1 {x g : Nat} (h : g < 4) : (x * 64 + g * 1) / 64 = x ∧ (x * 64 + g * 1) / 1 % 4 = g := by omega
theorem sr_pj2 {x g h : Nat} (h0 : g < 4) (h1 : h < 4) : (x * 64 + g * 1 + h * 4) / 64 = x ∧ (x * 64 + g * 1 + h * 4) / 1 % 4 = g ∧ (x * 64 + g * 1 + h * 4) / 4 % 4 = h := by omega
theorem sr_pj3 {x g h k : Nat} (h0 : g < 4) (h1 : h < 4) (h2 : k < 4) : (x * 64 + g * 1 + h * 4 + k * 16) / 64 = x ∧ (x * 64 + g * 1 + h * 4 + k * 16) / 1 % 4 = g ∧ (x * 64 + g * 1 + h * 4 + k * 16) / 4 % 4 = h ∧ (x * 64 + g * 1 + h * 4 + k * 16) / 16 % 4 = k := by omega
theorem sr_N_pr {c : Nat} (hc : c ≤ 3) (a1 a2 a3 : Nat → Int32) (st x : Nat) : sr_N c a1 a2 a3 st x / 64 = x ∧ ∀ j, j < c → sr_d (sr_N c a1 a2 a3 st x) j = sr_G a1 a2 a3 j (sr_d st j) (st / 64) x := by
  rcases sr_le3 hc with rfl | rfl | rfl | rfl
  · rw [sr_N_0]
    exact ⟨sr_pj0, fun j hj => absurd hj (by omega)⟩
  · rw [sr_N_1]
    have t := sr_pj1 (x := x) (sr_G4 a1 a2 a3 0 (sr_d st 0) (st / 64) x)
    refine ⟨t.1, fun j hj => ?_⟩
    have e : j = 0 := by omega
    subst e
    exact t.2
  · rw [sr_N_2]
    have t := sr_pj2 (x := x) (sr_G4 a1 a2 a3 0 (sr_d st 0) (st / 64) x) (sr_G4 a1 a2 a3 1 (sr_d st 1) (st / 64) x)
    refine ⟨t.1, fun j hj => ?_⟩
    have e : j = 0 ∨ j = 1 := by omega
    rcases e with rfl | rfl
    · exact t.2.1
    · exact t.2.2
  · rw [sr_N_3]
    have t := sr_pj3 (x := x) (sr_G4 a1 a2 a3 0 (sr_d st 0) (st / 64) x) (sr_G4 a1 a2 a3 1 (sr_d st 1) (st / 64) x) (sr_G4 a1 a2 a3 2 (sr_d st 2) (st / 64) x)
    refine ⟨t.1, fun j hj => ?_⟩
    rcases sr_lt3 hj with rfl | rfl | rfl
    · exact t.2.1
    · exact t.2.2.1
    · exact t.2.2.2
theorem sr_N_lt {c : Nat} (hc : c ≤ 3) (a1 a2 a3 : Nat → Int32) (st : Nat) {x : Nat} (hx : x < 4) : sr_N c a1 a2 a3 st x < 256 := by
  have t := (sr_N_pr hc a1 a2 a3 st x).1
  omega
theorem sr_lo_b (a1 a2 a3 : Nat → Int32) (st x : Nat) {i : Nat} (hi : i < 3) : ∃ r, r < sr_q i ∧ sr_lo a1 a2 a3 st x i = x * 64 + r := by
  have g0 := sr_G4 a1 a2 a3 0 (sr_d st 0) (st / 64) x
  have g1 := sr_G4 a1 a2 a3 1 (sr_d st 1) (st / 64) x
  rcases sr_lt3 hi with rfl | rfl | rfl
  · exact ⟨0, by decide, rfl⟩
  · refine ⟨sr_G a1 a2 a3 0 (sr_d st 0) (st / 64) x * 1, ?_, rfl⟩
    show _ < 4
    omega
  · refine ⟨sr_G a1 a2 a3 0 (sr_d st 0) (st / 64) x * 1 + sr_G a1 a2 a3 1 (sr_d st 1) (st / 64) x * 4, ?_, ?_⟩
    · show _ < 16
      omega
    · rw [← Nat.add_assoc]
      rfl
theorem sr_q16 : ∀ i, i < 3 → sr_q i ≤ 16 := by decide
/-- bits -/
theorem sr_or_fin : ∀ i, i < 3 → ∀ x, x < 4 → ∀ r, r < 16 → r < sr_q i → ∀ g, g < 4 → nI (x * 64 + r) ||| (nI g <<< ((2 * nI i) &&& 31)) = nI (x * 64 + r + g * sr_q i) := by decide +kernel
theorem sr_bits {st i : Nat} (hst : st < 320) (hi : i < 3) : (nI st >>> ((2 * nI i) &&& 31)) &&& 3 = nI (sr_d st i) := by
  have hl : ∀ k : Nat, st / 2 ^ k < 2 ^ 32 := fun k => Nat.lt_of_le_of_lt (Nat.div_le_self _ _) (by omega)
  rcases sr_lt3 hi with rfl | rfl | rfl
  · rw [pk_shrN (by omega) ((2 * nI 0) &&& 31) 0 (by decide), pk_andN (hl 0) 2 (by decide)]
    rfl
  · rw [pk_shrN (by omega) ((2 * nI 1) &&& 31) 2 (by decide), pk_andN (hl 2) 2 (by decide)]
    rfl
  · rw [pk_shrN (by omega) ((2 * nI 2) &&& 31) 4 (by decide), pk_andN (hl 4) 2 (by decide)]
    rfl
theorem sr_last {st : Nat} (hst : st < 320) : nI st >>> ((6 : Int32) &&& 31) = nI (st / 64) := pk_shrN (by omega) ((6 : Int32) &&& 31) 6 (by decide)
theorem sr_head {x : Nat} (hx : x < 4) : nI x <<< ((6 : Int32) &&& 31) = nI (x * 64) := pk_shlN ((6 : Int32) &&& 31) 6 (by decide) (by omega)
/-- another condition behind the c that stand: no list more -/
theorem sr_less {c : Nat} (hc : c + 1 ≤ 3) {a1 a2 a3 b1 b2 b3 : Nat → Int32} (h : ∀ i, i < c → b1 i = a1 i ∧ b2 i = a2 i ∧ b3 i = a3 i) (n : Nat) :
    sr_S (sr_N (c + 1) b1 b2 b3) (sr_A (c + 1) b1 b2 b3) n ≤ sr_S (sr_N c a1 a2 a3) (sr_A c a1 a2 a3) n := by
  refine sr_su_le n (fun k _ => sr_wy_mono (fun s s' => s / 64 = s' / 64 ∧ ∀ j, j < c → sr_d s j = sr_d s' j) ?_ ?_ k 256 256 ⟨rfl, fun j _ => rfl⟩)
  · intro s s' hR hA
    have hA' : ∀ i, i < c + 1 → sr_B b1 b2 b3 i s = true := of_decide_eq_true hA
    refine decide_eq_true (fun i hi => ?_)
    have t := hA' i (by omega)
    unfold sr_B at t ⊢
    rw [(h i hi).1, (h i hi).2.1, (h i hi).2.2, hR.1, hR.2 i hi] at t
    exact t
  · intro s s' x hR
    have p := sr_N_pr hc b1 b2 b3 s x
    have p' := sr_N_pr (show c ≤ 3 by omega) a1 a2 a3 s' x
    refine ⟨by rw [p.1, p'.1], fun j hj => ?_⟩
    rw [p.2 j (by omega), p'.2 j hj]
    unfold sr_G
    rw [(h j hj).1, (h j hj).2.1, (h j hj).2.2, hR.1, hR.2 j hj]
end
section
/-! the class's inner methods, each once -/
/-- the conditions that stand -/
def sr_V (c : Nat) (a1 a2 a3 : Nat → Int32) : Prop := c ≤ 3 ∧ ∀ i, i < c → sr_ok (a1 i) (a2 i) (a3 i)
/-- the ways, over the conditions -/
def sr_W (c : Nat) (a1 a2 a3 : Nat → Int32) (k s : Nat) : Nat := sr_wy (sr_N c a1 a2 a3) (sr_A c a1 a2 a3) k s
theorem sr_goOn {post : Int32 → Prop} {f0 f1 f2 f3 : Int32} {a1 a2 a3 a4 a5 a6 : Nat → Int32} {i : Nat} {p1 p2 p3 : Int32} (hi : i < 3) (H : post (sr_gI (a1 i) (a2 i) (a3 i) p1 p2 p3)) :
    wpX_goOn post (f0, f1, f2, f3, a1, a2, a3, a4, a5, a6) (nI i) p1 p2 p3 := by
  have hin : vp_in (nI i) 3 := vp_in_nI hi (by decide)
  unfold wpX_goOn
  dsimp only
  rw [nI_clamp (show i < 2 ^ 31 by omega)]
  refine ⟨hin, nm_e ⟨hin, nm_e ⟨hin, nm_e ?_⟩⟩⟩
  unfold sr_gI at H
  refine sr_if H (fun H => sr_if H id id) (fun H => sr_if H (fun H => sr_if H id id) (fun H => ?_))
  refine br_c (fun z => ?_) (fun z => ?_)
  · rw [if_pos z] at H
    exact br_c (fun w => ⟨by decide, by rw [if_pos w] at H; exact H⟩) (fun w => ⟨fun q => w (by rw [q]; decide), by rw [if_neg w] at H; exact H⟩)
  rw [if_neg z] at H
  refine sr_if H (fun H => sr_if H (fun H => sr_if H id id) id) (fun H => ?_)
  refine sr_if H (fun H => sr_if H (fun H => sr_if H id id) id) (fun H => ?_)
  refine sr_if H (fun H => ?_) (fun H => ?_)
  · unfold wX_goOn_131
    exact sr_if H (fun H => sr_if H id id) id
  refine sr_if H (fun H => ?_) (fun H => ?_)
  · unfold wX_goOn_131
    exact sr_if H (fun H => sr_if H id id) id
  refine sr_if H (fun H => sr_if H (fun H => sr_if H id id) id) (fun H => ?_)
  refine sr_if H id (fun H => ?_)
  refine sr_if H (fun H => sr_if H id id) (fun H => ?_)
  exact sr_if H (fun H => sr_if H id id) (fun _ => trivial)
theorem sr_accepts {post : Int32 → Prop} {f0 f1 f2 f3 : Int32} {a1 a2 a3 a4 a5 a6 : Nat → Int32} {i : Nat} {p1 p2 : Int32} (hi : i < 3) (H : post (sr_aI (a1 i) (a2 i) (a3 i) p1 p2)) :
    wpX_accepts post (f0, f1, f2, f3, a1, a2, a3, a4, a5, a6) (nI i) p1 p2 := by
  have hin : vp_in (nI i) 3 := vp_in_nI hi (by decide)
  unfold wpX_accepts
  dsimp only
  rw [nI_clamp (show i < 2 ^ 31 by omega)]
  refine ⟨hin, nm_e ⟨hin, nm_e ⟨hin, nm_e ?_⟩⟩⟩
  unfold sr_aI at H
  refine sr_if H (fun H => sr_if H id id) (fun H => ?_)
  refine sr_if H (fun H => sr_if H id id) (fun H => ?_)
  refine sr_if H (fun H => sr_if H id id) (fun H => ?_)
  refine sr_if H (fun H => sr_if H id id) (fun H => ?_)
  refine sr_if H (fun H => sr_if H id id) (fun H => ?_)
  refine sr_if H (fun H => sr_if H id id) (fun H => ?_)
  refine sr_if H (fun H => sr_if H id id) (fun H => ?_)
  refine sr_if H (fun H => sr_if H id id) (fun H => ?_)
  refine sr_if H (fun H => sr_if H id (fun H => sr_if H id id)) (fun H => ?_)
  refine sr_if H (fun H => sr_if H id id) (fun H => ?_)
  exact sr_if H (fun H => sr_if H id id) (fun _ => trivial)
theorem sr_next {post : Int32 → Prop} {c : Nat} {f1 f2 f3 : Int32} {a1 a2 a3 a4 a5 a6 : Nat → Int32} {st x : Nat} (hV : sr_V c a1 a2 a3) (hst : st < 320) (hx : x < 4) (H : post (nI (sr_N c a1 a2 a3 st x))) :
    wpX_next post (nI c, f1, f2, f3, a1, a2, a3, a4, a5, a6) (nI st) (nI x) := by
  have hc := hV.1
  refine nm_r (sr_last hst) (nm_r (sr_head hx) ?_)
  refine pk_loop (σ := Unit) (fun n i _ => wX_next_14 post (nI st) (nI x) (nI (st / 64)) (nI c) f1 f2 f3 a1 a2 a3 a4 a5 a6 n (nI (sr_lo a1 a2 a3 st x i)) (nI i)) (fun _ _ => True) c 0 () (by omega) trivial ?_ ?_
  · exact fun n _ _ => pk_le c c (fun _ => H) (fun z => absurd z (by omega))
  · intro n i _ hi _ hw
    refine pk_le c i (fun z => absurd z (by omega)) (fun _ => ?_)
    rw [sr_bits hst (show i < 3 by omega)]
    refine sr_goOn (by omega) ?_
    rw [sr_G_eq (hV.2 i hi) (sr_d4 st i) (by omega) hx]
    obtain ⟨r, hr, e⟩ := sr_lo_b a1 a2 a3 st x (show i < 3 by omega)
    have hq := sr_q16 i (by omega)
    refine nm_r ?_ (nm_r (nI_1 i) (hw () trivial))
    rw [e, sr_or_fin i (by omega) x hx r (by omega) hr _ (sr_G4 _ _ _ _ _ _ _), sr_lo_s, e]
theorem sr_accepting {post : Int32 → Prop} {c : Nat} {f1 f2 f3 : Int32} {a1 a2 a3 a4 a5 a6 : Nat → Int32} {st : Nat} (hc : c ≤ 3) (hst : st < 320) (H : post (nI (sr_W c a1 a2 a3 0 st))) :
    wpX_accepting post (nI c, f1, f2, f3, a1, a2, a3, a4, a5, a6) (nI st) := by
  have hW : sr_W c a1 a2 a3 0 st = if sr_A c a1 a2 a3 st = true then 1 else 0 := rfl
  rw [hW] at H
  refine pk_loop (σ := Unit) (fun n i _ => wX_accepting_2 post (nI st) (nI c) f1 f2 f3 a1 a2 a3 a4 a5 a6 n (nI i)) (fun i _ => ∀ j, j < i → sr_B a1 a2 a3 j st = true) c 0 () (by omega) (fun j hj => absurd hj (by omega)) ?_ ?_
  · intro n _ hI
    refine pk_le c c (fun _ => ?_) (fun z => absurd z (by omega))
    rw [if_pos (show sr_A c a1 a2 a3 st = true from decide_eq_true hI)] at H
    exact H
  · intro n i _ hi hI hw
    refine pk_le c i (fun z => absurd z (by omega)) (fun _ => ?_)
    rw [sr_bits hst (show i < 3 by omega), sr_last hst]
    refine sr_accepts (by omega) (br_c (fun z => ?_) (fun z => nm_r (nI_1 i) (hw () (lt_s hI (decide_eq_true z)))))
    have nA : ¬ sr_A c a1 a2 a3 st = true := by
      intro q
      have q' : ∀ j, j < c → sr_B a1 a2 a3 j st = true := of_decide_eq_true q
      exact of_decide_eq_true (q' i hi) z
    rw [if_neg nA] at H
    exact H
theorem sr_ix (k s : Nat) : nI k * 320 + nI s = nI (k * 320 + s) := by
  show nI k * nI 320 + nI s = _
  rw [pk_mul, nI_add]
theorem sr_ixB {k s : Nat} (hk : k ≤ 6) (hs : s < 320) : k * 320 + s < 2240 := by omega
/-- the row k of the table -/
def sr_row (c : Nat) (a1 a2 a3 : Nat → Int32) (a6 : Nat → Int32) (k : Nat) : Prop := ∀ s, s < 320 → a6 (k * 320 + s) = nI (sr_W c a1 a2 a3 k s)
/-- one place of the table is read -/
theorem sr_rdI {k s : Nat} (hk : k ≤ 6) (hs : s < 320) : vp_in (nI k * 320 + nI s) 2240 := by
  have hb := sr_ixB hk hs
  rw [sr_ix]
  exact vp_in_nI hb (by decide)
theorem sr_rdE {c : Nat} {a1 a2 a3 a6 : Nat → Int32} {k s : Nat} (hk : k ≤ 6) (hr : sr_row c a1 a2 a3 a6 k) (hs : s < 320) : a6 (nI k * 320 + nI s).toNatClampNeg = nI (sr_W c a1 a2 a3 k s) := by
  have hb := sr_ixB hk hs
  rw [sr_ix, nI_clamp (by omega), hr s hs]
theorem sr_sumOver {post : Int32 → Prop} {c : Nat} {f1 f2 f3 : Int32} {a1 a2 a3 a4 a5 a6 : Nat → Int32} {k st top : Nat} (hV : sr_V c a1 a2 a3) (hk : k ≤ 6) (hr : sr_row c a1 a2 a3 a6 k) (hst : st < 320) (ht : top ≤ 4)
    (H : post (nI (sr_pre (sr_N c a1 a2 a3) (sr_A c a1 a2 a3) k st top))) :
    wpX_sumOver post (nI c, f1, f2, f3, a1, a2, a3, a4, a5, a6) (nI k) (nI st) (nI top) := by
  refine pk_loop (σ := Unit) (fun n i _ => wX_sumOver_6 post (nI k) (nI st) (nI top) (nI c) f1 f2 f3 a1 a2 a3 a4 a5 a6 n (nI (sr_pre (sr_N c a1 a2 a3) (sr_A c a1 a2 a3) k st i)) (nI i)) (fun _ _ => True) top 0 () (by omega) trivial ?_ ?_
  · exact fun n _ _ => pk_le top top (fun _ => H) (fun z => absurd z (by omega))
  · intro n i _ hi _ hw
    refine pk_le top i (fun z => absurd z (by omega)) (fun _ => ?_)
    have hN := sr_N_lt hV.1 a1 a2 a3 st (show i < 4 by omega)
    refine sr_next hV hst (by omega) ⟨sr_rdI hk (by omega), nm_r ?_ (nm_r (nI_1 i) (hw () trivial))⟩
    rw [sr_rdE hk hr (by omega), nI_add]
    rfl
end
section
/-! the table of ways, and what is summed out of it -/
/-- the whole table -/
def sr_T (c : Nat) (a1 a2 a3 : Nat → Int32) (a6 : Nat → Int32) : Prop := ∀ k, k < 7 → sr_row c a1 a2 a3 a6 k
theorem sr_put {c : Nat} {a1 a2 a3 b : Nat → Int32} {k i : Nat} (h : (∀ j, j < k → sr_row c a1 a2 a3 b j) ∧ ∀ s, s < i → b (k * 320 + s) = nI (sr_W c a1 a2 a3 k s)) (hi : i < 320) :
    (∀ j, j < k → sr_row c a1 a2 a3 (upd b (k * 320 + i) (nI (sr_W c a1 a2 a3 k i))) j) ∧ ∀ s, s < i + 1 → upd b (k * 320 + i) (nI (sr_W c a1 a2 a3 k i)) (k * 320 + s) = nI (sr_W c a1 a2 a3 k s) := by
  refine ⟨fun j hj s hs => ?_, fun s hs => ?_⟩
  · rw [pk_un (by omega)]
    exact h.1 j hj s hs
  · by_cases e : s = i
    · rw [e, pk_us]
    · rw [pk_un (by omega)]
      exact h.2 s (by omega)
theorem sr_p59 {post : St1 → Prop} {J : Int32 → (Nat → Int32) → (Nat → Int32) → (Nat → Int32) → (Nat → Int32) → (Nat → Int32) → (Nat → Int32) → Prop} {c k : Nat} {f1 f2 f3 : Int32} {a1 a2 a3 a4 a5 a6 : Nat → Int32} (hV : sr_V c a1 a2 a3) (hk : k < 6)
    (hr : ∀ j, j < k + 1 → sr_row c a1 a2 a3 a6 j) (H : ∀ b, (∀ j, j < k + 1 + 1 → sr_row c a1 a2 a3 b j) → J (nI (k + 1 + 1)) a1 a2 a3 a4 a5 b) :
    ∃ n, wX_prepare_59 post J (nI (k + 1)) (nI c) f1 f2 f3 n 0 a1 a2 a3 a4 a5 a6 := by
  refine pk_loop (fun n i b => wX_prepare_59 post J (nI (k + 1)) (nI c) f1 f2 f3 n (nI i) a1 a2 a3 a4 a5 b) (fun i b => (∀ j, j < k + 1 → sr_row c a1 a2 a3 b j) ∧ ∀ s, s < i → b ((k + 1) * 320 + s) = nI (sr_W c a1 a2 a3 (k + 1) s)) 320 0 a6 (by omega) ⟨hr, fun s hs => absurd hs (by omega)⟩ ?_ ?_
  · exact fun n b h => pk_le 320 320 (fun _ => nm_r (nI_1 (k + 1)) (H b (lt_s h.1 h.2))) (fun z => absurd z (by omega))
  · intro n i b hi h hw
    refine pk_le 320 i (fun z => absurd z (by omega)) (fun _ => ?_)
    rw [nI_pred]
    refine sr_sumOver (k := k) (top := 4) hV (by omega) (h.1 k (by omega)) hi (Nat.le_refl 4) ⟨sr_rdI (by omega) hi, nm_r ?_ (nm_r (nI_1 i) (hw _ (sr_put h hi)))⟩
    rw [sr_ix, nI_clamp (by omega)]
    rfl
theorem sr_p51 {post : St1 → Prop} {c : Nat} {f1 f2 f3 : Int32} {a1 a2 a3 a4 a5 a6 : Nat → Int32} (hV : sr_V c a1 a2 a3) (hr : sr_row c a1 a2 a3 a6 0)
    (H : ∀ b, sr_T c a1 a2 a3 b → post (nI c, f1, f2, f3, a1, a2, a3, a4, a5, b)) : ∃ n, wX_prepare_51 post (nI c) f1 f2 f3 n 1 a1 a2 a3 a4 a5 a6 := by
  refine pk_loop (fun n k b => wX_prepare_51 post (nI c) f1 f2 f3 n (nI k) a1 a2 a3 a4 a5 b) (fun k b => 1 ≤ k ∧ ∀ j, j < k → sr_row c a1 a2 a3 b j) 7 1 a6 (by omega) ⟨Nat.le_refl 1, fun j hj => ?_⟩ ?_ ?_
  · have e : j = 0 := by omega
    rw [e]
    exact hr
  · exact fun n b h => pk_lt 6 7 (fun _ => H b h.2) (fun z => absurd z (by omega))
  · intro n k b hk h hw
    refine pk_lt 6 k (fun z => absurd z (by omega)) (fun _ => ?_)
    obtain ⟨k', rfl⟩ : ∃ k', k = k' + 1 := ⟨k - 1, by omega⟩
    exact sr_p59 hV (by omega) h.2 (fun d hd => hw d ⟨by omega, hd⟩)
theorem sr_W0 (c : Nat) (a1 a2 a3 : Nat → Int32) (s : Nat) : sr_W c a1 a2 a3 0 s = 0 ∨ sr_W c a1 a2 a3 0 s = 1 := by
  have hW : sr_W c a1 a2 a3 0 s = if sr_A c a1 a2 a3 s = true then 1 else 0 := rfl
  rw [hW]
  split
  · exact Or.inr rfl
  · exact Or.inl rfl
theorem sr_p15 {post : St1 → Prop} {c : Nat} {f1 f2 f3 : Int32} {a1 a2 a3 a4 a5 a6 : Nat → Int32} (hV : sr_V c a1 a2 a3)
    (H : ∀ b, sr_T c a1 a2 a3 b → post (nI c, f1, f2, f3, a1, a2, a3, a4, a5, b)) : ∃ n, wX_prepare_15 post (nI c) f1 f2 f3 n 0 a1 a2 a3 a4 a5 a6 := by
  refine pk_loop (fun n i b => wX_prepare_15 post (nI c) f1 f2 f3 n (nI i) a1 a2 a3 a4 a5 b) (fun i b => ∀ s, s < i → b s = nI (sr_W c a1 a2 a3 0 s)) 320 0 a6 (by omega) (fun s hs => absurd hs (by omega)) ?_ ?_
  · intro n b h
    refine pk_le 320 320 (fun _ => sr_p51 hV (fun s hs => ?_) H) (fun z => absurd z (by omega))
    rw [Nat.zero_mul, Nat.zero_add]
    exact h s hs
  · intro n i b hi h hw
    refine pk_le 320 i (fun z => absurd z (by omega)) (fun _ => sr_accepting hV.1 hi ?_)
    have hin : vp_in (nI i) 2240 := vp_in_nI (by omega) (by decide)
    have step : ∀ y, y = nI (sr_W c a1 a2 a3 0 i) → ∀ s, s < i + 1 → upd b i y s = nI (sr_W c a1 a2 a3 0 s) := by
      intro y hy s hs
      by_cases e : s = i
      · rw [e, pk_us, hy]
      · rw [pk_un e]
        exact h s (by omega)
    rw [nI_clamp (show i < 2 ^ 31 by omega)]
    rcases sr_W0 c a1 a2 a3 i with e | e
    · exact br_t (by rw [e]; rfl) ⟨hin, nm_e (nm_r (nI_1 i) (hw _ (step _ (by rw [e]; rfl))))⟩
    · exact br_f (by rw [e]; decide) ⟨hin, nm_e (nm_r (nI_1 i) (hw _ (step _ (by rw [e]; rfl))))⟩
theorem sr_prep {post : St1 → Prop} {c : Nat} {f1 f2 f3 : Int32} {a1 a2 a3 a4 a5 a6 : Nat → Int32} (hV : sr_V c a1 a2 a3) (hP : ¬ f3 = 0 → sr_T c a1 a2 a3 a6)
    (H : ∀ r b, sr_T c a1 a2 a3 b → post (nI c, f1, f2, r, a1, a2, a3, a4, a5, b)) : wpX_prepare post (nI c, f1, f2, f3, a1, a2, a3, a4, a5, a6) :=
  br_c (fun _ => sr_p15 hV (H 1)) (fun z => H f3 a6 (hP z))
/-- the number of all failing lists -/
def sr_all (c : Nat) (a1 a2 a3 : Nat → Int32) : Nat := sr_S (sr_N c a1 a2 a3) (sr_A c a1 a2 a3) 7
theorem sr_all_b (c : Nat) (a1 a2 a3 : Nat → Int32) : sr_all c a1 a2 a3 ≤ 28672 := sr_S_b _ _ (Nat.le_refl 7)
theorem sr_total {post : Int32 → St1 → Prop} {c : Nat} {f1 f2 f3 : Int32} {a1 a2 a3 a4 a5 a6 : Nat → Int32} (hV : sr_V c a1 a2 a3) (hP : ¬ f3 = 0 → sr_T c a1 a2 a3 a6)
    (H : ∀ r b, sr_T c a1 a2 a3 b → post (nI (sr_all c a1 a2 a3)) (nI c, f1, f2, r, a1, a2, a3, a4, a5, b)) : wpX_total post (nI c, f1, f2, f3, a1, a2, a3, a4, a5, a6) := by
  refine sr_prep hV hP (fun r b hT => ?_)
  refine pk_loop (σ := Unit) (fun n i _ => wX_total_8 post (nI c) f1 f2 r a1 a2 a3 a4 a5 b n (nI (sr_S (sr_N c a1 a2 a3) (sr_A c a1 a2 a3) i)) (nI i)) (fun _ _ => True) 7 0 () (by omega) trivial ?_ ?_
  · exact fun n _ _ => pk_lt 6 7 (fun _ => H r b hT) (fun z => absurd z (by omega))
  · intro n i _ hi _ hw
    refine pk_lt 6 i (fun z => absurd z (by omega)) (fun _ => ⟨sr_rdI (s := 256) (by omega) (by omega), nm_r ?_ (nm_r (nI_1 i) (hw () trivial))⟩)
    rw [sr_S_s, ← nI_add]
    exact congrArg _ (sr_rdE (s := 256) (by omega) (hT i hi) (by omega))
theorem sr_failing {post : Int32 → St1 → Prop} {c : Nat} {f1 f2 f3 : Int32} {a1 a2 a3 a4 a5 a6 : Nat → Int32} (hV : sr_V c a1 a2 a3) (hP : ¬ f3 = 0 → sr_T c a1 a2 a3 a6)
    (H : ∀ r b, sr_T c a1 a2 a3 b → post (nI (sr_all c a1 a2 a3)) (nI c, f1, f2, r, a1, a2, a3, a4, a5, b)) : wpX_failing post (nI c, f1, f2, f3, a1, a2, a3, a4, a5, a6) :=
  sr_total hV hP H
theorem sr_failingOf {post : Int32 → St1 → Prop} {c : Nat} {f1 f2 f3 : Int32} {a1 a2 a3 a4 a5 a6 : Nat → Int32} {len : Nat} (hV : sr_V c a1 a2 a3) (hP : ¬ f3 = 0 → sr_T c a1 a2 a3 a6) (hl : len < 7)
    (H : ∀ r b, sr_T c a1 a2 a3 b → post (nI (sr_W c a1 a2 a3 len 256)) (nI c, f1, f2, r, a1, a2, a3, a4, a5, b)) : wpX_failingOf post (nI c, f1, f2, f3, a1, a2, a3, a4, a5, a6) (nI len) := by
  refine br_f (nI_pos (by omega)) (pk_le len 6 (fun _ => sr_prep hV hP (fun r b hT => ⟨sr_rdI (s := 256) (by omega) (by omega), ?_⟩)) (fun z => absurd z (by omega)))
  have e : b (nI len * 320 + 256).toNatClampNeg = nI (sr_W c a1 a2 a3 len 256) := sr_rdE (s := 256) (by omega) (hT len hl) (by omega)
  rw [e]
  exact H r b hT
theorem sr_run_lt {c : Nat} {a1 a2 a3 : Nat → Int32} (hc : c ≤ 3) {e : Nat → Nat} (i : Nat) (h : ∀ j, j < i → e j < 4) : sr_run (sr_N c a1 a2 a3) e i < 320 := by
  cases i with
  | zero =>
    show 256 < 320
    omega
  | succ i =>
    rw [sr_run_s]
    have t := sr_N_lt hc a1 a2 a3 (sr_run (sr_N c a1 a2 a3) e i) (h i (by omega))
    omega
theorem sr_stage {post : Int32 → Prop} {c : Nat} {f1 f2 f3 : Int32} {a1 a2 a3 a4 a5 a6 : Nat → Int32} {m : Nat} {e : Nat → Nat} (hV : sr_V c a1 a2 a3) (hm : m ≤ 6) (h4 : ∀ j, j < m → e j < 4) (he : ∀ j, j < m → a4 j = nI (e j))
    (H : post (nI (sr_run (sr_N c a1 a2 a3) e m))) : wpX_stageState post (nI c, f1, f2, f3, a1, a2, a3, a4, a5, a6) (nI m) := by
  refine pk_loop (σ := Unit) (fun n i _ => wX_stageState_6 post (nI m) (nI c) f1 f2 f3 a1 a2 a3 a4 a5 a6 n (nI (sr_run (sr_N c a1 a2 a3) e i)) (nI i)) (fun _ _ => True) m 0 () (by omega) trivial ?_ ?_
  · exact fun n _ _ => pk_le m m (fun _ => H) (fun z => absurd z (by omega))
  · intro n i _ hi _ hw
    refine pk_le m i (fun z => absurd z (by omega)) (fun _ => ⟨vp_in_nI (by omega) (by decide), ?_⟩)
    rw [nI_clamp (show i < 2 ^ 31 by omega), he i hi]
    exact sr_next hV (sr_run_lt hV.1 i (fun j hj => h4 j (by omega))) (h4 i hi) (nm_r (nI_1 i) (hw () trivial))
/-- with nothing on the stage -/
theorem sr_extending {post : Int32 → St1 → Prop} {c : Nat} {f2 f3 : Int32} {a1 a2 a3 a4 a5 a6 : Nat → Int32} (hV : sr_V c a1 a2 a3) (hP : ¬ f3 = 0 → sr_T c a1 a2 a3 a6)
    (H : ∀ r b, sr_T c a1 a2 a3 b → post (nI (sr_all c a1 a2 a3)) (nI c, 0, f2, r, a1, a2, a3, a4, a5, b)) : wpX_extending post (nI c, 0, f2, f3, a1, a2, a3, a4, a5, a6) := by
  refine sr_prep hV hP (fun r b hT => ?_)
  refine sr_stage (m := 0) (e := fun _ => 0) hV (by omega) (fun j hj => absurd hj (by omega)) (fun j hj => absurd hj (by omega)) ?_
  refine pk_loop (σ := Unit) (fun n i _ => wX_extending_17 post 256 (nI c) 0 f2 r a1 a2 a3 a4 a5 b n (nI (sr_S (sr_N c a1 a2 a3) (sr_A c a1 a2 a3) i)) (nI i)) (fun _ _ => True) 7 0 () (by omega) trivial ?_ ?_
  · exact fun n _ _ => pk_lt 6 7 (fun _ => H r b hT) (fun z => absurd z (by omega)) (by decide)
  · intro n i _ hi _ hw
    refine pk_lt 6 i (fun z => absurd z (by omega)) (fun _ => ⟨sr_rdI (s := 256) (by omega) (by omega), nm_r ?_ (nm_r (nI_1 i) (hw () trivial))⟩) (by decide)
    rw [sr_S_s, ← nI_add]
    exact congrArg _ (sr_rdE (s := 256) (by omega) (hT i hi) (by omega))
theorem sr_nar01 {w : Nat} (h : w = 0 ∨ w = 1) : narrow .boolean (.int (nI w)) = .int (nI w) := by
  rcases h with rfl | rfl
  · rfl
  · rfl
theorem sr_fails {post : Int32 → Prop} {c : Nat} {f2 f3 : Int32} {a1 a2 a3 a4 a5 a6 : Nat → Int32} {m : Nat} {e : Nat → Nat} (hV : sr_V c a1 a2 a3) (hm : m ≤ 6) (h4 : ∀ j, j < m → e j < 4) (he : ∀ j, j < m → a4 j = nI (e j))
    (H : post (nI (sr_W c a1 a2 a3 0 (sr_run (sr_N c a1 a2 a3) e m)))) : wpX_fails post (nI c, nI m, f2, f3, a1, a2, a3, a4, a5, a6) := by
  refine sr_stage hV hm h4 he ?_
  refine sr_accepting hV.1 (sr_run_lt hV.1 m h4) ?_
  exact ⟨sr_nar01 (sr_W0 _ _ _ _ _), H⟩
theorem sr_rank {post : Int32 → St1 → Prop} {c : Nat} {f2 f3 : Int32} {a1 a2 a3 a4 a5 a6 : Nat → Int32} {m : Nat} {e : Nat → Nat} (hV : sr_V c a1 a2 a3) (hP : ¬ f3 = 0 → sr_T c a1 a2 a3 a6) (hm : m ≤ 6) (h4 : ∀ j, j < m → e j < 4) (he : ∀ j, j < m → a4 j = nI (e j))
    (H : ∀ r b, sr_T c a1 a2 a3 b → post (nI (sr_S (sr_N c a1 a2 a3) (sr_A c a1 a2 a3) m + sr_rk (sr_N c a1 a2 a3) (sr_A c a1 a2 a3) e m m)) (nI c, nI m, f2, r, a1, a2, a3, a4, a5, b)) :
    wpX_rank post (nI c, nI m, f2, f3, a1, a2, a3, a4, a5, a6) := by
  refine sr_prep hV hP (fun r b hT => ?_)
  refine pk_loop (σ := Unit) (fun n i _ => wX_rank_8 post (nI c) (nI m) f2 r a1 a2 a3 a4 a5 b n (nI (sr_S (sr_N c a1 a2 a3) (sr_A c a1 a2 a3) i)) (nI i)) (fun _ _ => True) m 0 () (by omega) trivial ?_ ?_
  · refine fun n _ _ => pk_le m m (fun _ => ?_) (fun z => absurd z (by omega))
    refine pk_loop (σ := Unit) (fun n i _ => wX_rank_45 post (nI c) (nI m) f2 r a1 a2 a3 a4 a5 b n (nI (sr_S (sr_N c a1 a2 a3) (sr_A c a1 a2 a3) m + sr_rk (sr_N c a1 a2 a3) (sr_A c a1 a2 a3) e m i)) (nI (sr_run (sr_N c a1 a2 a3) e i)) (nI i)) (fun _ _ => True) m 0 () (by omega) trivial ?_ ?_
    · exact fun n _ _ => pk_le m m (fun _ => H r b hT) (fun z => absurd z (by omega))
    · intro n i _ hi _ hw
      have hin : vp_in (nI i) 6 := vp_in_nI (by omega) (by decide)
      have hst := sr_run_lt (a1 := a1) (a2 := a2) (a3 := a3) hV.1 i (fun j hj => h4 j (show j < m by omega))
      have h4i := h4 i hi
      refine pk_le m i (fun z => absurd z (by omega)) (fun _ => ⟨hin, ?_⟩)
      rw [nI_clamp (show i < 2 ^ 31 by omega), he i hi, pk_sub (show i ≤ m by omega), show (1 : Int32) = nI 1 from rfl, pk_sub (show 1 ≤ m - i by omega)]
      refine sr_sumOver hV (by omega) (hT _ (by omega)) hst (by omega) (nm_r (nI_add _ _) ⟨hin, sr_next hV hst h4i (nm_r (nI_1 i) ?_)⟩)
      rw [Nat.add_assoc, ← sr_rk_s, ← sr_run_s (sr_N c a1 a2 a3) e i]
      exact hw () trivial
  · intro n i _ hi _ hw
    refine pk_le m i (fun z => absurd z (by omega)) (fun _ => ⟨sr_rdI (s := 256) (by omega) (by omega), nm_r ?_ (nm_r (nI_1 i) (hw () trivial))⟩)
    rw [sr_S_s, ← nI_add]
    exact congrArg _ (sr_rdE (s := 256) (by omega) (hT i (by omega)) (by omega))
end
section
/-! the list of a number is found -/
theorem sr_f131 {post : Int32 → St1 → Prop} {J : Int32 → Int32 → Int32 → (Nat → Int32) → (Nat → Int32) → (Nat → Int32) → (Nat → Int32) → (Nat → Int32) → (Nat → Int32) → Prop} {c : Nat} {f1 f2 f3 : Int32} {a1 a2 a3 a4 a5 a6 : Nat → Int32} {left len t i x : Nat}
    (hV : sr_V c a1 a2 a3) (hT : sr_T c a1 a2 a3 a6) (hl : len ≤ 6) (hi : i < len) (ht : t < 320) (hx : x < 4) (h1 : sr_pre (sr_N c a1 a2 a3) (sr_A c a1 a2 a3) (len - i - 1) t x ≤ left)
    (K : J (nI (left - sr_pre (sr_N c a1 a2 a3) (sr_A c a1 a2 a3) (len - i - 1) t x)) (nI (sr_N c a1 a2 a3 t x)) (nI (i + 1)) a1 a2 a3 a4 (upd a5 i (nI x)) a6) :
    wX_find_131 post J (nI left) (nI len) (nI t) (nI i) (nI x) (nI c) f1 f2 f3 a1 a2 a3 a4 a5 a6 := by
  unfold wX_find_131
  rw [nI_clamp (show i < 2 ^ 31 by omega), pk_sub (show i ≤ len by omega), show (1 : Int32) = nI 1 from rfl, pk_sub (show 1 ≤ len - i by omega)]
  refine sr_sumOver hV (by omega) (hT _ (by omega)) ht (by omega) (nm_r (pk_sub h1) ⟨vp_in_nI (by omega) (by decide), nm_e (sr_next hV ht hx (nm_r (nI_1 i) K))⟩)
theorem sr_f98 {post : Int32 → St1 → Prop} {J : Int32 → Int32 → Int32 → (Nat → Int32) → (Nat → Int32) → (Nat → Int32) → (Nat → Int32) → (Nat → Int32) → (Nat → Int32) → Prop} {c : Nat} {f1 f2 f3 : Int32} {a1 a2 a3 a4 a5 a6 : Nat → Int32} {left len t i : Nat}
    (hV : sr_V c a1 a2 a3) (hT : sr_T c a1 a2 a3 a6) (hl : len ≤ 6) (hi : i < len) (ht : t < 320) (hb : left < sr_pre (sr_N c a1 a2 a3) (sr_A c a1 a2 a3) (len - i - 1) t 4)
    (K : ∀ x, x < 4 → sr_pre (sr_N c a1 a2 a3) (sr_A c a1 a2 a3) (len - i - 1) t x ≤ left → left < sr_pre (sr_N c a1 a2 a3) (sr_A c a1 a2 a3) (len - i - 1) t (x + 1) → J (nI (left - sr_pre (sr_N c a1 a2 a3) (sr_A c a1 a2 a3) (len - i - 1) t x)) (nI (sr_N c a1 a2 a3 t x)) (nI (i + 1)) a1 a2 a3 a4 (upd a5 i (nI x)) a6) :
    ∃ n, wX_find_98 post J (nI left) (nI len) (nI t) (nI i) (nI c) f1 f2 f3 a1 a2 a3 a4 a5 a6 n 0 := by
  have h4b := sr_pre_b (sr_N c a1 a2 a3) (sr_A c a1 a2 a3) (show len - i - 1 ≤ 6 by omega) t (Nat.le_refl 4)
  have key : ∀ d x, x + d = 3 → sr_pre (sr_N c a1 a2 a3) (sr_A c a1 a2 a3) (len - i - 1) t x ≤ left → wX_find_98 post J (nI left) (nI len) (nI t) (nI i) (nI c) f1 f2 f3 a1 a2 a3 a4 a5 a6 (d + 1) (nI x) := by
    intro d
    induction d with
    | zero =>
      intro x hx h
      have e : x = 3 := by omega
      subst e
      exact pk_le 3 3 (fun _ => sr_f131 hV hT hl hi ht (by omega) h (K 3 (by omega) h hb)) (fun z => absurd z (by omega))
    | succ d ih =>
      intro x hx h
      have hpb := sr_pre_b (sr_N c a1 a2 a3) (sr_A c a1 a2 a3) (show len - i - 1 ≤ 6 by omega) t (show x + 1 ≤ 4 by omega)
      refine pk_le 3 x (fun z => absurd z (by omega)) (fun _ => ?_)
      rw [pk_sub (show i ≤ len by omega), show (1 : Int32) = nI 1 from rfl, pk_sub (show 1 ≤ len - i by omega), nI_add]
      refine sr_sumOver hV (by omega) (hT _ (by omega)) ht (by omega) ?_
      exact pk_lt left (sr_pre (sr_N c a1 a2 a3) (sr_A c a1 a2 a3) (len - i - 1) t (x + 1)) (fun z => sr_f131 hV hT hl hi ht (by omega) h (K x (by omega) h z)) (fun z => nm_e (ih (x + 1) (by omega) z))
  exact ⟨4, key 3 0 (by omega) (Nat.zero_le _)⟩
theorem sr_f85 {post : Int32 → St1 → Prop} {c : Nat} {f1 f2 f3 : Int32} {a1 a2 a3 a4 a5 a6 : Nat → Int32} {len v : Nat} (hV : sr_V c a1 a2 a3) (hT : sr_T c a1 a2 a3 a6) (hl : len ≤ 6) (hv : v < sr_W c a1 a2 a3 len 256)
    (H : ∀ e b, sr_Fi (sr_N c a1 a2 a3) (sr_A c a1 a2 a3) v len e len → (∀ j, j < len → b j = nI (e j)) → post 1 (nI c, f1, f2, f3, a1, a2, a3, a4, b, a6)) :
    ∃ n, wX_find_85 post (nI len) (nI c) f1 f2 f3 n (nI v) 256 0 a1 a2 a3 a4 a5 a6 := by
  refine pk_loop (σ := Int32 × Int32 × (Nat → Int32)) (fun n i s => wX_find_85 post (nI len) (nI c) f1 f2 f3 n s.1 s.2.1 (nI i) a1 a2 a3 a4 s.2.2 a6)
    (fun i s => ∃ e, sr_Fi (sr_N c a1 a2 a3) (sr_A c a1 a2 a3) v len e i ∧ s.1 = nI (v - sr_rk (sr_N c a1 a2 a3) (sr_A c a1 a2 a3) e len i) ∧ s.2.1 = nI (sr_run (sr_N c a1 a2 a3) e i) ∧ ∀ j, j < i → s.2.2 j = nI (e j))
    len 0 (nI v, 256, a5) (by omega) ⟨fun _ => 0, sr_Fi_0 _ hv, rfl, rfl, fun j hj => absurd hj (by omega)⟩ ?_ ?_
  · intro n s h
    obtain ⟨e, h1, _, _, h4⟩ := h
    exact pk_le len len (fun _ => H e s.2.2 h1 h4) (fun z => absurd z (by omega))
  · intro n i s hi h hw
    obtain ⟨s1, s2, s3⟩ := s
    obtain ⟨e, h1, h2, h3, h4⟩ := h
    dsimp only at h2 h3 h4
    subst h2 h3
    have hf := h1.2 i (Nat.le_refl i)
    refine pk_le len i (fun z => absurd z (by omega)) (fun _ => sr_f98 hV hT hl hi (sr_run_lt hV.1 i h1.1) ?_ ?_)
    · rw [sr_pre_4, show len - i - 1 + 1 = len - i from by omega]
      omega
    · intro x hx p1 p2
      have he : ∀ j, j < i → e j = sr_up e i x j := fun j hj => (sr_up_n e x (by omega)).symm
      have hii := sr_up_s e i x
      refine hw (nI (v - sr_rk (sr_N c a1 a2 a3) (sr_A c a1 a2 a3) e len i - sr_pre (sr_N c a1 a2 a3) (sr_A c a1 a2 a3) (len - i - 1) (sr_run (sr_N c a1 a2 a3) e i) x), nI (sr_N c a1 a2 a3 (sr_run (sr_N c a1 a2 a3) e i) x), upd s3 i (nI x)) ⟨sr_up e i x, sr_Fi_s h1 hi hx p1 p2, ?_, ?_, ?_⟩
      · show nI (v - sr_rk (sr_N c a1 a2 a3) (sr_A c a1 a2 a3) e len i - sr_pre (sr_N c a1 a2 a3) (sr_A c a1 a2 a3) (len - i - 1) (sr_run (sr_N c a1 a2 a3) e i) x) = _
        rw [sr_rk_s, ← sr_rk_c _ _ len i he, ← sr_run_c _ i he, hii, Nat.sub_sub]
      · show nI (sr_N c a1 a2 a3 (sr_run (sr_N c a1 a2 a3) e i) x) = _
        rw [sr_run_s, ← sr_run_c _ i he, hii]
      · intro j hj
        show upd s3 i (nI x) j = nI (sr_up e i x j)
        by_cases q : j = i
        · rw [q, pk_us, hii]
        · rw [pk_un q, sr_up_n e x q]
          exact h4 j (by omega)
theorem sr_f21 {post : Int32 → St1 → Prop} {c : Nat} {f1 f2 f3 : Int32} {a1 a2 a3 a4 a5 a6 : Nat → Int32} {n : Nat} (hT : sr_T c a1 a2 a3 a6) (hn : n < sr_all c a1 a2 a3)
    (K : ∀ len v, len ≤ 6 → n = sr_S (sr_N c a1 a2 a3) (sr_A c a1 a2 a3) len + v → v < sr_W c a1 a2 a3 len 256 → ∃ f, wX_find_85 post (nI len) (nI c) f1 (nI len) f3 f (nI v) 256 0 a1 a2 a3 a4 a5 a6) :
    ∃ f, wX_find_21 post (nI c) f1 f2 f3 a1 a2 a3 a4 a5 a6 f (nI n) 0 := by
  have hab := sr_all_b c a1 a2 a3
  have key : ∀ d len v, len + d = 6 → n = sr_S (sr_N c a1 a2 a3) (sr_A c a1 a2 a3) len + v → wX_find_21 post (nI c) f1 f2 f3 a1 a2 a3 a4 a5 a6 (d + 1) (nI v) (nI len) := by
    intro d
    induction d with
    | zero =>
      intro len v hd hv
      have e : len = 6 := by omega
      subst e
      have hs : sr_all c a1 a2 a3 = sr_S (sr_N c a1 a2 a3) (sr_A c a1 a2 a3) 6 + sr_W c a1 a2 a3 6 256 := rfl
      exact pk_le 6 6 (fun _ => K 6 v (by omega) hv (by omega)) (fun z => absurd z (by omega))
    | succ d ih =>
      intro len v hd hv
      have hin : vp_in (nI len * 320 + 256) 2240 := sr_rdI (s := 256) (by omega) (by omega)
      have he : a6 (nI len * 320 + 256).toNatClampNeg = nI (sr_W c a1 a2 a3 len 256) := sr_rdE (s := 256) (by omega) (hT len (by omega)) (by omega)
      have hwb : sr_W c a1 a2 a3 len 256 ≤ 4096 := sr_wy_b _ _ (by omega) 256
      have hs : sr_S (sr_N c a1 a2 a3) (sr_A c a1 a2 a3) (len + 1) = sr_S (sr_N c a1 a2 a3) (sr_A c a1 a2 a3) len + sr_W c a1 a2 a3 len 256 := rfl
      refine pk_le 6 len (fun z => absurd z (by omega)) (fun _ => ⟨hin, ?_⟩)
      rw [he]
      refine pk_lt v (sr_W c a1 a2 a3 len 256) (fun z => K len v (by omega) hv z) (fun z => ⟨hin, nm_r (pk_sub z) (nm_r (nI_1 len) (ih (len + 1) _ (by omega) (by omega)))⟩)
  exact ⟨7, key 6 0 n (by omega) (by rw [show sr_S (sr_N c a1 a2 a3) (sr_A c a1 a2 a3) 0 = 0 from rfl, Nat.zero_add])⟩
theorem sr_find {post : Int32 → St1 → Prop} {c : Nat} {f1 f2 f3 : Int32} {a1 a2 a3 a4 a5 a6 : Nat → Int32} {n : Nat} (hV : sr_V c a1 a2 a3) (hP : ¬ f3 = 0 → sr_T c a1 a2 a3 a6) (hn : n < 2 ^ 31)
    (H0 : sr_all c a1 a2 a3 ≤ n → ∀ r b, sr_T c a1 a2 a3 b → post 0 (nI c, f1, f2, r, a1, a2, a3, a4, a5, b))
    (H1 : n < sr_all c a1 a2 a3 → ∀ r b len e d, sr_T c a1 a2 a3 b → sr_FD (sr_N c a1 a2 a3) (sr_A c a1 a2 a3) n len e → (∀ j, j < len → d j = nI (e j)) → post 1 (nI c, f1, nI len, r, a1, a2, a3, a4, d, b)) :
    wpX_find post (nI c, f1, f2, f3, a1, a2, a3, a4, a5, a6) (nI n) := by
  have hab := sr_all_b c a1 a2 a3
  refine sr_total hV hP (fun r b hT => ?_)
  refine br_f (nI_pos hn) (pk_lt n (sr_all c a1 a2 a3) (fun z => ?_) (fun z => H0 z r b hT))
  exact sr_f21 hT z (fun len v hl he hv => sr_f85 hV hT hl hv (fun e d hF hd => H1 z r b len e d hT ⟨hl, v, he, hF⟩ hd))
theorem sr_load {post : Int32 → St1 → Prop} {c : Nat} {f1 f2 f3 : Int32} {a1 a2 a3 a4 a5 a6 : Nat → Int32} {n : Nat} (hV : sr_V c a1 a2 a3) (hP : ¬ f3 = 0 → sr_T c a1 a2 a3 a6) (hn : n < 2 ^ 31)
    (H0 : sr_all c a1 a2 a3 ≤ n → ∀ r b, sr_T c a1 a2 a3 b → post (-4) (nI c, f1, f2, r, a1, a2, a3, a4, a5, b))
    (H1 : n < sr_all c a1 a2 a3 → ∀ r b len e d g, sr_T c a1 a2 a3 b → sr_FD (sr_N c a1 a2 a3) (sr_A c a1 a2 a3) n len e → (∀ j, j < len → g j = nI (e j)) → post (nI len) (nI c, nI len, nI len, r, a1, a2, a3, g, d, b)) :
    wpX_load post (nI c, f1, f2, f3, a1, a2, a3, a4, a5, a6) (nI n) := by
  unfold wpX_load
  dsimp only
  refine sr_find hV hP hn (fun z r b hT => br_t rfl (H0 z r b hT)) ?_
  intro z r b len e d hT hF hd
  refine br_f (by decide) ?_
  have hl := hF.1
  refine pk_loop (fun k i s => wX_load_23 post (nI c) (nI len) (nI len) r k (nI i) a1 a2 a3 s d b) (fun i s => ∀ j, j < i → s j = nI (e j)) len 0 a4 (by omega) (fun j hj => absurd hj (by omega)) ?_ ?_
  · exact fun k s h => pk_le len len (fun _ => H1 z r b len e d s hT hF h) (fun z => absurd z (by omega))
  · intro k i s hi h hw
    have hin : vp_in (nI i) 6 := vp_in_nI (by omega) (by decide)
    refine pk_le len i (fun z => absurd z (by omega)) (fun _ => ⟨hin, hin, ?_⟩)
    rw [nI_clamp (show i < 2 ^ 31 by omega)]
    refine nm_e (nm_r (nI_1 i) (hw _ (fun j hj => ?_)))
    by_cases q : j = i
    · rw [q, pk_us]
      exact hd i hi
    · rw [pk_un q]
      exact h j (by omega)
theorem sr_leastLength {post : Int32 → St1 → Prop} {c : Nat} {f1 f2 f3 : Int32} {a1 a2 a3 a4 a5 a6 : Nat → Int32} (hV : sr_V c a1 a2 a3) (hP : ¬ f3 = 0 → sr_T c a1 a2 a3 a6)
    (H0 : sr_all c a1 a2 a3 ≤ 0 → ∀ r b, sr_T c a1 a2 a3 b → post (-4) (nI c, f1, f2, r, a1, a2, a3, a4, a5, b))
    (H1 : 0 < sr_all c a1 a2 a3 → ∀ r b len e d, sr_T c a1 a2 a3 b → sr_FD (sr_N c a1 a2 a3) (sr_A c a1 a2 a3) 0 len e → post (nI len) (nI c, f1, nI len, r, a1, a2, a3, a4, d, b)) :
    wpX_leastLength post (nI c, f1, f2, f3, a1, a2, a3, a4, a5, a6) := by
  unfold wpX_leastLength
  dsimp only
  refine sr_find (n := 0) hV hP (by decide) (fun z r b hT => br_t rfl (H0 z r b hT)) ?_
  intro z r b len e d hT hF _
  exact br_f (by decide) (H1 z r b len e d hT hF)
/-- what 'least' and 'element' answer of a list -/
def sr_el (e : Nat → Nat) (len i : Nat) : Int32 := if i < len then nI (e i) else (-4)
theorem sr_least {post : Int32 → St1 → Prop} {c : Nat} {f1 f2 f3 : Int32} {a1 a2 a3 a4 a5 a6 : Nat → Int32} {i : Nat} (hV : sr_V c a1 a2 a3) (hP : ¬ f3 = 0 → sr_T c a1 a2 a3 a6) (hi : i < 6) (ha : 0 < sr_all c a1 a2 a3)
    (H : ∀ r b len e d, sr_T c a1 a2 a3 b → sr_FD (sr_N c a1 a2 a3) (sr_A c a1 a2 a3) 0 len e → post (sr_el e len i) (nI c, f1, nI len, r, a1, a2, a3, a4, d, b)) :
    wpX_least post (nI c, f1, f2, f3, a1, a2, a3, a4, a5, a6) (nI i) := by
  unfold wpX_least
  dsimp only
  refine sr_find (n := 0) hV hP (by decide) (fun z => absurd z (by omega)) ?_
  intro _ r b len e d hT hF hd
  refine br_f (by decide) (br_f (nI_pos (by omega)) ?_)
  have hl := hF.1
  have t := H r b len e d hT hF
  unfold sr_el at t
  refine pk_lt i len (fun z => ⟨vp_in_nI hi (by decide), ?_⟩) (fun z => ?_)
  · rw [if_pos z] at t
    dsimp only
    rw [nI_clamp (by omega), hd i z]
    exact t
  · rw [if_neg (by omega)] at t
    exact t
theorem sr_element {post : Int32 → Prop} {f0 f2 f3 : Int32} {a1 a2 a3 a4 a5 a6 : Nat → Int32} {i len : Nat} {e : Nat → Nat} (hi : i < 6) (hl : len ≤ 6) (he : ∀ j, j < len → a4 j = nI (e j)) (H : post (sr_el e len i)) :
    wpX_element post (f0, nI len, f2, f3, a1, a2, a3, a4, a5, a6) (nI i) := by
  unfold sr_el at H
  refine br_f (nI_pos (by omega)) (pk_lt i len (fun z => ⟨vp_in_nI hi (by decide), ?_⟩) (fun z => ?_))
  · rw [if_pos z] at H
    rw [nI_clamp (by omega), he i z]
    exact H
  · rw [if_neg (by omega)] at H
    exact H
end
section
/-! a condition is let in, or not -/
theorem sr_in {post : Int32 → Prop} {x l h : Int32} (h0 : post 0) (h1 : post 1) : wpX_in post () x l h :=
  br_c (fun _ => h0) (fun _ => br_c (fun _ => h0) (fun _ => h1))
theorem sr_in2 {post : Int32 → Prop} {x l h x' l' h' : Int32} (h0 : post 0) (h1 : post 1) :
    wpX_in (fun r => ((r = 0 → (post 0)) ∧ (¬ r = 0 → (wpX_in (fun r' => ((r' = 0 → (post 0)) ∧ (¬ r' = 0 → (post 1)))) () x' l' h')))) () x l h :=
  sr_in (br_t rfl h0) (br_f (by decide) (sr_in (br_t rfl h0) (br_f (by decide) h1)))
theorem sr_in1 {post : Int32 → Prop} {x : Int32} (h0 : post 0) (h1 : post 1) : wX_goodNumbers_150 post x :=
  sr_in ⟨rfl, h0⟩ ⟨rfl, h1⟩
theorem sr_good {post : Int32 → Prop} {k a b : Int32} (h0 : post 0) (h1 : post 1) : wpX_goodNumbers post () k a b :=
  br_c (fun _ => sr_in2 h0 h1) (fun _ => br_c (fun _ => sr_in2 h0 h1) (fun _ => br_c (fun _ => sr_in2 h0 h1) (fun _ => br_c (fun _ => sr_in2 h0 h1) (fun _ => br_c (fun _ => sr_in2 h0 h1)
    (fun _ => br_c (fun _ => sr_in2 h0 h1) (fun _ => br_c (fun _ => sr_in2 h0 h1) (fun _ => br_c (fun _ => sr_in1 h0 h1) (fun _ => br_c (fun _ => sr_in1 h0 h1) (fun _ => br_c (fun _ => sr_in1 h0 h1)
    (fun _ => br_c (fun _ => h1) (fun _ => trivial)))))))))))
theorem sr_condX {post : Int32 → St1 → Prop} {c : Nat} {f1 f2 f3 : Int32} {a1 a2 a3 a4 a5 a6 : Nat → Int32} {k a b : Int32} (hc : c ≤ 3)
    (H0 : ∀ r, post r (nI c, f1, f2, f3, a1, a2, a3, a4, a5, a6)) (H1 : c < 3 → ∀ r, post r (nI (c + 1), f1, f2, 0, upd a1 c k, upd a2 c a, upd a3 c b, a4, a5, a6)) :
    wpX_condition post (nI c, f1, f2, f3, a1, a2, a3, a4, a5, a6) k a b := by
  refine br_c (fun _ => H0 _) (fun _ => br_c (fun _ => ?_) (fun _ => H0 _))
  refine sr_good (br_t rfl (H0 _)) (br_f (by decide) ?_)
  refine pk_lt c 3 (fun z => ?_) (fun _ => H0 _)
  have hin : vp_in (nI c) 3 := vp_in_nI z (by decide)
  rw [nI_clamp (show c < 2 ^ 31 by omega)]
  exact ⟨hin, nm_e ⟨hin, nm_e ⟨hin, nm_e (nm_r (nI_1 c) (H1 z _))⟩⟩⟩
theorem sr_okI {k a b : Nat} (h1 : k < 10) (h2 : a < 5) (h3 : b < 4) (h4 : k = 2 → b < 3) (h5 : k = 7 → a < 4) : sr_ok (nI k) (nI a) (nI b) := ⟨k, a, b, rfl, rfl, rfl, h1, h2, h3, h4, h5⟩
theorem sr_c97 {post : Int32 → St1 → Prop} {c : Nat} {f1 f2 f3 : Int32} {a1 a2 a3 a4 a5 a6 : Nat → Int32} {k a b : Int32} (hc : c ≤ 3) (hk : sr_ok k a b)
    (H0 : ∀ r, post r (nI c, f1, f2, f3, a1, a2, a3, a4, a5, a6)) (H1 : c < 3 → ∀ r k a b, sr_ok k a b → post r (nI (c + 1), f1, f2, 0, upd a1 c k, upd a2 c a, upd a3 c b, a4, a5, a6)) :
    wL_condition_97 post k a b (nI c) f1 f2 f3 a1 a2 a3 a4 a5 a6 :=
  sr_condX hc H0 (fun z r => H1 z r k a b hk)
theorem sr_c40 {post : Int32 → St1 → Prop} {c : Nat} {f1 f2 f3 : Int32} {a1 a2 a3 a4 a5 a6 : Nat → Int32} {a b : Nat} (hc : c ≤ 3) (ha : a < 4) (ha0 : 0 < a) (hb : b < 4)
    (H0 : ∀ r, post r (nI c, f1, f2, f3, a1, a2, a3, a4, a5, a6)) (H1 : c < 3 → ∀ r k a b, sr_ok k a b → post r (nI (c + 1), f1, f2, 0, upd a1 c k, upd a2 c a, upd a3 c b, a4, a5, a6)) :
    wL_condition_40 post (nI 0) (nI b) (nI a) (nI c) f1 f2 f3 a1 a2 a3 a4 a5 a6 := by
  refine ⟨nI_ne0 ha0 (by omega), nm_r (pk_rem (by omega) ha0 (by omega)) (sr_c97 hc (sr_okI (by omega) (by omega) ?_ (fun z => absurd z (by omega)) (fun z => absurd z (by omega))) H0 H1)⟩
  have t := Nat.mod_lt b ha0
  omega
theorem sr_condL {post : Int32 → St1 → Prop} {c : Nat} {f1 f2 f3 : Int32} {a1 a2 a3 a4 a5 a6 : Nat → Int32} {x : Int32} (hc : c ≤ 3)
    (H0 : ∀ r, post r (nI c, f1, f2, f3, a1, a2, a3, a4, a5, a6)) (H1 : c < 3 → ∀ r k a b, sr_ok k a b → post r (nI (c + 1), f1, f2, 0, upd a1 c k, upd a2 c a, upd a3 c b, a4, a5, a6)) :
    wpL_condition post (nI c, f1, f2, f3, a1, a2, a3, a4, a5, a6) x := by
  obtain ⟨j, hj, ej⟩ := pk_andE x (m := 255) 8 (by decide)
  obtain ⟨a, ha, ea⟩ := pk_andE (x >>> ((8 : Int32) &&& 31)) (m := 3) 2 (by decide)
  obtain ⟨b, hb, eb⟩ := pk_andE (x >>> ((10 : Int32) &&& 31)) (m := 3) 2 (by decide)
  have ha4 : a < 4 := ha
  have hb4 : b < 4 := hb
  have hj8 : j < 256 := hj
  have ek : (x &&& 255) - (x &&& 255) / 10 * 10 = nI (j % 10) := by
    rw [ej]
    exact pk_rem (d := 10) (by omega) (by omega) (by omega)
  have hk : j % 10 < 10 := Nat.mod_lt _ (by omega)
  refine ⟨by decide, nm_r ek (nm_r ea (nm_r eb ?_))⟩
  refine pk_eq (j % 10) 0 (fun z => ?_) (fun z0 => pk_eq (j % 10) 1 (fun z => ?_) (fun z1 => pk_eq (j % 10) 2 (fun z => ?_) (fun z2 => pk_eq (j % 10) 9 (fun z => ?_) (fun z9 => ?_))))
  · rw [z]
    refine pk_le 2 a (fun y => sr_c40 hc ha4 (by omega) hb4 H0 H1) (fun y => ?_)
    rw [show (2 : Int32) = nI 2 from rfl, nI_add]
    exact sr_c40 hc (by omega) (by omega) hb4 H0 H1
  · rw [z]
    exact pk_eq b 0 (fun _ => sr_c97 (b := nI 1) hc (sr_okI (by omega) (by omega) (by omega) (fun z => absurd z (by omega)) (fun z => absurd z (by omega))) H0 H1) (fun _ => sr_c97 hc (sr_okI (by omega) (by omega) hb4 (fun z => absurd z (by omega)) (fun z => absurd z (by omega))) H0 H1)
  · rw [z]
    refine ⟨by decide, nm_r (pk_rem (d := 3) (by omega) (by omega) (by omega)) (sr_c97 hc (sr_okI (by omega) (by omega) ?_ (fun _ => Nat.mod_lt _ (by omega)) (fun z => absurd z (by omega))) H0 H1)⟩
    have t := Nat.mod_lt b (show 0 < 3 by omega)
    omega
  · rw [z]
    refine nm_r (pk_andN (by omega) 1 (by decide)) (sr_c97 hc (sr_okI (by omega) (by omega) ?_ (fun z => absurd z (by omega)) (fun z => absurd z (by omega))) H0 H1)
    have t := Nat.mod_lt b (show 0 < 2 ^ 1 by omega)
    omega
  · exact sr_c97 hc (sr_okI hk (by omega) hb4 (fun z => absurd z z2) (fun _ => ha4)) H0 H1
theorem sr_cell {post : Int32 → Prop} {L : Nat} {xs : Nat → Int32} {i : Nat} (hL : L ≤ 260) (hi : i < 10) (H : ∀ r, post r) : wpL_cell post L xs () (nI i) :=
  pk_le L i (fun _ => H 0) (fun z => ⟨vp_in_nI z (by omega), H _⟩)
/-- what a new condition does to the picture -/
theorem sr_V_add {c : Nat} {a1 a2 a3 : Nat → Int32} {k a b : Int32} (hV : sr_V c a1 a2 a3) (hc : c < 3) (h : sr_ok k a b) : sr_V (c + 1) (upd a1 c k) (upd a2 c a) (upd a3 c b) := by
  refine ⟨by omega, fun i hi => ?_⟩
  by_cases q : i = c
  · rw [q, pk_us, pk_us, pk_us]
    exact h
  · rw [pk_un q, pk_un q, pk_un q]
    exact hV.2 i (by omega)
theorem sr_all_add {c : Nat} {a1 a2 a3 : Nat → Int32} {k a b : Int32} (hc : c < 3) : sr_all (c + 1) (upd a1 c k) (upd a2 c a) (upd a3 c b) ≤ sr_all c a1 a2 a3 :=
  sr_less (by omega) (fun i hi => ⟨pk_un (by omega), pk_un (by omega), pk_un (by omega)⟩) 7
end
section
/-! the law -/
theorem sr_266 {L : Nat} {xs : Nat → Int32} {kc ks c : Nat} {f1 f2 f3 : Int32} {a1 a2 a3 a4 a5 a6 : Nat → Int32} (hV : sr_V c a1 a2 a3) (hP : ¬ f3 = 0 → sr_T c a1 a2 a3 a6) :
    wL_law_266 (fun r => r = 1) L xs (nI (sr_all c a1 a2 a3)) kc ks (nI c) f1 f2 f3 a1 a2 a3 a4 a5 a6 := by
  have hab := sr_all_b c a1 a2 a3
  exact sr_load hV hP (by omega) (fun _ r b hT => br_t rfl rfl) (fun z => absurd z (by omega))
theorem sr_208 {L : Nat} {xs : Nat → Int32} {kc ks c : Nat} {f1 f2 f3 : Int32} {a1 a2 a3 a4 a5 a6 : Nat → Int32} (hL : L ≤ 260) (hV : sr_V c a1 a2 a3) (ha : 0 < sr_all c a1 a2 a3) (hP : ¬ f3 = 0 → sr_T c a1 a2 a3 a6) :
    ∃ n, wL_law_208 (fun r => r = 1) L xs (nI (sr_all c a1 a2 a3)) kc ks n 4 (nI c) f1 f2 f3 a1 a2 a3 a4 a5 a6 := by
  have hab := sr_all_b c a1 a2 a3
  refine pk_loop (σ := Int32 × Int32 × Int32 × (Nat → Int32) × (Nat → Int32) × (Nat → Int32)) (fun n i s => wL_law_208 (fun r => r = 1) L xs (nI (sr_all c a1 a2 a3)) kc ks n (nI i) (nI c) s.1 s.2.1 s.2.2.1 a1 a2 a3 s.2.2.2.1 s.2.2.2.2.1 s.2.2.2.2.2)
    (fun i s => 4 ≤ i ∧ (¬ s.2.2.1 = 0 → sr_T c a1 a2 a3 s.2.2.2.2.2)) (max 4 (min L 44)) 4 (f1, f2, f3, a4, a5, a6) (by omega) ⟨Nat.le_refl 4, hP⟩ ?_ ?_
  · intro n s h
    replace h := h.2
    exact pk_le L (max 4 (min L 44)) (fun _ => sr_266 hV h) (fun z => pk_le 44 (max 4 (min L 44)) (fun _ => sr_266 hV h) (fun z' => absurd z' (by omega)))
  · intro n i s hi h hw
    have h40 := h.1
    replace h := h.2
    refine pk_le L i (fun z => absurd z (by omega)) (fun z => pk_le 44 i (fun z' => absurd z' (by omega)) (fun z' => ⟨vp_in_nI z (by omega), nI_ne0 ha (by omega), ?_⟩))
    obtain ⟨j, hj, ej⟩ := pk_andE (xs (nI i).toNatClampNeg) (m := 2147483647) 31 (by decide)
    have hm := Nat.mod_lt j ha
    refine nm_r (e' := nI (j % sr_all c a1 a2 a3)) (by rw [ej]; exact pk_rem hj ha (by omega)) ?_
    refine sr_load hV h (by omega) (fun q => absurd q (by omega)) (fun _ r b len e d g hT hF hg => ?_)
    have hl := hF.1
    have hend := sr_FD_end hF
    have h4 : ∀ t, t < len → e t < 4 := by
      obtain ⟨_, v, _, hf⟩ := hF
      exact hf.1
    refine br_f (nI_pos (by omega)) (sr_fails hV hl h4 hg (br_f ?_ ?_))
    · have hW : sr_W c a1 a2 a3 0 (sr_run (sr_N c a1 a2 a3) e len) = 1 := if_pos hend.1
      rw [hW]
      decide
    · refine sr_rank hV (fun _ => hT) hl h4 hg (fun r' b' hT' => br_t ?_ (nm_r (nI_1 i) (hw (nI len, nI len, r', g, d, b') ⟨by omega, fun _ => hT'⟩)))
      rw [hend.2]
theorem sr_175 {L : Nat} {xs : Nat → Int32} {kc ks c len : Nat} {f2 f3 : Int32} {a1 a2 a3 a4 a5 a6 : Nat → Int32} {e : Nat → Nat} (hL : L ≤ 260) (hV : sr_V c a1 a2 a3) (ha : 0 < sr_all c a1 a2 a3) (hP : ¬ f3 = 0 → sr_T c a1 a2 a3 a6)
    (hF : sr_FD (sr_N c a1 a2 a3) (sr_A c a1 a2 a3) 0 len e) (he : ∀ j, j < len → a4 j = nI (e j)) :
    ∃ n, wL_law_175 (fun r => r = 1) L xs (nI (sr_all c a1 a2 a3)) kc ks n 0 (nI c) (nI len) f2 f3 a1 a2 a3 a4 a5 a6 := by
  refine pk_loop (σ := Int32 × Int32 × (Nat → Int32) × (Nat → Int32)) (fun n i s => wL_law_175 (fun r => r = 1) L xs (nI (sr_all c a1 a2 a3)) kc ks n (nI i) (nI c) (nI len) s.1 s.2.1 a1 a2 a3 a4 s.2.2.1 s.2.2.2)
    (fun _ s => ¬ s.2.1 = 0 → sr_T c a1 a2 a3 s.2.2.2) 6 0 (f2, f3, a5, a6) (by omega) hP ?_ ?_
  · exact fun n s h => pk_le 6 6 (fun _ => sr_208 hL hV ha h) (fun z => absurd z (by omega))
  · intro n i s hi h hw
    refine pk_le 6 i (fun z => absurd z (by omega)) (fun _ => ?_)
    refine sr_least hV h hi ha (fun r b len' e' d hT hF' => ?_)
    have hl := hF.1
    refine sr_element hi hl he (br_t ?_ (nm_r (nI_1 i) (hw (nI len', r, d, b) (fun _ => hT))))
    obtain ⟨el, ee⟩ := sr_FD_one hF' hF
    subst el
    unfold sr_el
    by_cases q : i < len'
    · rw [if_pos q, if_pos q, ee i q]
    · rw [if_neg q, if_neg q]
theorem sr_78 {L : Nat} {xs : Nat → Int32} {kc ks c : Nat} {f1 f2 f3 : Int32} {a1 a2 a3 a4 a5 a6 : Nat → Int32} (hL : L ≤ 260) (hV : sr_V c a1 a2 a3) (hP : ¬ f3 = 0 → sr_T c a1 a2 a3 a6) :
    ∃ n, wL_law_78 (fun r => r = 1) L xs (nI (sr_all c a1 a2 a3)) kc ks n 0 0 (nI c) f1 f2 f3 a1 a2 a3 a4 a5 a6 := by
  have hab := sr_all_b c a1 a2 a3
  refine pk_loop (σ := Int32 × (Nat → Int32)) (fun n i s => wL_law_78 (fun r => r = 1) L xs (nI (sr_all c a1 a2 a3)) kc ks n (nI (sr_S (sr_N c a1 a2 a3) (sr_A c a1 a2 a3) i)) (nI i) (nI c) f1 f2 s.1 a1 a2 a3 a4 a5 s.2)
    (fun _ s => ¬ s.1 = 0 → sr_T c a1 a2 a3 s.2) 7 0 (f3, a6) (by omega) hP ?_ ?_
  · intro n s h
    refine pk_le 7 7 (fun _ => ?_) (fun z => absurd z (by omega))
    refine br_t rfl ?_
    refine sr_extending hV h (fun r b hT => br_t rfl ?_)
    refine pk_eq (sr_all c a1 a2 a3) 0 (fun z => ?_) (fun z => ?_)
    · refine sr_load (n := 0) hV (fun _ => hT) (by decide) (fun _ r b hT => br_t rfl ?_) (fun z' => absurd z' (by omega))
      exact sr_leastLength hV (fun _ => hT) (fun _ r b hT => br_t rfl rfl) (fun z' => absurd z' (by omega))
    · refine sr_load (n := 0) hV (fun _ => hT) (by decide) (fun z' => absurd z' (by omega)) (fun _ r b len e d g hT hF hg => ?_)
      refine sr_leastLength hV (fun _ => hT) (fun z' => absurd z' (by omega)) (fun _ r' b' len' e' d' hT' hF' => br_t ?_ ?_)
      · rw [(sr_FD_one hF hF').1]
      · have hl := hF.1
        have h4 : ∀ t, t < len → e t < 4 := by
          obtain ⟨_, v, _, hf⟩ := hF
          exact hf.1
        refine sr_rank hV (fun _ => hT') hl h4 hg (fun r2 b2 hT2 => br_t ?_ (sr_175 hL hV (by omega) (fun _ => hT2) hF hg))
        rw [(sr_FD_end hF).2]
        rfl
  · intro n i s hi h hw
    refine pk_le 7 i (fun z => absurd z (by omega)) (fun _ => ?_)
    exact sr_failingOf hV h hi (fun r b hT => nm_r (nI_add _ _) (nm_r (nI_1 i) (hw (r, b) (fun _ => hT))))
/-- what holds ahead of each condition -/
def sr_I (s : St1) : Prop := ∃ c, s.1 = nI c ∧ sr_V c s.2.2.2.2.1 s.2.2.2.2.2.1 s.2.2.2.2.2.2.1 ∧ (¬ s.2.2.2.1 = 0 → sr_T c s.2.2.2.2.1 s.2.2.2.2.2.1 s.2.2.2.2.2.2.1 s.2.2.2.2.2.2.2.2.2)
theorem sr_18 {L : Nat} {xs : Nat → Int32} {x2 : Int32} {kc ks : Nat} {f0 f1 f2 f3 : Int32} {a1 a2 a3 a4 a5 a6 : Nat → Int32} (hL : L ≤ 260) (hI : sr_I (f0, f1, f2, f3, a1, a2, a3, a4, a5, a6)) :
    ∃ n, wL_law_18 (fun r => r = 1) L xs x2 kc ks n 0 f0 f1 f2 f3 a1 a2 a3 a4 a5 a6 := by
  refine pk_loop (σ := St1) (fun n i s => wL_law_18 (fun r => r = 1) L xs x2 kc ks n (nI i) s.1 s.2.1 s.2.2.1 s.2.2.2.1 s.2.2.2.2.1 s.2.2.2.2.2.1 s.2.2.2.2.2.2.1 s.2.2.2.2.2.2.2.1 s.2.2.2.2.2.2.2.2.1 s.2.2.2.2.2.2.2.2.2)
    (fun _ s => sr_I s) 3 0 (f0, f1, f2, f3, a1, a2, a3, a4, a5, a6) (by omega) hI ?_ ?_
  · intro n s h
    obtain ⟨g0, g1, g2, g3, b1, b2, b3, b4, b5, b6⟩ := s
    obtain ⟨c, e0, hV, hP⟩ := h
    dsimp only at e0 hV hP
    subst e0
    exact pk_le 3 3 (fun _ => sr_failing hV hP (fun r b hT => sr_78 hL hV (fun _ => hT))) (fun z => absurd z (by omega))
  · intro n i s hi h hw
    obtain ⟨g0, g1, g2, g3, b1, b2, b3, b4, b5, b6⟩ := s
    obtain ⟨c, e0, hV, hP⟩ := id h
    dsimp only at e0 hV hP
    subst e0
    refine pk_le 3 i (fun z => absurd z (by omega)) (fun _ => br_c (fun _ => nm_r (nI_1 i) (hw _ h)) (fun _ => ?_))
    refine sr_failing hV hP (fun r b hT => ?_)
    have hab := sr_all_b c b1 b2 b3
    have e1 : (1 : Int32) + nI i = nI (1 + i) := nI_add 1 i
    rw [e1]
    refine sr_cell hL (by omega) (fun x => ?_)
    refine sr_condL hV.1 (fun q => ?_) (fun hc q k a d hk => ?_)
    · refine sr_failing hV (fun _ => hT) (fun r' b' hT' => pk_le (sr_all c b1 b2 b3) (sr_all c b1 b2 b3) (fun _ => ?_) (fun z => absurd z (by omega)))
      exact nm_r (nI_1 i) (hw (nI c, g1, g2, r', b1, b2, b3, b4, b5, b') ⟨c, rfl, hV, fun _ => hT'⟩)
    · have hV' := sr_V_add hV hc hk
      have hle := sr_all_add (a1 := b1) (a2 := b2) (a3 := b3) (k := k) (a := a) (b := d) hc
      refine sr_failing hV' (fun z => absurd rfl z) (fun r' b' hT' => pk_le (sr_all (c + 1) (upd b1 c k) (upd b2 c a) (upd b3 c d)) (sr_all c b1 b2 b3) (fun _ => ?_) (fun z => absurd z (by omega)))
      exact nm_r (nI_1 i) (hw (nI (c + 1), g1, g2, r', upd b1 c k, upd b2 c a, upd b3 c d, b4, b5, b') ⟨c + 1, rfl, hV', fun _ => hT'⟩)
theorem i_vc (xs : Nat → Int32) (L : Nat) (hL : L ≤ 260) : wpL_law (fun r => r = 1) L xs := by
  refine ⟨6, 2261, by omega, by omega, ?_⟩
  refine ⟨by omega, by omega, by omega, by omega, by omega, by omega, by omega, by omega, by omega, by omega, by omega, by omega, ?_⟩
  refine sr_cell (i := 0) hL (by omega) (fun r => nm_e ?_)
  exact sr_18 hL ⟨0, rfl, ⟨by omega, fun i hi => absurd hi (by omega)⟩, fun z => absurd rfl z⟩
end
