section
/-! the pure picture: c conditions (0: none, 1: the pair a b, 2: the pair a b and three times a); a state is 64 * last + 4 * p1 + p0 -/
def ra_g0 (c a b s x : Nat) : Nat := if c = 0 then 0 else if s / 64 = a ∧ x = b then 1 else s % 4
def ra_g1 (c a s x : Nat) : Nat := if c ≤ 1 then 0 else if x = a ∧ s / 4 % 4 < 3 then s / 4 % 4 + 1 else s / 4 % 4
/-- the next state -/
def ra_nx (c a b s x : Nat) : Nat := 64 * x + ra_g0 c a b s x + 4 * ra_g1 c a s x
/-- does the state accept: 1 or 0 -/
def ra_ac (c s : Nat) : Nat := if c = 0 then 1 else if s % 4 = 1 then (if c = 1 then 1 else if s / 4 % 4 = 3 then 1 else 0) else 0
/-- in how many ways s leads to a failing list by k more elements -/
def ra_wy (c a b : Nat) : Nat → Nat → Nat
  | 0 => fun s => ra_ac c s
  | k + 1 => fun s => 0 + ra_wy c a b k (ra_nx c a b s 0) + ra_wy c a b k (ra_nx c a b s 1) + ra_wy c a b k (ra_nx c a b s 2) + ra_wy c a b k (ra_nx c a b s 3)
/-- the sum over the elements below t -/
def ra_so (c a b k s : Nat) : Nat → Nat
  | 0 => 0
  | t + 1 => ra_so c a b k s t + ra_wy c a b k (ra_nx c a b s t)
/-- the failing lists of fewer than i elements -/
def ra_ts (c a b : Nat) : Nat → Nat
  | 0 => 0
  | i + 1 => ra_ts c a b i + ra_wy c a b i 256
/-- find: the length; what is left over, and the length -/
def ra_fl (c a b : Nat) : Nat → Nat → Nat → Nat × Nat
  | 0 => fun left len => (left, len)
  | j + 1 => fun left len => if left < ra_wy c a b len 256 then (left, len) else ra_fl c a b j (left - ra_wy c a b len 256) (len + 1)
/-- find: one element -/
def ra_fx (c a b m left st : Nat) : Nat → Nat → Nat
  | 0 => fun x => x
  | j + 1 => fun x => if left < ra_so c a b m st (x + 1) then x else ra_fx c a b m left st j (x + 1)
/-- find: the elements -/
def ra_fe (c a b : Nat) : Nat → Nat → Nat → List Nat
  | 0 => fun _ _ => []
  | m + 1 => fun left st => ra_fx c a b m left st 3 0 :: ra_fe c a b m (left - ra_so c a b m st (ra_fx c a b m left st 3 0)) (ra_nx c a b st (ra_fx c a b m left st 3 0))
/-- failing list number n -/
def ra_fd (c a b n : Nat) : List Nat := ra_fe c a b (ra_fl c a b 6 n 0).2 (ra_fl c a b 6 n 0).1 256
/-- rank, behind the shorter lists -/
def ra_rk (c a b : Nat) : List Nat → Nat → Nat
  | [] => fun _ => 0
  | x :: l => fun st => ra_so c a b l.length st x + ra_rk c a b l (ra_nx c a b st x)
/-- the state behind a list -/
def ra_st (c a b : Nat) : List Nat → Nat → Nat
  | [] => fun st => st
  | x :: l => fun st => ra_st c a b l (ra_nx c a b st x)
/-- element i of the stage -/
def ra_el (l : List Nat) (i : Nat) : Int32 := if i < l.length then nI (l.getD i 0) else -4

theorem ra_g0_lt (c a b s x : Nat) : ra_g0 c a b s x < 4 := by
  unfold ra_g0
  split
  · omega
  · split <;> omega
theorem ra_g1_lt (c a s x : Nat) : ra_g1 c a s x < 4 := by
  unfold ra_g1
  split
  · omega
  · split <;> omega
theorem ra_nx_lt {c a b s x : Nat} (hx : x < 4) : ra_nx c a b s x < 256 := by
  have h0 := ra_g0_lt c a b s x
  have h1 := ra_g1_lt c a s x
  unfold ra_nx
  omega
theorem ra_ac_le (c s : Nat) : ra_ac c s ≤ 1 := by
  unfold ra_ac
  split
  · omega
  · split
    · split
      · omega
      · split <;> omega
    · omega
theorem ra_wy_s (c a b k s : Nat) : ra_wy c a b (k + 1) s = ra_so c a b k s 4 := rfl
theorem ra_wy_le (c a b : Nat) : ∀ k s, ra_wy c a b k s ≤ 4 ^ k := by
  intro k
  induction k with
  | zero => exact fun s => ra_ac_le c s
  | succ k ih =>
    intro s
    have h0 := ih (ra_nx c a b s 0)
    have h1 := ih (ra_nx c a b s 1)
    have h2 := ih (ra_nx c a b s 2)
    have h3 := ih (ra_nx c a b s 3)
    show 0 + ra_wy c a b k (ra_nx c a b s 0) + ra_wy c a b k (ra_nx c a b s 1) + ra_wy c a b k (ra_nx c a b s 2) + ra_wy c a b k (ra_nx c a b s 3) ≤ 4 ^ (k + 1)
    rw [Nat.pow_succ]
    omega
theorem ra_p4 {k n : Nat} (h : k ≤ n) : 4 ^ k ≤ 4 ^ n := Nat.pow_le_pow_right (by decide) h
theorem ra_wy_lt (c a b : Nat) {k : Nat} (hk : k ≤ 6) (s : Nat) : ra_wy c a b k s ≤ 4096 := Nat.le_trans (ra_wy_le c a b k s) (ra_p4 (n := 6) hk)
theorem ra_so_le (c a b s : Nat) {k : Nat} (hk : k ≤ 6) : ∀ t, ra_so c a b k s t ≤ t * 4096 := by
  intro t
  induction t with
  | zero => exact Nat.le_refl 0
  | succ t ih =>
    have h := ra_wy_lt c a b hk (ra_nx c a b s t)
    show ra_so c a b k s t + ra_wy c a b k (ra_nx c a b s t) ≤ (t + 1) * 4096
    omega
theorem ra_ts_le (c a b : Nat) : ∀ i, i ≤ 7 → ra_ts c a b i ≤ i * 4096 := by
  intro i
  induction i with
  | zero => exact fun _ => Nat.le_refl 0
  | succ i ih =>
    intro hi
    have h := ra_wy_lt c a b (k := i) (by omega) 256
    have h2 := ih (by omega)
    show ra_ts c a b i + ra_wy c a b i 256 ≤ (i + 1) * 4096
    omega
theorem ra_ts_7 (c a b : Nat) : ra_ts c a b 7 = 0 + ra_wy c a b 0 256 + ra_wy c a b 1 256 + ra_wy c a b 2 256 + ra_wy c a b 3 256 + ra_wy c a b 4 256 + ra_wy c a b 5 256 + ra_wy c a b 6 256 := rfl
theorem ra_fx_le (c a b m left st : Nat) : ∀ j x, ra_fx c a b m left st j x ≤ x + j := by
  intro j
  induction j with
  | zero => exact fun x => Nat.le_refl x
  | succ j ih =>
    intro x
    have h := ih (x + 1)
    show (if left < ra_so c a b m st (x + 1) then x else ra_fx c a b m left st j (x + 1)) ≤ x + (j + 1)
    split <;> omega
theorem ra_fx_so (c a b m left st : Nat) : ∀ j x, ra_so c a b m st x ≤ left → ra_so c a b m st (ra_fx c a b m left st j x) ≤ left := by
  intro j
  induction j with
  | zero => exact fun x h => h
  | succ j ih =>
    intro x h
    show ra_so c a b m st (if left < ra_so c a b m st (x + 1) then x else ra_fx c a b m left st j (x + 1)) ≤ left
    split
    · exact h
    · exact ih (x + 1) (by omega)
theorem ra_fl_1 (c a b : Nat) : ∀ j left len, (ra_fl c a b j left len).1 ≤ left := by
  intro j
  induction j with
  | zero => exact fun left len => Nat.le_refl left
  | succ j ih =>
    intro left len
    have h := ih (left - ra_wy c a b len 256) (len + 1)
    show (if left < ra_wy c a b len 256 then (left, len) else ra_fl c a b j (left - ra_wy c a b len 256) (len + 1)).1 ≤ left
    split
    · exact Nat.le_refl left
    · omega
theorem ra_fl_2 (c a b : Nat) : ∀ j left len, (ra_fl c a b j left len).2 ≤ len + j := by
  intro j
  induction j with
  | zero => exact fun left len => Nat.le_refl len
  | succ j ih =>
    intro left len
    have h := ih (left - ra_wy c a b len 256) (len + 1)
    show (if left < ra_wy c a b len 256 then (left, len) else ra_fl c a b j (left - ra_wy c a b len 256) (len + 1)).2 ≤ len + (j + 1)
    split
    · show len ≤ len + (j + 1)
      omega
    · omega
theorem ra_fe_len (c a b : Nat) : ∀ m left st, (ra_fe c a b m left st).length = m := by
  intro m
  induction m with
  | zero => exact fun _ _ => rfl
  | succ m ih => exact fun left st => congrArg (· + 1) (ih _ _)
theorem ra_fe_lt (c a b : Nat) : ∀ m left st x, x ∈ ra_fe c a b m left st → x < 4 := by
  intro m
  induction m with
  | zero => exact fun _ _ x h => absurd h List.not_mem_nil
  | succ m ih =>
    intro left st x h
    rcases List.mem_cons.mp h with e | e
    · have := ra_fx_le c a b m left st 3 0
      omega
    · exact ih _ _ x e
theorem ra_fd_len (c a b n : Nat) : (ra_fd c a b n).length = (ra_fl c a b 6 n 0).2 := ra_fe_len c a b _ _ _
theorem ra_fd_le (c a b n : Nat) : (ra_fd c a b n).length ≤ 6 := by
  rw [ra_fd_len]
  have := ra_fl_2 c a b 6 n 0
  omega
theorem ra_fd_lt (c a b n x : Nat) (h : x ∈ ra_fd c a b n) : x < 4 := ra_fe_lt c a b _ _ _ x h
theorem ra_wy0 (a b : Nat) : ∀ k s, ra_wy 0 a b k s = 4 ^ k := by
  intro k
  induction k with
  | zero => exact fun s => rfl
  | succ k ih =>
    intro s
    show 0 + ra_wy 0 a b k (ra_nx 0 a b s 0) + ra_wy 0 a b k (ra_nx 0 a b s 1) + ra_wy 0 a b k (ra_nx 0 a b s 2) + ra_wy 0 a b k (ra_nx 0 a b s 3) = 4 ^ (k + 1)
    rw [ih, ih, ih, ih, Nat.pow_succ]
    omega
/-! what the law asks of the picture, by computing -/
theorem ra_ts0 (a b : Nat) : ra_ts 0 a b 7 = 5461 := by
  rw [ra_ts_7, ra_wy0, ra_wy0, ra_wy0, ra_wy0, ra_wy0, ra_wy0, ra_wy0]
theorem ra_k1 : ∀ a, a < 4 → ∀ b, b < 4 → ra_wy 1 a b 0 256 = 0 ∧ ra_wy 1 a b 1 256 = 0 ∧ ra_wy 1 a b 2 256 = 1 ∧ ra_wy 1 a b 3 256 = (if a = b then 7 else 8) ∧ ra_fd 1 a b 0 = [a, b] := by decide +kernel
theorem ra_k2 : ∀ a, a < 4 → ra_wy 2 a a 2 256 = 0 ∧ ra_wy 2 a a 3 256 = 1 ∧ ra_fd 2 a a 0 = [a, a, a] := by decide +kernel
theorem ra_k3 : ∀ a, a < 4 → ∀ b, b < 4 → a ≠ b → ra_wy 2 a b 4 256 = 3 ∧ (ra_fd 2 a b 0).length = 4 ∧ (ra_fd 2 a b 0).getD 0 0 = a ∧ (ra_fd 2 a b 0).getD 1 0 = (if b ≤ a then b else a) := by decide +kernel
theorem ra_k4 : ∀ a, a < 4 → ∀ b, b < 4 → ∀ n, n < (if a = b then 8 else 9) → (ra_fd 1 a b n).length = (if n = 0 then 2 else 3) := by decide +kernel
theorem ra_k5 : ∀ a, a < 4 → ∀ b, b < 4 → ∀ n, n < (if a = b then 8 else 9) → ra_ts 1 a b (ra_fd 1 a b n).length + ra_rk 1 a b (ra_fd 1 a b n) 256 = n := by decide +kernel
theorem ra_k6 : ∀ a, a < 4 → ∀ b, b < 4 → ∀ n, n < (if a = b then 8 else 9) → ra_ac 1 (ra_st 1 a b (ra_fd 1 a b n) 256) = 1 := by decide +kernel
theorem ra_k7 : ∀ a, a < 4 → ∀ b, b < 4 → ∀ n, n < (if a = b then 8 else 9) →
    ((ra_el (ra_fd 1 a b n) 0 = nI a ∧ ra_el (ra_fd 1 a b n) 1 = nI b) ∨ (ra_el (ra_fd 1 a b n) 1 = nI a ∧ ra_el (ra_fd 1 a b n) 2 = nI b)) := by decide +kernel
/-! bits -/
theorem ra_b6 : ∀ s, s < 320 → nI s >>> ((6 : Int32) &&& 31) = nI (s / 64) := by decide +kernel
theorem ra_b0 : ∀ s, s < 320 → (nI s >>> ((2 * 0 : Int32) &&& 31)) &&& 3 = nI (s % 4) := by decide +kernel
theorem ra_b1 : ∀ s, s < 320 → (nI s >>> ((2 * 1 : Int32) &&& 31)) &&& 3 = nI (s / 4 % 4) := by decide +kernel
theorem ra_s6 : ∀ x, x < 4 → nI x <<< ((6 : Int32) &&& 31) = nI (64 * x) := by decide +kernel
theorem ra_o0 : ∀ x, x < 4 → ∀ p, p < 4 → nI (64 * x) ||| (nI p <<< ((2 * 0 : Int32) &&& 31)) = nI (64 * x + p) := by decide +kernel
theorem ra_o1 : ∀ x, x < 4 → ∀ p, p < 4 → ∀ q, q < 4 → nI (64 * x + p) ||| (nI q <<< ((2 * 1 : Int32) &&& 31)) = nI (64 * x + p + 4 * q) := by decide +kernel
end
section
/-- the conditions of a state: none, the pair, or the pair and three times a -/
def ra_cf (c a b : Nat) (fc : Int32) (a1 a2 a3 : Nat → Int32) : Prop := fc = nI c ∧ c ≤ 2 ∧ a < 4 ∧ b < 4 ∧ (1 ≤ c → a1 0 = nI 3 ∧ a2 0 = nI a ∧ a3 0 = nI b) ∧ (2 ≤ c → a1 1 = nI 1 ∧ a2 1 = nI a ∧ a3 1 = nI 3)
theorem ra_c0 : (0 : Int32).toNatClampNeg = 0 := by decide
theorem ra_c1 : (1 : Int32).toNatClampNeg = 1 := by decide
section
variable {fc fs fl fr : Int32} {a1 a2 a3 a4 a5 a6 : Nat → Int32} {c a b : Nat}
theorem ra_go0 {post : Int32 → Prop} {p1 p2 p3 : Int32} {p l x : Nat} (h1 : a1 0 = nI 3) (h2 : a2 0 = nI a) (h3 : a3 0 = nI b) (ha : a < 4) (hb : b < 4) (hp : p1 = nI p) (hl : p2 = nI l) (hx : p3 = nI x) (hl' : l < 8) (hx' : x < 4)
    (H : post (nI (if l = a ∧ x = b then 1 else p))) : wpX_goOn post (fc, fs, fl, fr, a1, a2, a3, a4, a5, a6) 0 p1 p2 p3 := by
  unfold wpX_goOn
  dsimp only
  rw [ra_c0, h1, h2, h3]
  refine ⟨pk_in 0 3 (by omega), nm_e ⟨pk_in 0 3 (by omega), nm_e ⟨pk_in 0 3 (by omega), nm_e ?_⟩⟩⟩
  refine br_f (by decide) (br_f (by decide) (br_f (by decide) (br_f (by decide) (br_f (by decide) (br_t (by decide) ?_)))))
  unfold wX_goOn_131
  subst hp
  refine pk_eq l a (fun e => pk_eq x b (fun e2 => ?_) (fun e2 => ?_) hx rfl) (fun e => ?_) hl rfl
  · rw [if_pos ⟨e, e2⟩] at H
    exact H
  · rw [if_neg (fun z => e2 z.2)] at H
    exact H
  · rw [if_neg (fun z => e z.1)] at H
    exact H
theorem ra_go1 {post : Int32 → Prop} {p1 p2 p3 : Int32} {p x : Nat} (h1 : a1 1 = nI 1) (h2 : a2 1 = nI a) (h3 : a3 1 = nI 3) (ha : a < 4) (hp : p1 = nI p) (hp' : p < 4) (hx : p3 = nI x) (hx' : x < 4)
    (H : post (nI (if x = a ∧ p < 3 then p + 1 else p))) : wpX_goOn post (fc, fs, fl, fr, a1, a2, a3, a4, a5, a6) 1 p1 p2 p3 := by
  unfold wpX_goOn
  dsimp only
  rw [ra_c1, h1, h2, h3]
  refine ⟨pk_in 1 3 (by omega), nm_e ⟨pk_in 1 3 (by omega), nm_e ⟨pk_in 1 3 (by omega), nm_e ?_⟩⟩⟩
  refine br_f (by decide) (br_f (by decide) (br_f (by decide) (br_t (by decide) ?_)))
  subst hp
  refine pk_eq x a (fun e => pk_le 3 p (fun e2 => ?_) (fun e2 => ?_)) (fun e => ?_) hx rfl
  · rw [if_neg (fun z => absurd z.2 (by omega))] at H
    exact H
  · rw [if_pos ⟨e, e2⟩] at H
    rw [nI_1]
    exact H
  · rw [if_neg (fun z => e z.1)] at H
    exact H
theorem ra_next {post : Int32 → Prop} {s x : Nat} (hc : ra_cf c a b fc a1 a2 a3) (hs : s < 320) (hx : x < 4) (H : post (nI (ra_nx c a b s x))) : wpX_next post (fc, fs, fl, fr, a1, a2, a3, a4, a5, a6) (nI s) (nI x) := by
  obtain ⟨e, hc2, ha, hb, k0, k1⟩ := hc
  unfold wpX_next
  dsimp only
  refine nm_r (ra_b6 s hs) (nm_r (ra_s6 x hx) ⟨3, ?_⟩)
  have hd : s / 64 < 8 := by omega
  rcases Nat.lt_or_ge c 1 with z | z
  · have h0 : ra_nx c a b s x = 64 * x := by
      unfold ra_nx ra_g0 ra_g1
      rw [if_pos (show c = 0 by omega), if_pos (show c ≤ 1 by omega)]
      omega
    rw [h0] at H
    exact pk_le c 0 (fun _ => H) (fun y => absurd y (by omega)) e rfl
  · obtain ⟨t1, t2, t3⟩ := k0 z
    refine pk_le c 0 (fun y => absurd y (by omega)) (fun _ => ?_) e rfl
    refine ra_go0 (p := s % 4) (l := s / 64) (x := x) t1 t2 t3 ha hb (ra_b0 s hs) rfl rfl hd hx ?_
    have g0 : ra_g0 c a b s x = (if s / 64 = a ∧ x = b then 1 else s % 4) := by
      unfold ra_g0
      rw [if_neg (show ¬ c = 0 by omega)]
    rw [← g0]
    refine nm_r (ra_o0 x hx _ (ra_g0_lt c a b s x)) (nm_r (show (0 : Int32) + 1 = nI 1 from rfl) ?_)
    rcases Nat.lt_or_ge c 2 with z2 | z2
    · have h0 : ra_nx c a b s x = 64 * x + ra_g0 c a b s x := by
        unfold ra_nx ra_g1
        rw [if_pos (show c ≤ 1 by omega)]
        omega
      rw [h0] at H
      exact pk_le c 1 (fun _ => H) (fun y => absurd y (by omega)) e rfl
    · obtain ⟨v1, v2, v3⟩ := k1 z2
      refine pk_le c 1 (fun y => absurd y (by omega)) (fun _ => ?_) e rfl
      refine ra_go1 (p := s / 4 % 4) (x := x) v1 v2 v3 ha (ra_b1 s hs) (by omega) rfl hx ?_
      have g1 : ra_g1 c a s x = (if x = a ∧ s / 4 % 4 < 3 then s / 4 % 4 + 1 else s / 4 % 4) := by
        unfold ra_g1
        rw [if_neg (show ¬ c ≤ 1 by omega)]
      rw [← g1]
      refine nm_r (ra_o1 x hx _ (ra_g0_lt c a b s x) _ (ra_g1_lt c a s x)) (nm_r (show nI 1 + 1 = nI 2 from rfl) ?_)
      exact pk_le c 2 (fun _ => H) (fun y => absurd y (by omega)) e rfl
theorem ra_as0 {post : Int32 → Prop} {p1 p2 : Int32} {p : Nat} (h1 : a1 0 = nI 3) (hp : p1 = nI p) (hp' : p < 4)
    (H : post (nI (if p = 1 then 1 else 0))) : wpX_accepts post (fc, fs, fl, fr, a1, a2, a3, a4, a5, a6) 0 p1 p2 := by
  unfold wpX_accepts
  dsimp only
  rw [ra_c0, h1]
  refine ⟨pk_in 0 3 (by omega), nm_e ⟨pk_in 0 3 (by omega), nm_e ⟨pk_in 0 3 (by omega), nm_e ?_⟩⟩⟩
  refine br_f (by decide) (br_f (by decide) (br_f (by decide) (br_f (by decide) (br_f (by decide) (br_t (by decide) ?_)))))
  refine pk_eq p 1 (fun e => ?_) (fun e => ?_) hp rfl
  · rw [if_pos e] at H
    exact H
  · rw [if_neg e] at H
    exact H
theorem ra_as1 {post : Int32 → Prop} {p1 p2 : Int32} {p : Nat} (h1 : a1 1 = nI 1) (h3 : a3 1 = nI 3) (hp : p1 = nI p) (hp' : p < 4)
    (H : post (nI (if p = 3 then 1 else 0))) : wpX_accepts post (fc, fs, fl, fr, a1, a2, a3, a4, a5, a6) 1 p1 p2 := by
  unfold wpX_accepts
  dsimp only
  rw [ra_c1, h1, h3]
  refine ⟨pk_in 1 3 (by omega), nm_e ⟨pk_in 1 3 (by omega), nm_e ⟨pk_in 1 3 (by omega), nm_e ?_⟩⟩⟩
  refine br_f (by decide) (br_f (by decide) (br_f (by decide) (br_t (by decide) ?_)))
  refine pk_eq p 3 (fun e => ?_) (fun e => ?_) hp rfl
  · rw [if_pos e] at H
    exact H
  · rw [if_neg e] at H
    exact H
theorem ra_acc {post : Int32 → Prop} {s : Nat} (hc : ra_cf c a b fc a1 a2 a3) (hs : s < 320) (H : post (nI (ra_ac c s))) : wpX_accepting post (fc, fs, fl, fr, a1, a2, a3, a4, a5, a6) (nI s) := by
  obtain ⟨e, hc2, ha, hb, k0, k1⟩ := hc
  unfold wpX_accepting
  dsimp only
  refine ⟨3, ?_⟩
  unfold ra_ac at H
  rcases Nat.lt_or_ge c 1 with z | z
  · rw [if_pos (show c = 0 by omega)] at H
    exact pk_le c 0 (fun _ => H) (fun y => absurd y (by omega)) e rfl
  · obtain ⟨t1, t2, t3⟩ := k0 z
    rw [if_neg (show ¬ c = 0 by omega)] at H
    refine pk_le c 0 (fun y => absurd y (by omega)) (fun _ => ?_) e rfl
    refine ra_as0 (p := s % 4) t1 (ra_b0 s hs) (by omega) ?_
    by_cases g : s % 4 = 1
    · rw [if_pos g] at H
      rw [if_pos g]
      refine br_f (by decide) (nm_r (show (0 : Int32) + 1 = nI 1 from rfl) ?_)
      rcases Nat.lt_or_ge c 2 with z2 | z2
      · rw [if_pos (show c = 1 by omega)] at H
        exact pk_le c 1 (fun _ => H) (fun y => absurd y (by omega)) e rfl
      · obtain ⟨v1, v2, v3⟩ := k1 z2
        rw [if_neg (show ¬ c = 1 by omega)] at H
        refine pk_le c 1 (fun y => absurd y (by omega)) (fun _ => ?_) e rfl
        refine ra_as1 (p := s / 4 % 4) v1 v3 (ra_b1 s hs) (by omega) ?_
        by_cases g2 : s / 4 % 4 = 3
        · rw [if_pos g2] at H
          rw [if_pos g2]
          refine br_f (by decide) (nm_r (show nI 1 + 1 = nI 2 from rfl) ?_)
          exact pk_le c 2 (fun _ => H) (fun y => absurd y (by omega)) e rfl
        · rw [if_neg g2] at H
          rw [if_neg g2]
          exact br_t rfl H
    · rw [if_neg g] at H
      rw [if_neg g]
      exact br_t rfl H
end
end
section
/-- row k of the table of ways, filled below s -/
def ra_rw (c a b k n : Nat) (w : Nat → Int32) : Prop := ∀ s, s < n → w (k * 320 + s) = nI (ra_wy c a b k s)
/-- the table of ways, filled below row k -/
def ra_tb (c a b k : Nat) (w : Nat → Int32) : Prop := ∀ j, j < k → ra_rw c a b j 320 w
theorem ra_ix {k s : Nat} (hk : k ≤ 6) (hs : s < 320) : k * 320 + s < 2240 := by omega
theorem ra_im (k s : Nat) : nI k * 320 + nI s = nI (k * 320 + s) := by
  rw [show (320 : Int32) = nI 320 from rfl, pk_mul, nI_add]
theorem ra_rw_put {c a b k i : Nat} {w : Nat → Int32} {v : Int32} (h : ra_rw c a b k i w) (hv : v = nI (ra_wy c a b k i)) : ra_rw c a b k (i + 1) (upd w (k * 320 + i) v) := by
  intro s hs
  by_cases e : s = i
  · rw [e, pk_us, hv]
  · rw [pk_un (by omega)]
    exact h s (by omega)
theorem ra_tb_put {c a b k i : Nat} {w : Nat → Int32} {v : Int32} (h : ra_tb c a b k w) : ra_tb c a b k (upd w (k * 320 + i) v) := by
  intro j hj s hs
  rw [pk_un (by omega)]
  exact h j hj s hs
section
variable {fc fs fl fr : Int32} {a1 a2 a3 a4 a5 a6 : Nat → Int32} {c a b : Nat}
theorem ra_sum {post : Int32 → Prop} {k s t : Nat} (hc : ra_cf c a b fc a1 a2 a3) (hk : k ≤ 6) (hs : s < 320) (ht : t ≤ 4) (hw : ra_rw c a b k 320 a6) (H : post (nI (ra_so c a b k s t))) : wpX_sumOver post (fc, fs, fl, fr, a1, a2, a3, a4, a5, a6) (nI k) (nI s) (nI t) := by
  unfold wpX_sumOver
  dsimp only
  refine pk_loop (σ := Unit) (fun n i _ => wX_sumOver_6 post (nI k) (nI s) (nI t) fc fs fl fr a1 a2 a3 a4 a5 a6 n (nI (ra_so c a b k s i)) (nI i)) (fun _ _ => True) t 0 () (by omega) trivial ?_ ?_
  · exact fun n _ _ => pk_le t t (fun _ => H) (fun z => absurd z (by omega))
  · intro n i _ hi _ hn
    refine pk_le t i (fun z => absurd z (by omega)) (fun _ => ra_next hc hs (by omega) ?_)
    have hx := ra_nx_lt (c := c) (a := a) (b := b) (s := s) (x := i) (by omega)
    rw [ra_im, nI_clamp (by omega), hw _ (by omega)]
    exact ⟨vp_in_nI (ra_ix hk (by omega)) (by decide), nm_r (nI_add _ _) (nm_r (nI_1 i) (hn () trivial))⟩
theorem ra_p59 {post : St2 → Prop} {J : Int32 → (Nat → Int32) → (Nat → Int32) → (Nat → Int32) → (Nat → Int32) → (Nat → Int32) → (Nat → Int32) → Prop} {k : Nat} (hc : ra_cf c a b fc a1 a2 a3) (hk1 : 1 ≤ k) (hk : k ≤ 6) (hw : ra_tb c a b k a6)
    (H : ∀ w, ra_tb c a b (k + 1) w → J (nI (k + 1)) a1 a2 a3 a4 a5 w) : ∃ n, wX_prepare_59 post J (nI k) fc fs fl fr n 0 a1 a2 a3 a4 a5 a6 := by
  refine pk_loop (fun n i w => wX_prepare_59 post J (nI k) fc fs fl fr n (nI i) a1 a2 a3 a4 a5 w) (fun i w => ra_tb c a b k w ∧ ra_rw c a b k i w) 320 0 a6 (by omega) ⟨hw, fun s z => absurd z (by omega)⟩ ?_ ?_
  · intro n w h
    refine pk_le 320 320 (fun _ => nm_r (nI_1 k) (H w ?_)) (fun z => absurd z (by omega))
    intro j hj
    by_cases e : j = k
    · rw [e]
      exact h.2
    · exact h.1 j (by omega)
  · intro n i w hi h hn
    refine pk_le 320 i (fun z => absurd z (by omega)) (fun _ => ?_)
    have e : nI k - 1 = nI (k - 1) := pk_sub (b := 1) hk1
    rw [e]
    refine ra_sum (t := 4) hc (by omega) hi (by omega) (h.1 (k - 1) (by omega)) ?_
    have e2 : ra_so c a b (k - 1) i 4 = ra_wy c a b k i := by
      rw [← ra_wy_s, show k - 1 + 1 = k by omega]
    rw [e2, ra_im, nI_clamp (by omega)]
    exact ⟨vp_in_nI (ra_ix hk hi) (by decide), nm_e (nm_r (nI_1 i) (hn _ ⟨ra_tb_put h.1, ra_rw_put h.2 rfl⟩))⟩
theorem ra_p51 {post : St2 → Prop} (hc : ra_cf c a b fc a1 a2 a3) (hw : ra_tb c a b 1 a6) (H : ∀ w, ra_tb c a b 7 w → post (fc, fs, fl, fr, a1, a2, a3, a4, a5, w)) : ∃ n, wX_prepare_51 post fc fs fl fr n 1 a1 a2 a3 a4 a5 a6 := by
  refine pk_loop (fun n i w => wX_prepare_51 post fc fs fl fr n (nI i) a1 a2 a3 a4 a5 w) (fun i w => 1 ≤ i ∧ ra_tb c a b i w) 7 1 a6 (by omega) ⟨by omega, hw⟩ ?_ ?_
  · exact fun n w h => pk_lt 6 7 (fun _ => H w h.2) (fun z => absurd z (by omega))
  · intro n i w hi h hn
    exact pk_lt 6 i (fun z => absurd z (by omega)) (fun _ => ra_p59 hc h.1 (by omega) h.2 (fun w' hw' => hn w' ⟨by omega, hw'⟩))
theorem ra_p15 {post : St2 → Prop} (hc : ra_cf c a b fc a1 a2 a3) (H : ∀ w, ra_tb c a b 7 w → post (fc, fs, fl, fr, a1, a2, a3, a4, a5, w)) : ∃ n, wX_prepare_15 post fc fs fl fr n 0 a1 a2 a3 a4 a5 a6 := by
  refine pk_loop (fun n i w => wX_prepare_15 post fc fs fl fr n (nI i) a1 a2 a3 a4 a5 w) (fun i w => ra_rw c a b 0 i w) 320 0 a6 (by omega) (fun s z => absurd z (by omega)) ?_ ?_
  · intro n w h
    refine pk_le 320 320 (fun _ => ra_p51 hc ?_ H) (fun z => absurd z (by omega))
    intro j hj
    rw [show j = 0 by omega]
    exact h
  · intro n i w hi h hn
    refine pk_le 320 i (fun z => absurd z (by omega)) (fun _ => ra_acc hc hi ?_)
    have q := ra_ac_le c i
    rw [nI_clamp (by omega)]
    have E : ∀ v : Int32, v = nI (ra_wy c a b 0 i) → ra_rw c a b 0 (i + 1) (upd w i v) := by
      intro v hv
      have t := ra_rw_put h hv
      rw [show 0 * 320 + i = i by omega] at t
      exact t
    refine pk_eq (ra_ac c i) 0 (fun z => ⟨vp_in_nI (by omega) (by decide), nm_e (nm_r (nI_1 i) (hn _ (E 0 ?_)))⟩) (fun z => ⟨vp_in_nI (by omega) (by decide), nm_e (nm_r (nI_1 i) (hn _ (E 1 ?_)))⟩)
    · show (0 : Int32) = nI (ra_ac c i)
      rw [z]
      rfl
    · show (1 : Int32) = nI (ra_ac c i)
      rw [show ra_ac c i = 1 by omega]
      rfl
/-- prepare: the table stands, the rest is as it was -/
theorem ra_prep {post : St2 → Prop} (hc : ra_cf c a b fc a1 a2 a3) (hr : ¬ fr = 0 → ra_tb c a b 7 a6) (H : ∀ r w, ¬ r = 0 → ra_tb c a b 7 w → post (fc, fs, fl, r, a1, a2, a3, a4, a5, w)) : wpX_prepare post (fc, fs, fl, fr, a1, a2, a3, a4, a5, a6) := by
  unfold wpX_prepare
  dsimp only
  exact br_c (fun _ => ra_p15 hc (fun w hw => H 1 w (by decide) hw)) (fun z => H fr a6 z (hr z))
theorem ra_tot {post : Int32 → St2 → Prop} (hc : ra_cf c a b fc a1 a2 a3) (hr : ¬ fr = 0 → ra_tb c a b 7 a6) (H : ∀ r w, ¬ r = 0 → ra_tb c a b 7 w → post (nI (ra_ts c a b 7)) (fc, fs, fl, r, a1, a2, a3, a4, a5, w)) : wpX_total post (fc, fs, fl, fr, a1, a2, a3, a4, a5, a6) := by
  unfold wpX_total
  dsimp only
  refine ra_prep hc hr (fun r w z hw => ?_)
  dsimp only
  refine pk_loop (σ := Unit) (fun n i _ => wX_total_8 post fc fs fl r a1 a2 a3 a4 a5 w n (nI (ra_ts c a b i)) (nI i)) (fun _ _ => True) 7 0 () (by omega) trivial ?_ ?_
  · exact fun n _ _ => pk_lt 6 7 (fun _ => H r w z hw) (fun y => absurd y (by omega))
  · intro n i _ hi _ hn
    refine pk_lt 6 i (fun y => absurd y (by omega)) (fun _ => ?_)
    have e : nI i * 320 + 256 = nI (i * 320 + 256) := ra_im i 256
    rw [e, nI_clamp (by omega), hw i hi 256 (by omega)]
    exact ⟨vp_in_nI (ra_ix (by omega) (by omega)) (by decide), nm_r (nI_add _ _) (nm_r (nI_1 i) (hn () trivial))⟩
theorem ra_fof {post : Int32 → St2 → Prop} {p0 : Int32} {k : Nat} (hc : ra_cf c a b fc a1 a2 a3) (hr : ¬ fr = 0 → ra_tb c a b 7 a6) (hp : p0 = nI k) (hk : k ≤ 6) (H : ∀ r w, ¬ r = 0 → ra_tb c a b 7 w → post (nI (ra_wy c a b k 256)) (fc, fs, fl, r, a1, a2, a3, a4, a5, w)) : wpX_failingOf post (fc, fs, fl, fr, a1, a2, a3, a4, a5, a6) p0 := by
  subst hp
  unfold wpX_failingOf
  dsimp only
  refine br_f (nI_pos (by omega)) (pk_le k 6 (fun _ => ra_prep hc hr (fun r w z hw => ?_)) (fun y => absurd y (by omega)))
  dsimp only
  have e : nI k * 320 + 256 = nI (k * 320 + 256) := ra_im k 256
  rw [e, nI_clamp (by omega), hw k (by omega) 256 (by omega)]
  exact ⟨vp_in_nI (ra_ix hk (by omega)) (by decide), H r w z hw⟩
theorem ra_fof7 {post : Int32 → St2 → Prop} (H : post 0 (fc, fs, fl, fr, a1, a2, a3, a4, a5, a6)) : wpX_failingOf post (fc, fs, fl, fr, a1, a2, a3, a4, a5, a6) 7 := by
  unfold wpX_failingOf
  dsimp only
  exact br_f (by decide) (br_f (by decide) H)
end
end
section
theorem ra_sb {l i : Nat} (h : i < l) : (nI l - nI i) - 1 = nI (l - i - 1) := by
  rw [pk_sub (by omega)]
  exact pk_sub (b := 1) (by omega)
section
variable {fc fs fl fr : Int32} {a1 a2 a3 a4 a5 a6 : Nat → Int32} {c a b : Nat}
/-- one element is found, stored, and the state goes on -/
theorem ra_f131 {post : Int32 → St2 → Prop} {J : Int32 → Int32 → Int32 → (Nat → Int32) → (Nat → Int32) → (Nat → Int32) → (Nat → Int32) → (Nat → Int32) → (Nat → Int32) → Prop} {left len st i x : Nat} (hc : ra_cf c a b fc a1 a2 a3) (hw : ra_tb c a b 7 a6) (hl : len ≤ 6) (hi : i < len) (hs : st < 320) (hx : x < 4) (ho : ra_so c a b (len - i - 1) st x ≤ left)
    (H : J (nI (left - ra_so c a b (len - i - 1) st x)) (nI (ra_nx c a b st x)) (nI (i + 1)) a1 a2 a3 a4 (upd a5 i (nI x)) a6) : wX_find_131 post J (nI left) (nI len) (nI st) (nI i) (nI x) fc fs fl fr a1 a2 a3 a4 a5 a6 := by
  unfold wX_find_131
  rw [ra_sb hi]
  refine ra_sum hc (by omega) hs (by omega) (hw _ (by omega)) ?_
  rw [nI_clamp (by omega)]
  refine nm_r (pk_sub ho) ⟨vp_in_nI (by omega) (by decide), nm_e (ra_next hc hs hx (nm_r (nI_1 i) H))⟩
/-- the element is sought -/
theorem ra_f98 {post : Int32 → St2 → Prop} {J : Int32 → Int32 → Int32 → (Nat → Int32) → (Nat → Int32) → (Nat → Int32) → (Nat → Int32) → (Nat → Int32) → (Nat → Int32) → Prop} {left len st i : Nat} (hc : ra_cf c a b fc a1 a2 a3) (hw : ra_tb c a b 7 a6) (hl : len ≤ 6) (hi : i < len) (hs : st < 320) (hleft : left < 2 ^ 31) :
    ∀ j x, x + j = 3 → wX_find_131 post J (nI left) (nI len) (nI st) (nI i) (nI (ra_fx c a b (len - i - 1) left st j x)) fc fs fl fr a1 a2 a3 a4 a5 a6 → wX_find_98 post J (nI left) (nI len) (nI st) (nI i) fc fs fl fr a1 a2 a3 a4 a5 a6 (j + 1) (nI x) := by
  intro j
  induction j with
  | zero =>
    intro x hx H
    exact pk_le 3 x (fun _ => H) (fun y => absurd y (by omega))
  | succ j ih =>
    intro x hx H
    refine pk_le 3 x (fun y => absurd y (by omega)) (fun _ => ?_)
    rw [ra_sb hi, nI_1]
    refine ra_sum hc (by omega) hs (by omega) (hw _ (by omega)) ?_
    have hb := ra_so_le c a b st (k := len - i - 1) (by omega) (x + 1)
    have H' : wX_find_131 post J (nI left) (nI len) (nI st) (nI i) (nI (if left < ra_so c a b (len - i - 1) st (x + 1) then x else ra_fx c a b (len - i - 1) left st j (x + 1))) fc fs fl fr a1 a2 a3 a4 a5 a6 := H
    refine pk_lt left (ra_so c a b (len - i - 1) st (x + 1)) (fun y => ?_) (fun y => nm_e (ih (x + 1) (by omega) ?_))
    · rw [if_pos y] at H'
      exact H'
    · rw [if_neg (by omega)] at H'
      exact H'
/-- the elements -/
theorem ra_f85 {post : Int32 → St2 → Prop} {len : Nat} (hc : ra_cf c a b fc a1 a2 a3) (hw : ra_tb c a b 7 a6) (hl : len ≤ 6) :
    ∀ m left st i v, i + m = len → left < 2 ^ 31 → st < 320 → (∀ v', (∀ j, j < i → v' j = v j) → (∀ j, j < m → v' (i + j) = nI ((ra_fe c a b m left st).getD j 0)) → post 1 (fc, fs, fl, fr, a1, a2, a3, a4, v', a6)) →
      wX_find_85 post (nI len) fc fs fl fr (m + 1) (nI left) (nI st) (nI i) a1 a2 a3 a4 v a6 := by
  intro m
  induction m with
  | zero =>
    intro left st i v hi hleft hs H
    exact pk_le len i (fun _ => H v (fun _ _ => rfl) (fun j y => absurd y (by omega))) (fun y => absurd y (by omega))
  | succ m ih =>
    intro left st i v hi hleft hs H
    refine pk_le len i (fun y => absurd y (by omega)) (fun _ => ⟨3 + 1, ?_⟩)
    refine ra_f98 hc hw hl (by omega) hs hleft 3 0 (by omega) ?_
    have em : len - i - 1 = m := by omega
    have hx := ra_fx_le c a b m left st 3 0
    have hx2 : ra_fx c a b m left st 3 0 < 4 := by omega
    have ho := ra_fx_so c a b m left st 3 0 (Nat.zero_le left)
    refine ra_f131 hc hw hl (by omega) hs ?_ ?_ ?_
    · rw [em]
      exact hx2
    · rw [em]
      exact ho
    · rw [em]
      have hn := ra_nx_lt (c := c) (a := a) (b := b) (s := st) (x := ra_fx c a b m left st 3 0) hx2
      refine ih _ _ (i + 1) _ (by omega) (by omega) (by omega) (fun v' h1 h2 => H v' (fun j hj => ?_) (fun j hj => ?_))
      · rw [h1 j (by omega), pk_un (by omega)]
      · cases j with
        | zero =>
          rw [h1 (i + 0) (by omega)]
          exact pk_us
        | succ j =>
          have t := h2 j (by omega)
          rw [show i + 1 + j = i + (j + 1) by omega] at t
          exact t
/-- the length -/
theorem ra_f21 {post : Int32 → St2 → Prop} (hw : ra_tb c a b 7 a6) :
    ∀ j left len, len + j = 6 → left < 2 ^ 31 →
      (∃ n, wX_find_85 post (nI (ra_fl c a b j left len).2) fc fs (nI (ra_fl c a b j left len).2) fr n (nI (ra_fl c a b j left len).1) 256 0 a1 a2 a3 a4 a5 a6) →
      wX_find_21 post fc fs fl fr a1 a2 a3 a4 a5 a6 (j + 1) (nI left) (nI len) := by
  intro j
  induction j with
  | zero =>
    intro left len hl hleft H
    exact pk_le 6 len (fun _ => H) (fun y => absurd y (by omega))
  | succ j ih =>
    intro left len hl hleft H
    have hb := ra_wy_lt c a b (k := len) (by omega) 256
    have ef : ra_fl c a b (j + 1) left len = if left < ra_wy c a b len 256 then (left, len) else ra_fl c a b j (left - ra_wy c a b len 256) (len + 1) := rfl
    rw [ef] at H
    refine pk_le 6 len (fun y => absurd y (by omega)) (fun _ => ?_)
    have e : nI len * 320 + 256 = nI (len * 320 + 256) := ra_im len 256
    rw [e, nI_clamp (by omega), hw len (by omega) 256 (by omega)]
    refine ⟨vp_in_nI (ra_ix (by omega) (by omega)) (by decide), pk_lt left (ra_wy c a b len 256) (fun y => ?_) (fun y => ⟨vp_in_nI (ra_ix (by omega) (by omega)) (by decide), nm_r (pk_sub y) (nm_r (nI_1 len) (ih _ _ (by omega) (by omega) ?_))⟩)⟩
    · rw [if_pos y] at H
      exact H
    · rw [if_neg (by omega)] at H
      exact H
/-- find: failing list number n stands in found -/
theorem ra_find {post : Int32 → St2 → Prop} {p0 : Int32} {n : Nat} (hc : ra_cf c a b fc a1 a2 a3) (hr : ¬ fr = 0 → ra_tb c a b 7 a6) (hp : p0 = nI n) (hn : n < ra_ts c a b 7)
    (H : ∀ r v w, ¬ r = 0 → ra_tb c a b 7 w → (∀ j, j < (ra_fd c a b n).length → v j = nI ((ra_fd c a b n).getD j 0)) → post 1 (fc, fs, nI (ra_fd c a b n).length, r, a1, a2, a3, a4, v, w)) : wpX_find post (fc, fs, fl, fr, a1, a2, a3, a4, a5, a6) p0 := by
  have hb := ra_ts_le c a b 7 (by omega)
  have h1 := ra_fl_1 c a b 6 n 0
  have h2 := ra_fl_2 c a b 6 n 0
  subst hp
  unfold wpX_find
  dsimp only
  refine ra_tot hc hr (fun r w z hw => ?_)
  dsimp only
  refine br_f (nI_pos (by omega)) (pk_lt n (ra_ts c a b 7) (fun _ => ⟨6 + 1, ?_⟩) (fun y => absurd y (by omega)))
  refine ra_f21 hw 6 n 0 (by omega) (by omega) ⟨(ra_fl c a b 6 n 0).2 + 1, ?_⟩
  refine ra_f85 hc hw (by omega) (ra_fl c a b 6 n 0).2 _ 256 0 a5 (by omega) (by omega) (by omega) (fun v _ hv => ?_)
  have t := H r v w z hw (fun j hj => ?_)
  · rw [ra_fd_len] at t
    exact t
  · rw [ra_fd_len] at hj
    have q := hv j hj
    rw [Nat.zero_add] at q
    exact q
theorem ra_ll {post : Int32 → St2 → Prop} (hc : ra_cf c a b fc a1 a2 a3) (hr : ¬ fr = 0 → ra_tb c a b 7 a6) (hn : 0 < ra_ts c a b 7)
    (H : ∀ r f v w, ¬ r = 0 → ra_tb c a b 7 w → post (nI (ra_fd c a b 0).length) (fc, fs, f, r, a1, a2, a3, a4, v, w)) : wpX_leastLength post (fc, fs, fl, fr, a1, a2, a3, a4, a5, a6) := by
  unfold wpX_leastLength
  dsimp only
  refine ra_find (n := 0) hc hr rfl hn (fun r v w z hw _ => ?_)
  dsimp only
  exact br_f (by decide) (H r _ v w z hw)
theorem ra_least {post : Int32 → St2 → Prop} {p0 : Int32} {i : Nat} (hc : ra_cf c a b fc a1 a2 a3) (hr : ¬ fr = 0 → ra_tb c a b 7 a6) (hn : 0 < ra_ts c a b 7) (hp : p0 = nI i) (hi : i < 6)
    (H : ∀ r f v w, ¬ r = 0 → ra_tb c a b 7 w → post (ra_el (ra_fd c a b 0) i) (fc, fs, f, r, a1, a2, a3, a4, v, w)) : wpX_least post (fc, fs, fl, fr, a1, a2, a3, a4, a5, a6) p0 := by
  subst hp
  have hl := ra_fd_le c a b 0
  unfold wpX_least
  dsimp only
  refine ra_find (n := 0) hc hr rfl hn (fun r v w z hw hv => ?_)
  dsimp only
  have t := H r (nI (ra_fd c a b 0).length) v w z hw
  unfold ra_el at t
  refine br_f (by decide) (br_f (nI_pos (by omega)) (pk_lt i (ra_fd c a b 0).length (fun y => ⟨vp_in_nI hi (by decide), ?_⟩) (fun y => ?_)))
  · rw [if_pos y] at t
    rw [nI_clamp (by omega), hv i y]
    exact t
  · rw [if_neg (by omega)] at t
    exact t
theorem ra_load {post : Int32 → St2 → Prop} {p0 : Int32} {n : Nat} (hc : ra_cf c a b fc a1 a2 a3) (hr : ¬ fr = 0 → ra_tb c a b 7 a6) (hp : p0 = nI n) (hn : n < ra_ts c a b 7)
    (H : ∀ r f u v w, ¬ r = 0 → ra_tb c a b 7 w → (∀ j, j < (ra_fd c a b n).length → u j = nI ((ra_fd c a b n).getD j 0)) → post (nI (ra_fd c a b n).length) (fc, nI (ra_fd c a b n).length, f, r, a1, a2, a3, u, v, w)) : wpX_load post (fc, fs, fl, fr, a1, a2, a3, a4, a5, a6) p0 := by
  have hl := ra_fd_le c a b n
  unfold wpX_load
  dsimp only
  refine ra_find (n := n) hc hr hp hn (fun r v w z hw hv => ?_)
  dsimp only
  refine br_f (by decide) ?_
  refine pk_loop (fun k i u => wX_load_23 post fc (nI (ra_fd c a b n).length) (nI (ra_fd c a b n).length) r k (nI i) a1 a2 a3 u v w) (fun i u => ∀ j, j < i → u j = nI ((ra_fd c a b n).getD j 0)) (ra_fd c a b n).length 0 a4 (by omega) (fun j y => absurd y (by omega)) ?_ ?_
  · exact fun k u h => pk_le _ _ (fun _ => H r _ u v w z hw h) (fun y => absurd y (by omega)) rfl rfl (by omega) (by omega)
  · intro k i u hi h hk
    refine pk_le (ra_fd c a b n).length i (fun y => absurd y (by omega)) (fun _ => ⟨vp_in_nI (by omega) (by decide), vp_in_nI (by omega) (by decide), nm_e (nm_r (nI_1 i) (hk _ (fun j hj => ?_)))⟩)
    rw [nI_clamp (by omega)]
    by_cases e : j = i
    · rw [e, pk_us]
      exact hv i hi
    · rw [pk_un e]
      exact h j (by omega)
end
end
section
section
variable {fc fs fl fr : Int32} {a1 a2 a3 a4 a5 a6 : Nat → Int32} {c a b : Nat}
theorem ra_r45 {post : Int32 → St2 → Prop} {len : Nat} (hc : ra_cf c a b fc a1 a2 a3) (hw : ra_tb c a b 7 a6) (hl : len ≤ 6) :
    ∀ l sum st i, i + l.length = len → st < 320 → (∀ x, x ∈ l → x < 4) → (∀ j, j < l.length → a4 (i + j) = nI (l.getD j 0)) → post (nI (sum + ra_rk c a b l st)) (fc, nI len, fl, fr, a1, a2, a3, a4, a5, a6) →
      wX_rank_45 post fc (nI len) fl fr a1 a2 a3 a4 a5 a6 (l.length + 1) (nI sum) (nI st) (nI i) := by
  intro l
  induction l with
  | nil =>
    intro sum st i hi hs hx hv H
    have hi' : i + 0 = len := hi
    exact pk_le len i (fun _ => H) (fun y => absurd y (by omega))
  | cons x l ih =>
    intro sum st i hi hs hx hv H
    have hi' : i + (l.length + 1) = len := hi
    have ex : a4 i = nI x := hv 0 (Nat.zero_lt_succ _)
    have hx4 : x < 4 := hx x List.mem_cons_self
    have hn := ra_nx_lt (c := c) (a := a) (b := b) (s := st) (x := x) hx4
    refine pk_le len i (fun y => absurd y (by omega)) (fun _ => ⟨vp_in_nI (by omega) (by decide), ?_⟩)
    rw [ra_sb (by omega), nI_clamp (by omega), ex, show len - i - 1 = l.length by omega]
    refine ra_sum hc (by omega) hs (by omega) (hw _ (by omega)) (nm_r (nI_add _ _) ⟨vp_in_nI (by omega) (by decide), ra_next hc hs hx4 (nm_r (nI_1 i) ?_)⟩)
    refine ih _ _ (i + 1) (by omega) (by omega) (fun y hy => hx y (List.mem_cons_of_mem _ hy)) (fun j hj => ?_) ?_
    · have t := hv (j + 1) (Nat.succ_lt_succ hj)
      rw [show i + (j + 1) = i + 1 + j by omega] at t
      exact t
    · rw [Nat.add_assoc]
      exact H
theorem ra_rank {post : Int32 → St2 → Prop} {l : List Nat} (hc : ra_cf c a b fc a1 a2 a3) (hr : ¬ fr = 0 → ra_tb c a b 7 a6) (hl : l.length ≤ 6) (hx : ∀ x, x ∈ l → x < 4) (hs : fs = nI l.length) (hv : ∀ j, j < l.length → a4 j = nI (l.getD j 0))
    (H : ∀ r w, ¬ r = 0 → ra_tb c a b 7 w → post (nI (ra_ts c a b l.length + ra_rk c a b l 256)) (fc, fs, fl, r, a1, a2, a3, a4, a5, w)) : wpX_rank post (fc, fs, fl, fr, a1, a2, a3, a4, a5, a6) := by
  subst hs
  unfold wpX_rank
  dsimp only
  refine ra_prep hc hr (fun r w z hw => ?_)
  dsimp only
  refine pk_loop (σ := Unit) (fun n i _ => wX_rank_8 post fc (nI l.length) fl r a1 a2 a3 a4 a5 w n (nI (ra_ts c a b i)) (nI i)) (fun _ _ => True) l.length 0 () (by omega) trivial ?_ ?_
  · intro n _ _
    refine pk_le _ _ (fun _ => ⟨l.length + 1, ?_⟩) (fun y => absurd y (by omega)) rfl rfl (by omega) (by omega)
    refine ra_r45 hc hw hl l _ 256 0 (by omega) (by omega) hx (fun j hj => ?_) (H r w z hw)
    rw [Nat.zero_add]
    exact hv j hj
  · intro n i _ hi _ hn
    refine pk_le l.length i (fun y => absurd y (by omega)) (fun _ => ?_)
    have e : nI i * 320 + 256 = nI (i * 320 + 256) := ra_im i 256
    rw [e, nI_clamp (by omega), hw i (by omega) 256 (by omega)]
    exact ⟨vp_in_nI (ra_ix (by omega) (by omega)) (by decide), nm_r (nI_add _ _) (nm_r (nI_1 i) (hn () trivial))⟩
theorem ra_s6l {post : Int32 → Prop} {len : Nat} (hc : ra_cf c a b fc a1 a2 a3) (hl : len ≤ 6) :
    ∀ l st i, i + l.length = len → st < 320 → (∀ x, x ∈ l → x < 4) → (∀ j, j < l.length → a4 (i + j) = nI (l.getD j 0)) → (ra_st c a b l st < 320 → post (nI (ra_st c a b l st))) →
      wX_stageState_6 post (nI len) fc fs fl fr a1 a2 a3 a4 a5 a6 (l.length + 1) (nI st) (nI i) := by
  intro l
  induction l with
  | nil =>
    intro st i hi hs hx hv H
    have hi' : i + 0 = len := hi
    exact pk_le len i (fun _ => H hs) (fun y => absurd y (by omega))
  | cons x l ih =>
    intro st i hi hs hx hv H
    have hi' : i + (l.length + 1) = len := hi
    have ex : a4 i = nI x := hv 0 (Nat.zero_lt_succ _)
    have hx4 : x < 4 := hx x List.mem_cons_self
    have hn := ra_nx_lt (c := c) (a := a) (b := b) (s := st) (x := x) hx4
    refine pk_le len i (fun y => absurd y (by omega)) (fun _ => ⟨vp_in_nI (by omega) (by decide), ?_⟩)
    rw [nI_clamp (by omega), ex]
    refine ra_next hc hs hx4 (nm_r (nI_1 i) ?_)
    refine ih _ (i + 1) (by omega) (by omega) (fun y hy => hx y (List.mem_cons_of_mem _ hy)) (fun j hj => ?_) H
    have t := hv (j + 1) (Nat.succ_lt_succ hj)
    rw [show i + (j + 1) = i + 1 + j by omega] at t
    exact t
theorem ra_fails {post : Int32 → Prop} {l : List Nat} (hc : ra_cf c a b fc a1 a2 a3) (hl : l.length ≤ 6) (hx : ∀ x, x ∈ l → x < 4) (hs : fs = nI l.length) (hv : ∀ j, j < l.length → a4 j = nI (l.getD j 0))
    (ht : ra_ac c (ra_st c a b l 256) = 1) (H : post 1) : wpX_fails post (fc, fs, fl, fr, a1, a2, a3, a4, a5, a6) := by
  subst hs
  unfold wpX_fails
  dsimp only
  unfold wpX_stageState
  dsimp only
  refine ⟨l.length + 1, ra_s6l hc hl l 256 0 (by omega) (by omega) hx (fun j hj => ?_) (fun hb => ra_acc hc hb ?_)⟩
  · rw [Nat.zero_add]
    exact hv j hj
  · rw [ht]
    exact ⟨rfl, H⟩
theorem ra_elem {post : Int32 → Prop} {l : List Nat} {p0 : Int32} {i : Nat} (hs : fs = nI l.length) (hl : l.length ≤ 6) (hv : ∀ j, j < l.length → a4 j = nI (l.getD j 0)) (hp : p0 = nI i) (hi : i < 6) (H : post (ra_el l i)) : wpX_element post (fc, fs, fl, fr, a1, a2, a3, a4, a5, a6) p0 := by
  subst hs hp
  unfold wpX_element
  dsimp only
  unfold ra_el at H
  refine br_f (nI_pos (by omega)) (pk_lt i l.length (fun y => ⟨vp_in_nI hi (by decide), ?_⟩) (fun y => ?_))
  · rw [if_pos y] at H
    rw [nI_clamp (by omega), hv i y]
    exact H
  · rw [if_neg (by omega)] at H
    exact H
/-- a number that lies between -/
theorem ra_in {post : Int32 → Prop} {p0 p1 p2 : Int32} {n lo hi : Nat} (h0 : p0 = nI n) (h1 : p1 = nI lo) (h2 : p2 = nI hi) (hlo : lo ≤ n) (hhi : n ≤ hi) (hb : hi < 2 ^ 31) (H : post 1) : wpX_in post () p0 p1 p2 :=
  pk_lt n lo (fun y => absurd y (by omega)) (fun _ => pk_lt hi n (fun y => absurd y (by omega)) (fun _ => H) h2 h0) h0 h1
/-- the first condition: the pair -/
theorem ra_cond1 {post : Int32 → St2 → Prop} (ha : a < 4) (hb : b < 4) (hf : fc = nI 0) (H : ∀ a1' a2' a3', ra_cf 1 a b (nI 1) a1' a2' a3' → post 1 (nI 1, fs, fl, 0, a1', a2', a3', a4, a5, a6)) : wpX_condition post (fc, fs, fl, fr, a1, a2, a3, a4, a5, a6) 3 (nI a) (nI b) := by
  subst hf
  unfold wpX_condition
  dsimp only
  refine br_f (by decide) (br_t (by decide) ?_)
  unfold wpX_goodNumbers
  refine br_f (by decide) (br_f (by decide) (br_f (by decide) (br_f (by decide) (br_f (by decide) (br_t (by decide) ?_)))))
  unfold wX_goodNumbers_126
  refine ra_in (n := a) (lo := 0) (hi := 3) rfl rfl rfl (by omega) (by omega) (by decide) (br_f (by decide) (ra_in (n := b) (lo := 0) (hi := 3) rfl rfl rfl (by omega) (by omega) (by decide) (br_f (by decide) ?_)))
  refine br_f (by decide) (br_t (by decide) ⟨vp_in_nI (by decide) (by decide), nm_e ⟨vp_in_nI (by decide) (by decide), nm_e ⟨vp_in_nI (by decide) (by decide), nm_e (nm_r (show nI 0 + 1 = nI 1 from rfl) ?_)⟩⟩⟩)
  rw [nI_clamp (by decide)]
  exact H _ _ _ ⟨rfl, by omega, ha, hb, fun _ => ⟨pk_us, pk_us, pk_us⟩, fun y => absurd y (by omega)⟩
/-- the second condition: three times a -/
theorem ra_cond2 {post : Int32 → St2 → Prop} (hc : ra_cf 1 a b fc a1 a2 a3) (H : ∀ a1' a2' a3', ra_cf 2 a b (nI 2) a1' a2' a3' → post (nI 2) (nI 2, fs, fl, 0, a1', a2', a3', a4, a5, a6)) : wpX_condition post (fc, fs, fl, fr, a1, a2, a3, a4, a5, a6) 1 (nI a) 3 := by
  obtain ⟨hf, _, ha, hb, k0, _⟩ := hc
  obtain ⟨t1, t2, t3⟩ := k0 (by omega)
  subst hf
  unfold wpX_condition
  dsimp only
  refine br_f (by decide) (br_t (by decide) ?_)
  unfold wpX_goodNumbers
  refine br_f (by decide) (br_f (by decide) (br_f (by decide) (br_t (by decide) ?_)))
  refine ra_in (n := a) (lo := 0) (hi := 3) rfl rfl rfl (by omega) (by omega) (by decide) (br_f (by decide) (ra_in (n := 3) (lo := 1) (hi := 3) rfl rfl rfl (by omega) (by omega) (by decide) (br_f (by decide) ?_)))
  refine br_f (by decide) (br_t (by decide) ⟨vp_in_nI (by decide) (by decide), nm_e ⟨vp_in_nI (by decide) (by decide), nm_e ⟨vp_in_nI (by decide) (by decide), nm_e (nm_r (show nI 1 + 1 = nI 2 from rfl) ?_)⟩⟩⟩)
  rw [nI_clamp (by decide)]
  refine H _ _ _ ⟨rfl, by omega, ha, hb, fun _ => ⟨?_, ?_, ?_⟩, fun _ => ⟨pk_us, pk_us, pk_us⟩⟩
  · rw [pk_un (by decide)]
    exact t1
  · rw [pk_un (by decide)]
    exact t2
  · rw [pk_un (by decide)]
    exact t3
theorem ra_drop {post : Int32 → St2 → Prop} (hc : ra_cf (c + 1) a b fc a1 a2 a3) (H : ra_cf c a b (nI c) a1 a2 a3 → post (nI c) (nI c, fs, fl, 0, a1, a2, a3, a4, a5, a6)) : wpX_drop post (fc, fs, fl, fr, a1, a2, a3, a4, a5, a6) := by
  obtain ⟨hf, hc2, ha, hb, k0, k1⟩ := hc
  subst hf
  unfold wpX_drop
  dsimp only
  exact br_f (nI_ne0 (by omega) (by omega)) (nm_r (nI_pred c) (H ⟨rfl, by omega, ha, hb, fun y => k0 (by omega), fun y => k1 (by omega)⟩))
theorem ra_failing {post : Int32 → St2 → Prop} (hc : ra_cf c a b fc a1 a2 a3) (hr : ¬ fr = 0 → ra_tb c a b 7 a6) (H : ∀ r w, ¬ r = 0 → ra_tb c a b 7 w → post (nI (ra_ts c a b 7)) (fc, fs, fl, r, a1, a2, a3, a4, a5, w)) : wpX_failing post (fc, fs, fl, fr, a1, a2, a3, a4, a5, a6) := by
  unfold wpX_failing
  dsimp only
  refine ra_tot hc hr (fun r w z hw => ?_)
  dsimp only
  exact H r w z hw
end
end
section
theorem ra_tp1 {a b n : Nat} (ha : a < 4) (hb : b < 4) (hn : n ≤ (if a = b then 7 else 8)) : n < ra_ts 1 a b 7 := by
  obtain ⟨_, _, h2, h3, _⟩ := ra_k1 a ha b hb
  rw [ra_ts_7, h2, h3]
  omega
theorem ra_tp2 {a b : Nat} (ha : a < 4) (hb : b < 4) : 0 < ra_ts 2 a b 7 := by
  by_cases e : a = b
  · subst e
    obtain ⟨_, h3, _⟩ := ra_k2 a ha
    rw [ra_ts_7, h3]
    omega
  · obtain ⟨h4, _⟩ := ra_k3 a ha b hb e
    rw [ra_ts_7, h4]
    omega
theorem ra_rdy {c a b : Nat} {fr : Int32} {w : Nat → Int32} (h : ra_tb c a b 7 w) : ¬ fr = 0 → ra_tb c a b 7 w := fun _ => h
theorem ra_new {c a b : Nat} {w : Nat → Int32} : ¬ (0 : Int32) = 0 → ra_tb c a b 7 w := fun z => absurd rfl z
section
variable {post : Int32 → St0 → Prop} {mc ms kc ks : Nat} {fc fs fl fr : Int32} {a1 a2 a3 a4 a5 a6 : Nat → Int32} {a b : Nat}
theorem ra_380 {z0 z1 : Int32} (hz : z1 = z0) (hne : a ≠ b) (hc : ra_cf 2 a b fc a1 a2 a3) (H : post 1 ()) : wL_lawOf_380 post mc ms z0 z1 kc ks fc fs fl fr a1 a2 a3 a4 a5 a6 := by
  have ha := hc.2.2.1
  have hb := hc.2.2.2.1
  obtain ⟨_, _, _, h3, _⟩ := ra_k1 a ha b hb
  rw [if_neg hne] at h3
  unfold wL_lawOf_380
  refine br_t hz (ra_drop (c := 1) hc (fun hc1 => ?_))
  dsimp only
  refine br_t rfl (ra_fof (k := 3) hc1 ra_new rfl (by omega) (fun r w z hw => ?_))
  dsimp only
  rw [h3]
  refine br_t rfl (ra_drop (c := 0) hc1 (fun hc0 => ?_))
  dsimp only
  refine br_t rfl (ra_failing hc0 ra_new (fun r2 w2 z2 hw2 => ?_))
  rw [ra_ts0]
  exact br_t rfl H
theorem ra_275 {z0 z1 : Int32} (hz : z1 = z0) (hc : ra_cf 2 a b fc a1 a2 a3) (hr : ¬ fr = 0 → ra_tb 2 a b 7 a6) (H : post 1 ()) : wL_lawOf_275 post mc ms (nI a) (nI b) z0 z1 kc ks fc fs fl fr a1 a2 a3 a4 a5 a6 := by
  have ha := hc.2.2.1
  have hb := hc.2.2.2.1
  have ht := ra_tp2 ha hb
  unfold wL_lawOf_275
  refine br_t hz (pk_eq a b (fun e => ?_) (fun e => ?_))
  · subst e
    obtain ⟨h2, h3, hf⟩ := ra_k2 a ha
    refine ra_fof (k := 3) hc hr rfl (by omega) (fun r w z hw => ?_)
    dsimp only
    rw [h3]
    refine br_t rfl (ra_least (i := 0) hc (ra_rdy hw) ht rfl (by omega) (fun r f v w z hw => ?_))
    dsimp only
    rw [hf]
    refine br_t rfl (ra_least (i := 1) hc (ra_rdy hw) ht rfl (by omega) (fun r f v w z hw => ?_))
    dsimp only
    rw [hf]
    refine br_t rfl (ra_least (i := 2) hc (ra_rdy hw) ht rfl (by omega) (fun r f v w z hw => ?_))
    dsimp only
    rw [hf]
    refine br_t rfl (ra_fof (k := 2) hc (ra_rdy hw) rfl (by omega) (fun r w z hw => ?_))
    rw [h2]
    exact br_t rfl H
  · obtain ⟨h4, hl, g0, g1⟩ := ra_k3 a ha b hb e
    have e0 : ra_el (ra_fd 2 a b 0) 0 = nI a := by
      unfold ra_el
      rw [if_pos (by omega), g0]
    have e1 : ra_el (ra_fd 2 a b 0) 1 = nI (if b ≤ a then b else a) := by
      unfold ra_el
      rw [if_pos (by omega), g1]
    refine ra_least (i := 0) hc hr ht rfl (by omega) (fun r f v w z hw => ?_)
    dsimp only
    refine br_t e0 (ra_fof (k := 4) hc (ra_rdy hw) rfl (by omega) (fun r w z hw => ?_))
    dsimp only
    rw [h4]
    refine br_t rfl (ra_least (i := 1) hc (ra_rdy hw) ht rfl (by omega) (fun r f v w z hw => ?_))
    dsimp only
    refine pk_le b a (fun y => ra_380 ?_ e hc H) (fun y => ra_380 ?_ e hc H)
    · rw [e1, if_pos y]
    · rw [e1, if_neg (by omega)]
theorem ra_247 (hc : ra_cf 1 a b fc a1 a2 a3) (H : post 1 ()) : wL_lawOf_247 post mc ms (nI a) (nI b) kc ks fc fs fl fr a1 a2 a3 a4 a5 a6 := by
  have ha := hc.2.2.1
  have hb := hc.2.2.2.1
  have ht := ra_tp2 ha hb
  unfold wL_lawOf_247
  refine ra_cond2 hc (fun x1 x2 x3 hc2 => ?_)
  dsimp only
  refine br_t rfl (ra_ll hc2 ra_new ht (fun r f v w z hw => ?_))
  dsimp only
  refine pk_eq a b (fun e => ra_275 ?_ hc2 (ra_rdy hw) H) (fun e => ra_275 ?_ hc2 (ra_rdy hw) H)
  · subst e
    obtain ⟨_, _, hf⟩ := ra_k2 a ha
    rw [hf]
    rfl
  · obtain ⟨_, hl, _⟩ := ra_k3 a ha b hb e
    rw [hl]
    rfl
theorem ra_233 {x8 z0 : Int32} (hz : ¬ x8 = 0 ∨ ¬ z0 = 0) (hc : ra_cf 1 a b fc a1 a2 a3) (H : post 1 ()) : wL_lawOf_233 post mc ms (nI a) (nI b) x8 z0 kc ks fc fs fl fr a1 a2 a3 a4 a5 a6 := by
  unfold wL_lawOf_233
  refine br_c (fun y => br_f ?_ (ra_247 hc H)) (fun _ => ra_247 hc H)
  rcases hz with h | h
  · exact absurd y h
  · exact h
/-- behind 'front': back is asked -/
theorem ra_206 {z0 : Int32} {l : List Nat} (hz : ¬ z0 = 0 ∨ (ra_el l 1 = nI a ∧ ra_el l 2 = nI b)) (hl : l.length ≤ 6) (hs : fs = nI l.length) (hv : ∀ j, j < l.length → a4 j = nI (l.getD j 0)) (hc : ra_cf 1 a b fc a1 a2 a3) (H : post 1 ()) : wL_lawOf_206 post mc ms (nI a) (nI b) z0 kc ks fc fs fl fr a1 a2 a3 a4 a5 a6 := by
  unfold wL_lawOf_206
  refine ra_elem (i := 1) hs hl hv rfl (by omega) (br_c (fun y => ra_elem (i := 2) hs hl hv rfl (by omega) (br_c (fun y2 => ra_233 (Or.inr (by decide)) hc H) (fun y2 => ?_))) (fun y => ?_))
  · unfold wL_lawOf_232
    refine ra_233 (Or.inl ?_) hc H
    rcases hz with h | h
    · exact h
    · exact absurd h.2 y2
  · unfold wL_lawOf_232
    refine ra_233 (Or.inl ?_) hc H
    rcases hz with h | h
    · exact h
    · exact absurd h.1 y
theorem ra_160 {z0 z1 : Int32} {n : Nat} (hz : z1 = z0) (hn : n ≤ (if a = b then 7 else 8)) (hs : fs = nI (ra_fd 1 a b n).length) (hv : ∀ j, j < (ra_fd 1 a b n).length → a4 j = nI ((ra_fd 1 a b n).getD j 0)) (hc : ra_cf 1 a b fc a1 a2 a3) (hr : ¬ fr = 0 → ra_tb 1 a b 7 a6) (H : post 1 ()) : wL_lawOf_160 post mc ms (nI a) (nI b) (nI n) z0 z1 kc ks fc fs fl fr a1 a2 a3 a4 a5 a6 := by
  have ha := hc.2.2.1
  have hb := hc.2.2.2.1
  have hn9 : n < (if a = b then 8 else 9) := by
    split at hn <;> split <;> omega
  have hl := ra_fd_le 1 a b n
  have k1 := ra_k5 a ha b hb n hn9
  have k2 := ra_k6 a ha b hb n hn9
  have k3 := ra_k7 a ha b hb n hn9
  unfold wL_lawOf_160
  refine br_t hz (ra_rank hc hr hl (ra_fd_lt 1 a b n) hs hv (fun r w z hw => ?_))
  dsimp only
  rw [k1]
  refine br_t rfl (ra_fails hc hl (ra_fd_lt 1 a b n) hs hv k2 (br_f (by decide) ?_))
  refine ra_elem (i := 0) hs hl hv rfl (by omega) (br_c (fun y => ra_elem (i := 1) hs hl hv rfl (by omega) (br_c (fun y2 => ra_206 (Or.inl (by decide)) hl hs hv hc H) (fun y2 => ?_))) (fun y => ?_))
  · unfold wL_lawOf_205
    refine ra_206 (Or.inr ?_) hl hs hv hc H
    rcases k3 with h | h
    · exact absurd h.2 y2
    · exact h
  · unfold wL_lawOf_205
    refine ra_206 (Or.inr ?_) hl hs hv hc H
    rcases k3 with h | h
    · exact absurd h.1 y
    · exact h
theorem ra_85 {x2 z0 : Int32} (hz : z0 = nI (if a = b then 7 else 8)) (hc : ra_cf 1 a b fc a1 a2 a3) (hr : ¬ fr = 0 → ra_tb 1 a b 7 a6) (H : post 1 ()) : wL_lawOf_85 post mc ms x2 (nI a) (nI b) z0 kc ks fc fs fl fr a1 a2 a3 a4 a5 a6 := by
  have ha := hc.2.2.1
  have hb := hc.2.2.2.1
  obtain ⟨h0, h1, h2, h3, _⟩ := ra_k1 a ha b hb
  unfold wL_lawOf_85
  refine ra_fof (k := 0) hc hr rfl (by omega) (fun r w z hw => ?_)
  dsimp only
  rw [h0]
  refine br_t rfl (ra_fof (k := 1) hc (ra_rdy hw) rfl (by omega) (fun r w z hw => ?_))
  dsimp only
  rw [h1]
  refine br_t rfl (ra_fof (k := 2) hc (ra_rdy hw) rfl (by omega) (fun r w z hw => ?_))
  dsimp only
  rw [h2]
  refine br_t rfl (ra_fof (k := 3) hc (ra_rdy hw) rfl (by omega) (fun r w z hw => ?_))
  dsimp only
  rw [h3]
  refine br_t hz.symm (ra_fof7 ?_)
  dsimp only
  have hq : (if a = b then 7 else 8) < 9 := by split <;> omega
  generalize hqe : (if a = b then 7 else 8) = q at hz hq
  have ez : z0 + 1 = nI (q + 1) := by
    rw [hz, nI_1]
  have em : x2 &&& 2147483647 = nI (x2.toBitVec.toNat % 2 ^ 31) := pk_and x2 31 (by decide)
  have hm : x2.toBitVec.toNat % 2 ^ 31 < 2 ^ 31 := Nat.mod_lt _ (by decide)
  generalize x2.toBitVec.toNat % 2 ^ 31 = t at em hm
  have er : (x2 &&& 2147483647) - (x2 &&& 2147483647) / (z0 + 1) * (z0 + 1) = nI (t % (q + 1)) := by
    rw [em, ez]
    exact pk_rem hm (by omega) (by omega)
  have hn : t % (q + 1) < q + 1 := Nat.mod_lt _ (by omega)
  have hn2 : t % (q + 1) ≤ (if a = b then 7 else 8) := by
    rw [hqe]
    omega
  refine br_t rfl ⟨?_, nm_r er ?_⟩
  · rw [ez]
    exact nI_ne0 (by omega) (by omega)
  · generalize t % (q + 1) = n at hn hn2
    have hn9 : n < (if a = b then 8 else 9) := by
      split at hn2 <;> split <;> omega
    have kl := ra_k4 a ha b hb n hn9
    refine ra_load (n := n) hc (ra_rdy hw) rfl (ra_tp1 ha hb hn2) (fun r f u v w z hw hv => ?_)
    dsimp only
    refine pk_eq n 0 (fun y => ra_160 ?_ hn2 rfl hv hc (ra_rdy hw) H) (fun y => ra_160 ?_ hn2 rfl hv hc (ra_rdy hw) H)
    · rw [kl, if_pos y]
      rfl
    · rw [kl, if_neg y]
      rfl
theorem ra_law {mc ms : Nat} {p0 p1 p2 : Int32} (hmc : 7 ≤ mc) (hms : 2271 ≤ ms) (H : post 1 ()) : wpL_lawOf post mc ms () p0 p1 p2 := by
  obtain ⟨a, ha, ea⟩ := pk_andE p0 (m := 3) 2 (by decide)
  obtain ⟨b, hb, eb⟩ := pk_andE p1 (m := 3) 2 (by decide)
  have ha' : a < 4 := ha
  have hb' : b < 4 := hb
  obtain ⟨_, _, _, _, hf⟩ := ra_k1 a ha' b hb'
  have ht : 0 < ra_ts 1 a b 7 := ra_tp1 ha' hb' (Nat.zero_le _)
  unfold wpL_lawOf
  refine ⟨by omega, by omega, 6, 2261, by omega, by omega, ?_⟩
  unfold wpX_init
  dsimp only
  refine ⟨by decide, by decide, by decide, by decide, by decide, by decide, by decide, by decide, by decide, by decide, by decide, by decide, ?_⟩
  refine nm_r ea (nm_r eb ?_)
  refine ra_cond1 ha' hb' rfl (fun x1 x2 x3 hc => ?_)
  dsimp only
  refine br_t rfl (ra_ll hc ra_new ht (fun r f v w z hw => ?_))
  dsimp only
  rw [hf]
  refine br_t rfl (ra_least (i := 0) hc (ra_rdy hw) ht rfl (by omega) (fun r f v w z hw => ?_))
  dsimp only
  rw [hf]
  refine br_t rfl (ra_least (i := 1) hc (ra_rdy hw) ht rfl (by omega) (fun r f v w z hw => ?_))
  dsimp only
  rw [hf]
  refine br_t rfl (ra_least (i := 2) hc (ra_rdy hw) ht rfl (by omega) (fun r f v w z hw => ?_))
  dsimp only
  rw [hf]
  refine br_t rfl (pk_eq a b (fun e => ra_85 ?_ hc (ra_rdy hw) H) (fun e => ra_85 ?_ hc (ra_rdy hw) H))
  · rw [if_pos e]
    rfl
  · rw [if_neg e]
    rfl
end
theorem ra_cell {post : Int32 → Prop} {L : Nat} {xs : Nat → Int32} (hL : L ≤ 3) {p : Int32} {i : Nat} (hp : p = nI i) (hi : i < 3) (H : ∀ r, post r) : wpL_cellAt post L xs () p :=
  pk_le L i (fun _ => H _) (fun y => ⟨pk_in i L y hp, H _⟩) rfl hp
theorem i_vc (xs : Nat → Int32) (L : Nat) (hL : L ≤ 3) : wpL_law (fun r => r = 1) L xs := by
  unfold wpL_law
  exact ra_cell (i := 0) hL rfl (by omega) (fun r1 => ra_cell (i := 1) hL rfl (by omega) (fun r2 => ra_cell (i := 2) hL rfl (by omega) (fun r3 => ⟨7, 2271, by omega, by omega, ra_law (by omega) (by omega) rfl⟩)))
end
