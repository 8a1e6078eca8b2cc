section
/-! sums of naturals, runs of a machine over words of ternary letters -/
def ff_sm (f : Nat → Nat) : Nat → Nat
  | 0 => 0
  | n + 1 => ff_sm f n + f n
theorem ff_sm_congr {f g : Nat → Nat} {n : Nat} (h : ∀ i, i < n → f i = g i) : ff_sm f n = ff_sm g n := by
  induction n with
  | zero => rfl
  | succ n ih =>
    show ff_sm f n + f n = ff_sm g n + g n
    rw [ih (fun i hi => h i (by omega)), h n (by omega)]
theorem ff_sm_add (f : Nat → Nat) (m n : Nat) : ff_sm f (m + n) = ff_sm f m + ff_sm (fun i => f (m + i)) n := by
  induction n with
  | zero => rfl
  | succ n ih =>
    show ff_sm f (m + n) + f (m + n) = ff_sm f m + (ff_sm (fun i => f (m + i)) n + f (m + n))
    rw [ih, Nat.add_assoc]
theorem ff_sm_plus (f g : Nat → Nat) (n : Nat) : ff_sm (fun i => f i + g i) n = ff_sm f n + ff_sm g n := by
  induction n with
  | zero => rfl
  | succ n ih =>
    show ff_sm (fun i => f i + g i) n + (f n + g n) = ff_sm f n + f n + (ff_sm g n + g n)
    rw [ih]
    omega
theorem ff_sm_zero (n : Nat) : ff_sm (fun _ => 0) n = 0 := by
  induction n with
  | zero => rfl
  | succ n ih =>
    show ff_sm (fun _ => 0) n + 0 = 0
    rw [ih]
theorem ff_sm_z {f : Nat → Nat} {n : Nat} (h : ∀ i, i < n → f i = 0) : ff_sm f n = 0 := by
  rw [ff_sm_congr h, ff_sm_zero]
theorem ff_sm_mul (f : Nat → Nat) (c n : Nat) : ff_sm (fun i => f i * c) n = ff_sm f n * c := by
  induction n with
  | zero => show 0 = 0 * c; omega
  | succ n ih =>
    show ff_sm (fun i => f i * c) n + f n * c = (ff_sm f n + f n) * c
    rw [ih, Nat.add_mul]
theorem ff_sm_swap (f : Nat → Nat → Nat) (m n : Nat) : ff_sm (fun i => ff_sm (f i) n) m = ff_sm (fun j => ff_sm (fun i => f i j) m) n := by
  induction m with
  | zero => exact (ff_sm_zero n).symm
  | succ m ih =>
    show ff_sm (fun i => ff_sm (f i) n) m + ff_sm (f m) n = ff_sm (fun j => ff_sm (fun i => f i j) m + f m j) n
    rw [ih, ff_sm_plus (fun j => ff_sm (fun i => f i j) m) (f m) n]
theorem ff_sm_delta (f : Nat → Nat) (r n : Nat) : ff_sm (fun s => if r = s then f s else 0) n = if r < n then f r else 0 := by
  induction n with
  | zero => rfl
  | succ n ih =>
    show ff_sm (fun s => if r = s then f s else 0) n + (if r = n then f n else 0) = _
    rw [ih]
    by_cases h : r = n
    · subst h
      rw [if_neg (by omega), if_pos rfl, if_pos (by omega), Nat.zero_add]
    · rw [if_neg h]
      by_cases g : r < n
      · rw [if_pos g, if_pos (by omega), Nat.add_zero]
      · rw [if_neg g, if_neg (by omega)]
theorem ff_sm_blk (f : Nat → Nat) (a b : Nat) : ff_sm f (a * b) = ff_sm (fun i => ff_sm (fun j => f (i * b + j)) b) a := by
  induction a with
  | zero => rw [Nat.zero_mul]; rfl
  | succ a ih =>
    show ff_sm f ((a + 1) * b) = ff_sm (fun i => ff_sm (fun j => f (i * b + j)) b) a + ff_sm (fun j => f (a * b + j)) b
    rw [Nat.add_mul, Nat.one_mul, ff_sm_add, ih]
theorem ff_sm_mono (f : Nat → Nat) {m n : Nat} (h : m ≤ n) : ff_sm f m ≤ ff_sm f n := by
  obtain ⟨k, rfl⟩ := Nat.exists_eq_add_of_le h
  rw [ff_sm_add]
  omega
theorem ff_sm_le {f : Nat → Nat} {n : Nat} (h : ∀ i, i < n → f i ≤ 1) : ff_sm f n ≤ n := by
  induction n with
  | zero => exact Nat.le_refl 0
  | succ n ih =>
    have h1 := ih (fun i hi => h i (by omega))
    have h2 := h n (by omega)
    show ff_sm f n + f n ≤ n + 1
    omega
theorem ff_sm_le4 {f : Nat → Nat} {n k : Nat} (h : ∀ i, i < n → f i ≤ k) : ff_sm f n ≤ k * n := by
  induction n with
  | zero => exact Nat.zero_le _
  | succ n ih =>
    have h1 := ih (fun i hi => h i (by omega))
    have h2 := h n (by omega)
    show ff_sm f n + f n ≤ k * (n + 1)
    rw [Nat.mul_add, Nat.mul_one]
    omega
theorem ff_sm_eq0 {f : Nat → Nat} {n : Nat} (h : ff_sm f n = 0) : ∀ i, i < n → f i = 0 := by
  induction n with
  | zero => intro i hi; omega
  | succ n ih =>
    have h' : ff_sm f n + f n = 0 := h
    intro i hi
    by_cases e : i = n
    · subst e; omega
    · exact ih (by omega) i (by omega)
/-- the machine's state behind the n low letters of w, from the state s -/
def ff_run (st : Nat → Nat) (s : Nat) : Nat → Nat → Nat
  | 0, _ => s
  | n + 1, w => st (3 * ff_run st s n (w / 3) + w % 3)
theorem ff_run_app (st : Nat → Nat) (s m n w : Nat) : ff_run st s (m + n) w = ff_run st (ff_run st s m (w / 3 ^ n)) n w := by
  induction n generalizing w with
  | zero => show ff_run st s m w = ff_run st s m (w / 3 ^ 0); rw [Nat.pow_zero, Nat.div_one]
  | succ n ih =>
    show st (3 * ff_run st s (m + n) (w / 3) + w % 3) = st (3 * ff_run st (ff_run st s m (w / 3 ^ (n + 1))) n (w / 3) + w % 3)
    rw [ih (w / 3), Nat.div_div_eq_div_mul, Nat.pow_succ, Nat.mul_comm (3 ^ n) 3]
theorem ff_run_low (st : Nat → Nat) (s n x u : Nat) (h : u < 3 ^ n) : ff_run st s n (x * 3 ^ n + u) = ff_run st s n u := by
  induction n generalizing u with
  | zero => rfl
  | succ n ih =>
    have e : x * 3 ^ (n + 1) = x * 3 ^ n * 3 := by rw [Nat.pow_succ, Nat.mul_assoc]
    have g : 3 ^ (n + 1) = 3 ^ n * 3 := Nat.pow_succ _ _
    show st (3 * ff_run st s n ((x * 3 ^ (n + 1) + u) / 3) + (x * 3 ^ (n + 1) + u) % 3) = st (3 * ff_run st s n (u / 3) + u % 3)
    rw [e, show (x * 3 ^ n * 3 + u) / 3 = x * 3 ^ n + u / 3 by omega, show (x * 3 ^ n * 3 + u) % 3 = u % 3 by omega, ih (u / 3) (by omega)]
theorem ff_run_cut (st : Nat → Nat) (s m n x u : Nat) (h : u < 3 ^ n) : ff_run st s (m + n) (x * 3 ^ n + u) = ff_run st (ff_run st s m x) n u := by
  rw [ff_run_app, ff_run_low st _ n x u h, Nat.add_comm (x * 3 ^ n) u, Nat.add_mul_div_right u x (Nat.lt_of_le_of_lt (Nat.zero_le u) h), Nat.div_eq_of_lt h, Nat.zero_add]
theorem ff_run_dead {st : Nat → Nat} (hd : ∀ c, c < 3 → st (75 + c) = 25) (n w : Nat) : ff_run st 25 n w = 25 := by
  induction n generalizing w with
  | zero => rfl
  | succ n ih =>
    show st (3 * ff_run st 25 n (w / 3) + w % 3) = 25
    rw [ih]
    exact hd _ (Nat.mod_lt _ (by omega))
/-- the number of ways on -/
def ff_W (st : Nat → Nat) (n s : Nat) : Nat := ff_sm (fun w => if ff_run st s n w = 25 then 0 else 1) (3 ^ n)
theorem ff_W_0 (st : Nat → Nat) {s : Nat} (h : s ≠ 25) : ff_W st 0 s = 1 := by
  show 0 + (if s = 25 then 0 else 1) = 1
  rw [if_neg h]
theorem ff_W_25 {st : Nat → Nat} (hd : ∀ c, c < 3 → st (75 + c) = 25) (n : Nat) : ff_W st n 25 = 0 :=
  ff_sm_z (fun i _ => if_pos (ff_run_dead hd n i))
theorem ff_W_blk (st : Nat → Nat) (s m n x : Nat) : ff_sm (fun u => if ff_run st s (m + n) (x * 3 ^ n + u) = 25 then 0 else 1) (3 ^ n) = ff_W st n (ff_run st s m x) :=
  ff_sm_congr (fun u hu => by rw [ff_run_cut st s m n x u hu])
theorem ff_W_le (st : Nat → Nat) (n s : Nat) : ff_W st n s ≤ 3 ^ n :=
  ff_sm_le (fun i _ => by by_cases h : ff_run st s n i = 25 <;> simp [h])
theorem ff_W_succ (st : Nat → Nat) (n s : Nat) : ff_W st (n + 1) s = ff_sm (fun c => ff_W st n (st (3 * s + c))) 3 := by
  show ff_sm (fun w => if ff_run st s (n + 1) w = 25 then 0 else 1) (3 ^ (n + 1)) = _
  rw [Nat.pow_succ, Nat.mul_comm, ff_sm_blk]
  refine ff_sm_congr (fun c hc => ?_)
  rw [Nat.add_comm n 1, ff_W_blk]
  show ff_W st n (st (3 * s + c % 3)) = _
  rw [Nat.mod_eq_of_lt hc]
/-- what the table of ways holds -/
def ff_V (st : Nat → Nat) (ns n s : Nat) : Nat := if s < ns then ff_W st n s else 0
theorem ff_V_W {st : Nat → Nat} {ns : Nat} (hn : ns ≤ 25) (hd : ∀ c, c < 3 → st (75 + c) = 25) (n : Nat) {t : Nat} (ht : t < ns ∨ t = 25) : ff_V st ns n t = ff_W st n t := by
  unfold ff_V
  rcases ht with h | h
  · rw [if_pos h]
  · subst h
    rw [if_neg (by omega), ff_W_25 hd]
theorem ff_V_succ {st : Nat → Nat} {ns : Nat} (hn : ns ≤ 25) (hd : ∀ c, c < 3 → st (75 + c) = 25) (ht : ∀ i, i < 3 * ns → st i < ns ∨ st i = 25) (n : Nat) {s : Nat} (hs : s < ns) :
    ff_V st ns (n + 1) s = ff_sm (fun c => ff_V st ns n (st (3 * s + c))) 3 := by
  have e : ff_V st ns (n + 1) s = ff_W st (n + 1) s := if_pos hs
  rw [e, ff_W_succ]
  exact ff_sm_congr (fun c hc => (ff_V_W hn hd n (ht _ (by omega))).symm)
theorem ff_run_in {st : Nat → Nat} {ns : Nat} (hd : ∀ c, c < 3 → st (75 + c) = 25) (ht : ∀ i, i < 3 * ns → st i < ns ∨ st i = 25) {s : Nat} (hs : s < ns ∨ s = 25) (n w : Nat) : ff_run st s n w < ns ∨ ff_run st s n w = 25 := by
  induction n generalizing w with
  | zero => exact hs
  | succ n ih =>
    have hm : w % 3 < 3 := Nat.mod_lt _ (by omega)
    show st (3 * ff_run st s n (w / 3) + w % 3) < ns ∨ st (3 * ff_run st s n (w / 3) + w % 3) = 25
    rcases ih (w / 3) with h | h
    · exact ht _ (by omega)
    · rw [h]; exact Or.inr (hd _ hm)
/-- how many words of n letters below k live -/
def ff_A (st : Nat → Nat) (n k : Nat) : Nat := ff_sm (fun w => if ff_run st 0 n w = 25 then 0 else 1) k
theorem ff_A_blk (st : Nat → Nat) (m n x : Nat) : ff_A st (m + n) ((x + 1) * 3 ^ n) = ff_A st (m + n) (x * 3 ^ n) + ff_W st n (ff_run st 0 m x) := by
  show ff_sm _ ((x + 1) * 3 ^ n) = ff_sm _ (x * 3 ^ n) + _
  rw [Nat.add_mul, Nat.one_mul, ff_sm_add, ff_W_blk]
theorem ff_A_step (st : Nat → Nat) (m n x c : Nat) (hc : c < 3) : ff_A st (m + 1 + n) ((3 * x + c + 1) * 3 ^ n) = ff_A st (m + 1 + n) ((3 * x + c) * 3 ^ n) + ff_W st n (st (3 * ff_run st 0 m x + c)) := by
  rw [ff_A_blk]
  show _ + ff_W st n (st (3 * ff_run st 0 m ((3 * x + c) / 3) + (3 * x + c) % 3)) = _
  rw [show (3 * x + c) / 3 = x by omega, show (3 * x + c) % 3 = c by omega]
theorem ff_A_W (st : Nat → Nat) (n : Nat) : ff_A st n (3 ^ n) = ff_W st n 0 := rfl
theorem ff_A_le (st : Nat → Nat) (n k : Nat) : ff_A st n k ≤ k :=
  ff_sm_le (fun i _ => by by_cases h : ff_run st 0 n i = 25 <;> simp [h])
theorem ff_A_mono (st : Nat → Nat) (n : Nat) {j k : Nat} (h : j ≤ k) : ff_A st n j ≤ ff_A st n k := ff_sm_mono _ h
theorem ff_A_succ (st : Nat → Nat) (n k : Nat) : ff_A st n (k + 1) = ff_A st n k + (if ff_run st 0 n k = 25 then 0 else 1) := rfl
/-- no word of more letters lives if none of fewer does -/
theorem ff_W_grow {st : Nat → Nat} (hd : ∀ c, c < 3 → st (75 + c) = 25) {n : Nat} (h : ff_W st n 0 = 0) : ff_W st (n + 1) 0 = 0 := by
  refine ff_sm_z (fun w hw => if_pos ?_)
  have h1 := ff_sm_eq0 h (w / 3) (by rw [Nat.pow_succ] at hw; omega)
  have h2 : ff_run st 0 n (w / 3) = 25 := by
    by_cases e : ff_run st 0 n (w / 3) = 25
    · exact e
    · rw [if_neg e] at h1; omega
  show st (3 * ff_run st 0 n (w / 3) + w % 3) = 25
  rw [h2]
  exact hd _ (Nat.mod_lt _ (by omega))
end
section
/-! counting forward: words by the state they lead to -/
theorem ff_ite_sm (c : Prop) [Decidable c] (f : Nat → Nat) (n : Nat) : (if c then ff_sm f n else 0) = ff_sm (fun i => if c then f i else 0) n := by
  by_cases h : c
  · simp only [if_pos h]
  · simp only [if_neg h]; exact (ff_sm_zero n).symm
/-- how many words of t letters lead to s, alive -/
def ff_N (st : Nat → Nat) (t s : Nat) : Nat := if s = 25 then 0 else ff_sm (fun v => if ff_run st 0 t v = s then 1 else 0) (3 ^ t)
theorem ff_N_0 (st : Nat → Nat) (s : Nat) : ff_N st 0 s = if s = 0 then 1 else 0 := by
  unfold ff_N
  rw [Nat.pow_zero]
  simp only [ff_sm, ff_run]
  by_cases h : s = 0
  · subst h; rfl
  · simp [h, show ¬ 0 = s from fun e => h e.symm]
theorem ff_N_succ {st : Nat → Nat} {ns : Nat} (hn : ns ≤ 25) (h0 : 1 ≤ ns) (hd : ∀ c, c < 3 → st (75 + c) = 25) (ht : ∀ i, i < 3 * ns → st i < ns ∨ st i = 25) (t : Nat) {s : Nat} (hs : s ≠ 25) :
    ff_sm (fun k => if st k = s then ff_N st t (k / 3) else 0) (3 * ns) = ff_N st (t + 1) s := by
  have e1 : ff_sm (fun k => if st k = s then ff_N st t (k / 3) else 0) (3 * ns) = ff_sm (fun i => ff_sm (fun v => if ff_run st 0 t v = i then ff_sm (fun c => if st (3 * i + c) = s then 1 else 0) 3 else 0) (3 ^ t)) ns := by
    rw [Nat.mul_comm 3 ns, ff_sm_blk]
    refine ff_sm_congr (fun i hi => ?_)
    have a1 : ff_sm (fun c => if st (i * 3 + c) = s then ff_N st t ((i * 3 + c) / 3) else 0) 3 = ff_sm (fun c => ff_sm (fun v => if ff_run st 0 t v = i then (if st (3 * i + c) = s then 1 else 0) else 0) (3 ^ t)) 3 := by
      refine ff_sm_congr (fun c hc => ?_)
      have e : ff_N st t ((i * 3 + c) / 3) = ff_sm (fun v => if ff_run st 0 t v = i then 1 else 0) (3 ^ t) := by
        rw [show (i * 3 + c) / 3 = i by omega]
        exact if_neg (by omega)
      rw [e, Nat.mul_comm i 3, ff_ite_sm]
      refine ff_sm_congr (fun v _ => ?_)
      by_cases x : st (3 * i + c) = s <;> by_cases y : ff_run st 0 t v = i <;> simp [x, y]
    rw [a1, ff_sm_swap]
    refine ff_sm_congr (fun v _ => ?_)
    by_cases y : ff_run st 0 t v = i
    · simp only [if_pos y]
    · simp only [if_neg y]; exact ff_sm_zero 3
  have e2 : ff_N st (t + 1) s = ff_sm (fun v => ff_sm (fun c => if st (3 * ff_run st 0 t v + c) = s then 1 else 0) 3) (3 ^ t) := by
    unfold ff_N
    rw [if_neg hs, Nat.pow_succ, ff_sm_blk]
    refine ff_sm_congr (fun v _ => ff_sm_congr (fun c hc => ?_))
    show (if st (3 * ff_run st 0 t ((v * 3 + c) / 3) + (v * 3 + c) % 3) = s then 1 else 0) = _
    rw [show (v * 3 + c) / 3 = v by omega, show (v * 3 + c) % 3 = c by omega]
  rw [e1, e2, ff_sm_swap]
  refine ff_sm_congr (fun v _ => ?_)
  rw [ff_sm_delta (fun i => ff_sm (fun c => if st (3 * i + c) = s then 1 else 0) 3)]
  rcases ff_run_in hd ht (s := 0) (Or.inl h0) t v with h | h
  · rw [if_pos h]
  · rw [h, if_neg (by omega)]
    exact (ff_sm_z (fun c hc => if_neg (by rw [show 3 * 25 + c = 75 + c by omega, hd c hc]; exact fun e => hs e.symm))).symm
/-- some letters, two letters b, some letters more -/
theorem ff_thr {st : Nat → Nat} {ns : Nat} (hn : ns ≤ 25) (h0 : 1 ≤ ns) (hd : ∀ c, c < 3 → st (75 + c) = 25) (ht : ∀ i, i < 3 * ns → st i < ns ∨ st i = 25) (t m b : Nat) (hb : b < 9) :
    ff_sm (fun s => ff_N st t s * ff_V st ns m (ff_run st s 2 b)) ns = ff_sm (fun v => ff_sm (fun u => if ff_run st 0 (t + 2 + m) ((v * 9 + b) * 3 ^ m + u) = 25 then 0 else 1) (3 ^ m)) (3 ^ t) := by
  have e1 : ff_sm (fun s => ff_N st t s * ff_V st ns m (ff_run st s 2 b)) ns = ff_sm (fun s => ff_sm (fun v => if ff_run st 0 t v = s then ff_V st ns m (ff_run st s 2 b) else 0) (3 ^ t)) ns := by
    refine ff_sm_congr (fun s hs => ?_)
    have e : ff_N st t s = ff_sm (fun v => if ff_run st 0 t v = s then 1 else 0) (3 ^ t) := if_neg (by omega)
    rw [e, ← ff_sm_mul]
    refine ff_sm_congr (fun v _ => ?_)
    by_cases y : ff_run st 0 t v = s <;> simp [y]
  rw [e1, ff_sm_swap]
  refine ff_sm_congr (fun v _ => ?_)
  rw [ff_sm_delta (fun s => ff_V st ns m (ff_run st s 2 b)), ff_W_blk]
  have c : ff_run st 0 (t + 2) (v * 9 + b) = ff_run st (ff_run st 0 t v) 2 b := ff_run_cut st 0 t 2 v b hb
  rw [c]
  rcases ff_run_in hd ht (s := 0) (Or.inl h0) t v with h | h
  · rw [if_pos h]
    exact ff_V_W hn hd m (ff_run_in hd ht (Or.inl h) 2 b)
  · rw [h, if_neg (by omega), ff_run_dead hd, ff_W_25 hd]
/-- the letters 0 of a word -/
def ff_zz : Nat → Nat → Nat
  | 0, _ => 0
  | n + 1, w => ff_zz n (w / 3) + (if w % 3 = 0 then 1 else 0)
theorem ff_zz_le (n w : Nat) : ff_zz n w ≤ n := by
  induction n generalizing w with
  | zero => exact Nat.le_refl 0
  | succ n ih =>
    have h := ih (w / 3)
    show ff_zz n (w / 3) + (if w % 3 = 0 then 1 else 0) ≤ n + 1
    by_cases g : w % 3 = 0
    · rw [if_pos g]; omega
    · rw [if_neg g]; omega
/-- how many words of t letters lead, alive, to the place x = 10 * state + letters 0 -/
def ff_T (st : Nat → Nat) (t x : Nat) : Nat := ff_sm (fun v => if ff_run st 0 t v = 25 then 0 else if 10 * ff_run st 0 t v + ff_zz t v = x then 1 else 0) (3 ^ t)
theorem ff_T_0 (st : Nat → Nat) (x : Nat) : ff_T st 0 x = if x = 0 then 1 else 0 := by
  unfold ff_T
  rw [Nat.pow_zero]
  simp only [ff_sm, ff_run, ff_zz]
  by_cases h : x = 0
  · subst h; rfl
  · simp [h, show ¬ 0 = x from fun e => h e.symm]
/-- where the place i goes by the letter c -/
def ff_g (st : Nat → Nat) (i c x : Nat) : Nat :=
  if st (3 * (i / 10) + c) = 25 then 0 else if 10 ≤ i % 10 + (if c = 0 then 1 else 0) then 0 else if 10 * st (3 * (i / 10) + c) + (i % 10 + (if c = 0 then 1 else 0)) = x then 1 else 0
theorem ff_T_succ {st : Nat → Nat} {ns : Nat} (hn : ns ≤ 25) (h0 : 1 ≤ ns) (hd : ∀ c, c < 3 → st (75 + c) = 25) (ht : ∀ i, i < 3 * ns → st i < ns ∨ st i = 25) (t x : Nat) (h8 : t ≤ 8) :
    ff_sm (fun i => ff_sm (fun c => ff_g st i c x * ff_T st t i) 3) (10 * ns) = ff_T st (t + 1) x := by
  have e1 : ff_sm (fun i => ff_sm (fun c => ff_g st i c x * ff_T st t i) 3) (10 * ns) = ff_sm (fun i => ff_sm (fun v => if 10 * ff_run st 0 t v + ff_zz t v = i then (if ff_run st 0 t v = 25 then 0 else ff_sm (fun c => ff_g st i c x) 3) else 0) (3 ^ t)) (10 * ns) := by
    refine ff_sm_congr (fun i hi => ?_)
    rw [ff_sm_mul (fun c => ff_g st i c x), Nat.mul_comm]
    unfold ff_T
    rw [← ff_sm_mul]
    refine ff_sm_congr (fun v _ => ?_)
    by_cases y : ff_run st 0 t v = 25 <;> by_cases z : 10 * ff_run st 0 t v + ff_zz t v = i <;> simp [y, z]
  have e2 : ff_T st (t + 1) x = ff_sm (fun v => ff_sm (fun c => if st (3 * ff_run st 0 t v + c) = 25 then 0 else if 10 * st (3 * ff_run st 0 t v + c) + (ff_zz t v + (if c = 0 then 1 else 0)) = x then 1 else 0) 3) (3 ^ t) := by
    unfold ff_T
    rw [Nat.pow_succ, ff_sm_blk]
    refine ff_sm_congr (fun v _ => ff_sm_congr (fun c hc => ?_))
    have r : ff_run st 0 (t + 1) (v * 3 + c) = st (3 * ff_run st 0 t v + c) := by
      show st (3 * ff_run st 0 t ((v * 3 + c) / 3) + (v * 3 + c) % 3) = _
      rw [show (v * 3 + c) / 3 = v by omega, show (v * 3 + c) % 3 = c by omega]
    have z : ff_zz (t + 1) (v * 3 + c) = ff_zz t v + (if c = 0 then 1 else 0) := by
      show ff_zz t ((v * 3 + c) / 3) + (if (v * 3 + c) % 3 = 0 then 1 else 0) = _
      rw [show (v * 3 + c) / 3 = v by omega, show (v * 3 + c) % 3 = c by omega]
    rw [r, z]
  rw [e1, e2, ff_sm_swap]
  refine ff_sm_congr (fun v _ => ?_)
  rw [ff_sm_delta (fun i => if ff_run st 0 t v = 25 then 0 else ff_sm (fun c => ff_g st i c x) 3)]
  have hz := ff_zz_le t v
  rcases ff_run_in hd ht (s := 0) (Or.inl h0) t v with h | h
  · rw [if_pos (by omega), if_neg (by omega)]
    refine ff_sm_congr (fun c hc => ?_)
    unfold ff_g
    rw [show (10 * ff_run st 0 t v + ff_zz t v) / 10 = ff_run st 0 t v by omega, show (10 * ff_run st 0 t v + ff_zz t v) % 10 = ff_zz t v by omega]
    have hc10 : ¬ 10 ≤ ff_zz t v + (if c = 0 then 1 else 0) := by
      by_cases g : c = 0
      · rw [if_pos g]; omega
      · rw [if_neg g]; omega
    rw [if_neg hc10]
  · have r0 : ff_sm (fun c => if st (3 * ff_run st 0 t v + c) = 25 then 0 else if 10 * st (3 * ff_run st 0 t v + c) + (ff_zz t v + (if c = 0 then 1 else 0)) = x then 1 else 0) 3 = 0 :=
      ff_sm_z (fun c hc => if_pos (by rw [h, show 3 * 25 + c = 75 + c by omega]; exact hd c hc))
    rw [r0, if_pos h]
    by_cases g : 10 * ff_run st 0 t v + ff_zz t v < 10 * ns
    · rw [if_pos g]
    · rw [if_neg g]
theorem ff_T_fin {st : Nat → Nat} {ns : Nat} (h0 : 1 ≤ ns) (hd : ∀ c, c < 3 → st (75 + c) = 25) (ht : ∀ i, i < 3 * ns → st i < ns ∨ st i = 25) (t k : Nat) (h9 : t ≤ 9) (hk : k ≤ 9) :
    ff_sm (fun s => ff_T st t (10 * s + k)) ns = ff_sm (fun v => if ff_run st 0 t v = 25 then 0 else if ff_zz t v = k then 1 else 0) (3 ^ t) := by
  unfold ff_T
  rw [ff_sm_swap]
  refine ff_sm_congr (fun v _ => ?_)
  have hz := ff_zz_le t v
  by_cases y : ff_run st 0 t v = 25
  · rw [if_pos y]
    exact ff_sm_z (fun s _ => if_pos y)
  · have hr : ff_run st 0 t v < ns := by
      rcases ff_run_in hd ht (s := 0) (Or.inl h0) t v with h | h
      · exact h
      · exact absurd h y
    rw [if_neg y]
    by_cases g : ff_zz t v = k
    · rw [if_pos g]
      have e : ff_sm (fun s => if ff_run st 0 t v = 25 then 0 else if 10 * ff_run st 0 t v + ff_zz t v = 10 * s + k then 1 else 0) ns = ff_sm (fun s => if ff_run st 0 t v = s then (fun _ => 1) s else 0) ns := by
        refine ff_sm_congr (fun s _ => ?_)
        rw [if_neg y]
        by_cases q : ff_run st 0 t v = s
        · rw [if_pos q, if_pos (by omega)]
        · rw [if_neg q, if_neg (by omega)]
      rw [e, ff_sm_delta (fun _ => 1), if_pos hr]
    · rw [if_neg g]
      exact ff_sm_z (fun s _ => by rw [if_neg y, if_neg (by omega)])
/-! the law's four counts of words of four letters -/
theorem ff_cut_a (p : Nat → Nat) {b : Nat} (hb : b < 9) : ff_sm (fun w => if w / 9 = b then p w else 0) 81 = ff_sm (fun u => p (b * 9 + u)) 9 := by
  have e := ff_sm_blk (fun w => if w / 9 = b then p w else 0) 9 9
  rw [show 81 = 9 * 9 from rfl, e]
  have e2 : ff_sm (fun i => ff_sm (fun j => if (i * 9 + j) / 9 = b then p (i * 9 + j) else 0) 9) 9 = ff_sm (fun i => if b = i then (fun i => ff_sm (fun j => p (i * 9 + j)) 9) i else 0) 9 := by
    refine ff_sm_congr (fun i _ => ?_)
    rw [ff_ite_sm]
    refine ff_sm_congr (fun j hj => ?_)
    by_cases h : b = i
    · rw [if_pos h, if_pos (by omega)]
    · rw [if_neg h, if_neg (by omega)]
  rw [e2, ff_sm_delta (fun i => ff_sm (fun j => p (i * 9 + j)) 9), if_pos hb]
theorem ff_cut_d (p : Nat → Nat) (r : Nat → Nat) (hr : ∀ i, i < 9 → r i < 9) (q : Nat → Prop) [DecidablePred q] (hq : ∀ i j, i < 9 → j < 9 → (q (i * 9 + j) ↔ r i = j)) : ff_sm (fun w => if q w then p w else 0) 81 = ff_sm (fun v => p (v * 9 + r v)) 9 := by
  have e := ff_sm_blk (fun w => if q w then p w else 0) 9 9
  rw [show 81 = 9 * 9 from rfl, e]
  refine ff_sm_congr (fun i hi => ?_)
  have e2 : ff_sm (fun j => if q (i * 9 + j) then p (i * 9 + j) else 0) 9 = ff_sm (fun j => if r i = j then (fun j => p (i * 9 + j)) j else 0) 9 := by
    refine ff_sm_congr (fun j hj => ?_)
    by_cases h : r i = j
    · rw [if_pos h, if_pos ((hq i j hi hj).mpr h)]
    · rw [if_neg h, if_neg (fun z => h ((hq i j hi hj).mp z))]
  rw [e2, ff_sm_delta (fun j => p (i * 9 + j)), if_pos (hr i hi)]
theorem ff_cut_b (p : Nat → Nat) {b : Nat} (hb : b < 9) : ff_sm (fun w => if w % 9 = b then p w else 0) 81 = ff_sm (fun v => p (v * 9 + b)) 9 :=
  ff_cut_d p (fun _ => b) (fun _ _ => hb) (fun w => w % 9 = b) (fun i j _ hj => by constructor <;> intro h <;> omega)
def ff_rev (v : Nat) : Nat := v % 3 * 3 + v / 3
theorem ff_rev_lt {v : Nat} (h : v < 9) : ff_rev v < 9 := by unfold ff_rev; omega
theorem ff_cut_e (p : Nat → Nat) : ff_sm (fun w => if w / 9 = ff_rev (w % 9) then p w else 0) 81 = ff_sm (fun v => p (v * 9 + ff_rev v)) 9 :=
  ff_cut_d p ff_rev (fun _ => ff_rev_lt) (fun w => w / 9 = ff_rev (w % 9)) (fun i j hi hj => by
    rw [show (i * 9 + j) / 9 = i by omega, show (i * 9 + j) % 9 = j by omega]
    unfold ff_rev
    constructor <;> intro h <;> omega)
theorem ff_cut_c (p : Nat → Nat) {b : Nat} (hb : b < 9) : ff_sm (fun w => if w / 3 % 9 = b then p w else 0) 81 = ff_sm (fun v => ff_sm (fun u => p ((v * 9 + b) * 3 + u)) 3) 3 := by
  have e := ff_sm_blk (fun w => if w / 3 % 9 = b then p w else 0) 3 27
  rw [show 81 = 3 * 27 from rfl, e]
  refine ff_sm_congr (fun v _ => ?_)
  have e1 := ff_sm_blk (fun j => if (v * 27 + j) / 3 % 9 = b then p (v * 27 + j) else 0) 9 3
  rw [show 27 = 9 * 3 from rfl, e1]
  have e2 : ff_sm (fun i => ff_sm (fun j => if (v * 27 + (i * 3 + j)) / 3 % 9 = b then p (v * 27 + (i * 3 + j)) else 0) 3) 9 = ff_sm (fun i => if b = i then (fun i => ff_sm (fun j => p ((v * 9 + i) * 3 + j)) 3) i else 0) 9 := by
    refine ff_sm_congr (fun i hi => ?_)
    rw [ff_ite_sm]
    refine ff_sm_congr (fun j hj => ?_)
    by_cases h : b = i
    · rw [if_pos h, if_pos (by omega), show v * 27 + (i * 3 + j) = (v * 9 + i) * 3 + j by omega]
    · rw [if_neg h, if_neg (by omega)]
  rw [e2, ff_sm_delta (fun i => ff_sm (fun j => p ((v * 9 + i) * 3 + j)) 3), if_pos hb]
/-- a sum over the living words, by their ranks -/
theorem ff_by_rank (al p : Nat → Nat) (un : Nat → Nat) (m : Nat) (h1 : ∀ v, v < m → al v = 0 ∨ al v = 1) (hu : ∀ v, v < m → al v = 1 → un (ff_sm al v) = v) :
    ff_sm (fun i => p (un i)) (ff_sm al m) = ff_sm (fun v => al v * p v) m := by
  induction m with
  | zero => rfl
  | succ m ih =>
    have ih' := ih (fun v hv => h1 v (by omega)) (fun v hv => hu v (by omega))
    show ff_sm (fun i => p (un i)) (ff_sm al m + al m) = ff_sm (fun v => al v * p v) m + al m * p m
    rcases h1 m (by omega) with h | h
    · rw [h, Nat.add_zero, ih', Nat.zero_mul, Nat.add_zero]
    · rw [h, Nat.one_mul]
      show ff_sm (fun i => p (un i)) (ff_sm al m) + p (un (ff_sm al m)) = _
      rw [ih', hu m (by omega) h]
end
section
/-! the machine dies just where a piece stands -/
/-- a piece stands somewhere in the n low letters of w -/
def ff_sd (F : Nat → Bool) : Nat → Nat → Bool
  | 0, _ => false
  | n + 1, w => F (3 + w % 3) || ((decide (1 ≤ n) && F (9 + w % 9)) || ((decide (2 ≤ n) && F (27 + w % 27)) || ff_sd F n (w / 3)))
theorem ff_sd_succ (F : Nat → Bool) (n w : Nat) : ff_sd F (n + 1) w = true ↔ F (3 + w % 3) = true ∨ (1 ≤ n ∧ F (9 + w % 9) = true) ∨ (2 ≤ n ∧ F (27 + w % 27) = true) ∨ ff_sd F n (w / 3) = true := by
  simp [ff_sd]
theorem ff_sd_or (F G : Nat → Bool) (n w : Nat) : ff_sd (fun p => F p || G p) n w = (ff_sd F n w || ff_sd G n w) := by
  induction n generalizing w with
  | zero => rfl
  | succ n ih =>
    simp only [ff_sd, ih]
    cases F (3 + w % 3) <;> cases G (3 + w % 3) <;> cases F (9 + w % 9) <;> cases G (9 + w % 9) <;> cases F (27 + w % 27) <;> cases G (27 + w % 27) <;> cases ff_sd F n (w / 3) <;> cases ff_sd G n (w / 3) <;> cases decide (1 ≤ n) <;> cases decide (2 ≤ n) <;> rfl
/-- y is a known beginning -/
def ff_kn (ns : Nat) (kn : Nat → Nat) (y : Nat) : Prop := ∃ t, t < ns ∧ kn t = y
/-- the known beginnings -/
def ff_K (F : Nat → Bool) (ns : Nat) (kn : Nat → Nat) : Prop :=
  1 ≤ ns ∧ kn 0 = 1 ∧ (∀ s, s < ns → kn s = 1 ∨ (3 ≤ kn s ∧ kn s < 6) ∨ (9 ≤ kn s ∧ kn s < 18 ∧ ff_kn ns kn (kn s / 3))) ∧ (∀ p, F p = true → 9 ≤ p → ff_kn ns kn (p / 3))
/-- the word x (with its leading 1) ends with a piece -/
def ff_dd (F : Nat → Bool) (x : Nat) : Prop := F (3 + x % 3) = true ∨ (9 ≤ x ∧ F (9 + x % 9) = true) ∨ (27 ≤ x ∧ F (27 + x % 27) = true)
/-- y is the longest known beginning that x ends with -/
def ff_lg (ns : Nat) (kn : Nat → Nat) (x y : Nat) : Prop :=
  (9 ≤ x ∧ ff_kn ns kn (9 + x % 9) ∧ y = 9 + x % 9) ∨ (¬ (9 ≤ x ∧ ff_kn ns kn (9 + x % 9)) ∧ ff_kn ns kn (3 + x % 3) ∧ y = 3 + x % 3) ∨ (¬ (9 ≤ x ∧ ff_kn ns kn (9 + x % 9)) ∧ ¬ ff_kn ns kn (3 + x % 3) ∧ y = 1)
/-- where the machine goes behind x -/
def ff_to (F : Nat → Bool) (ns : Nat) (kn : Nat → Nat) (x t : Nat) : Prop := (t = 25 ∧ ff_dd F x) ∨ (t < ns ∧ ¬ ff_dd F x ∧ ff_lg ns kn x (kn t))
/-- y is the longest known beginning that the n letters of w end with -/
def ff_sx (ns : Nat) (kn : Nat → Nat) (n w y : Nat) : Prop :=
  (2 ≤ n ∧ ff_kn ns kn (9 + w % 9) ∧ y = 9 + w % 9) ∨ (¬ (2 ≤ n ∧ ff_kn ns kn (9 + w % 9)) ∧ (1 ≤ n ∧ ff_kn ns kn (3 + w % 3)) ∧ y = 3 + w % 3) ∨ (¬ (2 ≤ n ∧ ff_kn ns kn (9 + w % 9)) ∧ ¬ (1 ≤ n ∧ ff_kn ns kn (3 + w % 3)) ∧ y = 1)
theorem ff_step {F : Nat → Bool} {ns : Nat} {kn : Nat → Nat} (hK : ff_K F ns kn) {n w s : Nat} (hs : s < ns) (h0 : ff_sd F n (w / 3) = false) (hx : ff_sx ns kn n (w / 3) (kn s)) {t : Nat} (ht : ff_to F ns kn (3 * kn s + w % 3) t) :
    (ff_sd F (n + 1) w = true ∧ t = 25) ∨ (ff_sd F (n + 1) w = false ∧ t < ns ∧ ff_sx ns kn (n + 1) w (kn t)) := by
  have hc : w % 3 < 3 := Nat.mod_lt _ (by omega)
  have hd : ff_dd F (3 * kn s + w % 3) ↔ ff_sd F (n + 1) w = true := by
    rw [ff_sd_succ, h0]
    unfold ff_dd
    rcases hx with ⟨a1, a2, a3⟩ | ⟨a1, a2, a3⟩ | ⟨a1, a2, a3⟩
    · rw [a3, show (3 * (9 + w / 3 % 9) + w % 3) % 3 = w % 3 by omega, show (3 * (9 + w / 3 % 9) + w % 3) % 9 = w % 9 by omega, show (3 * (9 + w / 3 % 9) + w % 3) % 27 = w % 27 by omega]
      constructor
      · rintro (h | ⟨_, h⟩ | ⟨_, h⟩)
        · exact Or.inl h
        · exact Or.inr (Or.inl ⟨by omega, h⟩)
        · exact Or.inr (Or.inr (Or.inl ⟨by omega, h⟩))
      · rintro (h | ⟨_, h⟩ | ⟨_, h⟩ | h)
        · exact Or.inl h
        · exact Or.inr (Or.inl ⟨by omega, h⟩)
        · exact Or.inr (Or.inr ⟨by omega, h⟩)
        · exact absurd h (by decide)
    · rw [a3, show (3 * (3 + w / 3 % 3) + w % 3) % 3 = w % 3 by omega, show (3 * (3 + w / 3 % 3) + w % 3) % 9 = w % 9 by omega]
      constructor
      · rintro (h | ⟨_, h⟩ | ⟨q, h⟩)
        · exact Or.inl h
        · exact Or.inr (Or.inl ⟨a2.1, h⟩)
        · omega
      · rintro (h | ⟨_, h⟩ | ⟨q, h⟩ | h)
        · exact Or.inl h
        · exact Or.inr (Or.inl ⟨by omega, h⟩)
        · have g := hK.2.2.2 _ h (by omega)
          rw [show (27 + w % 27) / 3 = 9 + w / 3 % 9 by omega] at g
          exact absurd ⟨q, g⟩ a1
        · exact absurd h (by decide)
    · rw [a3, show (3 * 1 + w % 3) % 3 = w % 3 by omega]
      constructor
      · rintro (h | ⟨q, h⟩ | ⟨q, h⟩)
        · exact Or.inl h
        · omega
        · omega
      · rintro (h | ⟨q, h⟩ | ⟨q, h⟩ | h)
        · exact Or.inl h
        · have g := hK.2.2.2 _ h (by omega)
          rw [show (9 + w % 9) / 3 = 3 + w / 3 % 3 by omega] at g
          exact absurd ⟨q, g⟩ a2
        · have g := hK.2.2.2 _ h (by omega)
          rw [show (27 + w % 27) / 3 = 9 + w / 3 % 9 by omega] at g
          exact absurd ⟨q, g⟩ a1
        · exact absurd h (by decide)
  have hl : ∀ y, ff_lg ns kn (3 * kn s + w % 3) y → ff_sx ns kn (n + 1) w y := by
    intro y
    unfold ff_lg ff_sx
    rcases hx with ⟨a1, a2, a3⟩ | ⟨a1, a2, a3⟩ | ⟨a1, a2, a3⟩
    · rw [a3, show (3 * (9 + w / 3 % 9) + w % 3) % 3 = w % 3 by omega, show (3 * (9 + w / 3 % 9) + w % 3) % 9 = w % 9 by omega]
      rintro (⟨h1, h2, h3⟩ | ⟨h1, h2, h3⟩ | ⟨h1, h2, h3⟩)
      · exact Or.inl ⟨by omega, h2, h3⟩
      · exact Or.inr (Or.inl ⟨fun z => h1 ⟨by omega, z.2⟩, ⟨by omega, h2⟩, h3⟩)
      · exact Or.inr (Or.inr ⟨fun z => h1 ⟨by omega, z.2⟩, fun z => h2 z.2, h3⟩)
    · rw [a3, show (3 * (3 + w / 3 % 3) + w % 3) % 3 = w % 3 by omega, show (3 * (3 + w / 3 % 3) + w % 3) % 9 = w % 9 by omega]
      rintro (⟨h1, h2, h3⟩ | ⟨h1, h2, h3⟩ | ⟨h1, h2, h3⟩)
      · exact Or.inl ⟨by omega, h2, h3⟩
      · exact Or.inr (Or.inl ⟨fun z => h1 ⟨by omega, z.2⟩, ⟨by omega, h2⟩, h3⟩)
      · exact Or.inr (Or.inr ⟨fun z => h1 ⟨by omega, z.2⟩, fun z => h2 z.2, h3⟩)
    · rw [a3, show (3 * 1 + w % 3) % 3 = w % 3 by omega]
      have no : ¬ (2 ≤ n + 1 ∧ ff_kn ns kn (9 + w % 9)) := by
        rintro ⟨q, t, t1, t2⟩
        rcases hK.2.2.1 t t1 with g | g | ⟨_, _, g⟩
        · omega
        · omega
        · rw [t2, show (9 + w % 9) / 3 = 3 + w / 3 % 3 by omega] at g
          exact a2 ⟨by omega, g⟩
      rintro (⟨h1, h2, h3⟩ | ⟨h1, h2, h3⟩ | ⟨h1, h2, h3⟩)
      · omega
      · exact Or.inr (Or.inl ⟨no, ⟨by omega, h2⟩, h3⟩)
      · exact Or.inr (Or.inr ⟨no, fun z => h2 z.2, h3⟩)
  rcases ht with ⟨k1, k2⟩ | ⟨k1, k2, k3⟩
  · exact Or.inl ⟨hd.mp k2, k1⟩
  · refine Or.inr ⟨?_, k1, hl _ k3⟩
    cases h : ff_sd F (n + 1) w
    · rfl
    · exact absurd (hd.mpr h) k2
theorem ff_ac {F : Nat → Bool} {ns : Nat} {kn st : Nat → Nat} (hK : ff_K F ns kn) (hd : ∀ c, c < 3 → st (75 + c) = 25) (hs : ∀ s c, s < ns → c < 3 → ff_to F ns kn (3 * kn s + c) (st (3 * s + c))) (n : Nat) :
    ∀ w, (ff_sd F n w = true ∧ ff_run st 0 n w = 25) ∨ (ff_sd F n w = false ∧ ff_run st 0 n w < ns ∧ ff_sx ns kn n w (kn (ff_run st 0 n w))) := by
  induction n with
  | zero => exact fun w => Or.inr ⟨rfl, hK.1, Or.inr (Or.inr ⟨fun z => absurd z.1 (by omega), fun z => absurd z.1 (by omega), hK.2.1⟩)⟩
  | succ n ih =>
    intro w
    have hc : w % 3 < 3 := Nat.mod_lt _ (by omega)
    rcases ih (w / 3) with ⟨h1, h2⟩ | ⟨h1, h2, h3⟩
    · refine Or.inl ⟨(ff_sd_succ F n w).mpr (Or.inr (Or.inr (Or.inr h1))), ?_⟩
      show st (3 * ff_run st 0 n (w / 3) + w % 3) = 25
      rw [h2]
      exact hd _ hc
    · exact ff_step hK h2 h1 h3 (hs _ _ h2 hc)
theorem ff_ac25 {F : Nat → Bool} {ns : Nat} {kn st : Nat → Nat} (hn : ns ≤ 25) (hK : ff_K F ns kn) (hd : ∀ c, c < 3 → st (75 + c) = 25) (hs : ∀ s c, s < ns → c < 3 → ff_to F ns kn (3 * kn s + c) (st (3 * s + c))) (n w : Nat) :
    ff_run st 0 n w = 25 ↔ ff_sd F n w = true := by
  rcases ff_ac hK hd hs n w with ⟨h1, h2⟩ | ⟨h1, h2, _⟩
  · exact ⟨fun _ => h1, fun _ => h2⟩
  · rw [h1]
    exact ⟨fun z => absurd z (by omega), fun z => absurd z (by decide)⟩
end
section
/-! the class's small methods -/
theorem ff_p3 (n : Nat) : 0 < 3 ^ n := Nat.pow_pos (by omega)
theorem ff_p9 {n : Nat} (h : n ≤ 9) : 3 ^ n < 2 ^ 31 := Nat.lt_of_le_of_lt (Nat.pow_le_pow_right (by omega) h) (by decide)
theorem ff_power {post : Int32 → Prop} {x : Int32} (n : Nat) (hn : n ≤ 9) (h : post (nI (3 ^ n))) (hx : x = nI n := by rfl) : wpX_power post () x := by
  subst hx
  exact pk_loop (fun f i s => wX_power_4 post (nI n) f s (nI i)) (fun i s => s = nI (3 ^ i)) n 0 1 (by omega) rfl
    (fun f s hs => pk_le n n (fun _ => by rw [hs]; exact h) (fun z => absurd z (by omega)))
    (fun f i s hi hs hw => pk_le n i (fun z => absurd z (by omega)) (fun _ => nm_e (nm_r (nI_1 i) (hw _ (by rw [hs]; exact (pk_mul (3 ^ i) 3).trans (congrArg nI (Nat.pow_succ 3 i).symm))))))
/-- a piece's number -/
def ff_val (p : Nat) : Prop := (3 ≤ p ∧ p < 6) ∨ (9 ≤ p ∧ p < 18) ∨ (27 ≤ p ∧ p < 54)
def ff_sz (p : Nat) : Nat := if p < 6 then 1 else if p < 18 then 2 else 3
theorem ff_sizeOf {post : Int32 → Prop} {x : Int32} (p : Nat) (hp : p < 54) (h : post (nI (ff_sz p))) (hx : x = nI p := by rfl) : wpX_sizeOf post () x := by
  subst hx
  unfold ff_sz at h
  refine ⟨4, pk_le 4 1 (fun z => absurd z (by omega)) (fun _ => ff_power 1 (by omega) (pk_lt p 6 (fun z => ?_) (fun z => nm_r (nI_1 1) ?_)))⟩
  · rw [if_pos z] at h
    exact h
  · refine pk_le 4 2 (fun z => absurd z (by omega)) (fun _ => ff_power 2 (by omega) (pk_lt p 18 (fun z2 => ?_) (fun z2 => nm_r (nI_1 2) ?_)))
    · rw [if_neg (by omega), if_pos z2] at h
      exact h
    · refine pk_le 4 3 (fun z => absurd z (by omega)) (fun _ => ff_power 3 (by omega) (pk_lt p 54 (fun z3 => ?_) (fun z3 => absurd z3 (by omega))))
      rw [if_neg (by omega), if_neg (by omega)] at h
      exact h
theorem ff_sz_in {p : Nat} (h : ff_val p) : 1 ≤ ff_sz p ∧ ff_sz p ≤ 3 ∧ 3 ^ ff_sz p ≤ p ∧ p < 2 * 3 ^ ff_sz p := by
  unfold ff_sz
  rcases h with h | h | h
  · rw [if_pos (by omega)]; omega
  · rw [if_neg (by omega), if_pos (by omega)]; omega
  · rw [if_neg (by omega), if_neg (by omega)]; omega
theorem ff_val_lt {p : Nat} (h : ff_val p) : p < 54 := by
  unfold ff_val at h; omega
theorem ff_isPiece {post : Int32 → Prop} {x : Int32} (p : Nat) (hp : ff_val p) (h : post 1) (hx : x = nI p := by rfl) : wpX_isPiece post () x := by
  subst hx
  obtain ⟨h1, h2, h3, h4⟩ := ff_sz_in hp
  have h5 := ff_val_lt hp
  exact ff_sizeOf p h5 (ff_power (ff_sz p) (by omega) (pk_lt p (3 ^ ff_sz p) (fun z => absurd z (by omega)) (fun _ => ff_power (ff_sz p) (by omega) (pk_le (2 * 3 ^ ff_sz p) p (fun z => absurd z (by omega)) (fun _ => h) (pk_mul 2 _)))))
theorem ff_isLength {post : Int32 → Prop} {x : Int32} (n : Nat) (hn : n ≤ 9) (h : post 1) (hx : x = nI n := by rfl) : wpX_isLength post () x := by
  subst hx
  exact pk_lt n 0 (fun z => absurd z (by omega)) (fun _ => pk_lt 9 n (fun z => absurd z (by omega)) (fun _ => h))
theorem ff_refused {post : Int32 → Prop} {x y : Int32} (n w : Nat) (hn : n ≤ 9) (hw : w < 3 ^ n) (h : post 0) (hx : x = nI n := by rfl) (hy : y = nI w := by rfl) : wpX_refused post () x y := by
  subst hx hy
  have h9 := ff_p9 hn
  exact ff_isLength n hn (br_f (by decide) (pk_lt w 0 (fun z => absurd z (by omega)) (fun _ => ff_power n hn (pk_lt w (3 ^ n) (fun _ => h) (fun z => absurd z (by omega))))))
theorem ff_stateOf {post : Int32 → Prop} {f0 f2 x : Int32} {a1 a2 a3 : Nat → Int32} {a4 a5 a6 : Nat → Int64} {a7 a8 : Nat → Int32} {ns : Nat} {kn : Nat → Nat} (hn : ns ≤ 26) (ha : ∀ s, s < ns → a2 s = nI (kn s) ∧ kn s < 18)
    (y : Nat) (hy : y < 2 ^ 31) (H1 : ∀ s, s < ns → kn s = y → post (nI s)) (H2 : ¬ ff_kn ns kn y → post (-1)) (hx : x = nI y := by rfl) : wpX_stateOf post (f0, nI ns, f2, a1, a2, a3, a4, a5, a6, a7, a8) x := by
  subst hx
  exact pk_loop (σ := Unit) (fun n i _ => wX_stateOf_2 post (nI y) f0 (nI ns) f2 a1 a2 a3 a4 a5 a6 a7 a8 n (nI i)) (fun i _ => ∀ s, s < i → kn s ≠ y) ns 0 () (by omega) (fun s hs => absurd hs (by omega))
    (fun n _ h => pk_le ns ns (fun _ => H2 (fun ⟨t, t1, t2⟩ => h t t1 t2)) (fun z => absurd z (by omega)))
    (fun n i _ hi h hw => pk_le ns i (fun z => absurd z (by omega)) (fun _ => ⟨pk_in i 26 (by omega), pk_eq (kn i) y (fun e => H1 i hi e) (fun e => nm_r (nI_1 i) (hw () (lt_s h e))) (by rw [nI_clamp (by omega)]; exact (ha i hi).1) rfl (by have := (ha i hi).2; omega) hy⟩))
theorem ff_place {post : Int32 → Prop} {f1 f2 x : Int32} {a1 a2 a3 : Nat → Int32} {a4 a5 a6 : Nat → Int64} {a7 a8 : Nat → Int32} {cnt : Nat} {pl : Nat → Nat} (hn : cnt ≤ 6) (ha : ∀ k, k < cnt → a1 k = nI (pl k) ∧ pl k < 54)
    (y : Nat) (hy : y < 2 ^ 31) (H1 : ∀ k, k < cnt → pl k = y → post (nI k)) (H2 : (∀ k, k < cnt → pl k ≠ y) → post (-1)) (hx : x = nI y := by rfl) : wpX_place post (nI cnt, f1, f2, a1, a2, a3, a4, a5, a6, a7, a8) x := by
  subst hx
  exact pk_loop (σ := Unit) (fun n i _ => wX_place_2 post (nI y) (nI cnt) f1 f2 a1 a2 a3 a4 a5 a6 a7 a8 n (nI i)) (fun i _ => ∀ s, s < i → pl s ≠ y) cnt 0 () (by omega) (fun s hs => absurd hs (by omega))
    (fun n _ h => pk_le cnt cnt (fun _ => H2 h) (fun z => absurd z (by omega)))
    (fun n i _ hi h hw => pk_le cnt i (fun z => absurd z (by omega)) (fun _ => ⟨pk_in i 6 (by omega), pk_eq (pl i) y (fun e => H1 i hi e) (fun e => nm_r (nI_1 i) (hw () (lt_s h e))) (by rw [nI_clamp (by omega)]; exact (ha i hi).1) rfl (by have := (ha i hi).2; omega) hy⟩))
/-! target -/
theorem ff_mod_sub {x j m : Nat} (hj : j ≤ m) (hx : 3 ^ m ≤ x) : (x - 3 ^ m) % 3 ^ j = x % 3 ^ j := by
  obtain ⟨k, rfl⟩ := Nat.exists_eq_add_of_le hj
  rw [Nat.pow_add] at hx ⊢
  have e : x = (x - 3 ^ j * 3 ^ k) + 3 ^ j * 3 ^ k := by omega
  have g := Nat.add_mul_mod_self_left (x - 3 ^ j * 3 ^ k) (3 ^ j) (3 ^ k)
  rw [← e] at g
  exact g.symm
theorem ff_end {x j m : Nat} (hj : j ≤ m) (hm : m ≤ 9) (hx : 3 ^ m ≤ x) (h2 : x < 2 ^ 20) : nI (3 ^ j) + (nI (x - 3 ^ m) - nI (x - 3 ^ m) / nI (3 ^ j) * nI (3 ^ j)) = nI (3 ^ j + x % 3 ^ j) := by
  rw [pk_rem (Nat.lt_of_le_of_lt (Nat.sub_le _ _) (by omega)) (ff_p3 j) (ff_p9 (by omega)), nI_add, ff_mod_sub hj hx]
theorem ff_end_lt {x j : Nat} (hj : j ≤ 9) (h2 : x < 2 ^ 20) : 3 ^ j + x % 3 ^ j < 2 ^ 31 := by
  have h : 3 ^ j ≤ 3 ^ 9 := Nat.pow_le_pow_right (by omega) hj
  have g : x % 3 ^ j ≤ x := Nat.mod_le _ _
  have e : 3 ^ 9 = 19683 := rfl
  omega
theorem ff_t90 {post : Int32 → Prop} {f0 f2 : Int32} {a1 a2 a3 : Nat → Int32} {a4 a5 a6 : Nat → Int64} {a7 a8 : Nat → Int32} {ns : Nat} {kn : Nat → Nat} (hn : ns ≤ 26) (ha : ∀ s, s < ns → a2 s = nI (kn s) ∧ kn s < 18)
    {m x : Nat} (hm : m ≤ 3) (hx : 3 ^ m ≤ x) (hx2 : x < 2 ^ 20) (H0 : (∀ j, 1 ≤ j → j ≤ m → ¬ ff_kn ns kn (3 ^ j + x % 3 ^ j)) → post 0)
    (Hs : ∀ j s, 1 ≤ j → j ≤ m → s < ns → kn s = 3 ^ j + x % 3 ^ j → (∀ i, j < i → i ≤ m → ¬ ff_kn ns kn (3 ^ i + x % 3 ^ i)) → post (nI s)) :
    ∃ n, wX_target_90 post (nI m) (nI (x - 3 ^ m)) f0 (nI ns) f2 a1 a2 a3 a4 a5 a6 a7 a8 n 0 :=
  pk_loop (σ := Unit) (fun n k _ => wX_target_90 post (nI m) (nI (x - 3 ^ m)) f0 (nI ns) f2 a1 a2 a3 a4 a5 a6 a7 a8 n (nI k)) (fun k _ => ∀ i, m - k < i → i ≤ m → ¬ ff_kn ns kn (3 ^ i + x % 3 ^ i)) m 0 () (by omega) (fun i h1 h2 => absurd h1 (by omega))
    (fun n _ h => pk_le m m (fun _ => H0 (fun j h1 h2 => h j (by omega) h2)) (fun z => absurd z (by omega)))
    (fun n k _ hk h hw => pk_le m k (fun z => absurd z (by omega)) (fun _ => ff_power (m - k) (by omega) (ff_power (m - k) (by omega) ⟨nI_ne0 (ff_p3 _) (ff_p9 (by omega)), nm_r (ff_end (by omega) (by omega) hx hx2)
      (ff_stateOf hn ha (3 ^ (m - k) + x % 3 ^ (m - k)) (ff_end_lt (by omega) hx2)
        (fun s s1 s2 => pk_lt s 0 (fun z => absurd z (by omega)) (fun _ => Hs (m - k) s (by omega) (by omega) s1 s2 h))
        (fun no => br_t (by decide) (nm_r (nI_1 k) (hw () (fun i h1 h2 => by
          by_cases e : i = m - k
          · rw [e]; exact no
          · exact h i (by omega) h2)))))⟩ (pk_sub (by omega))) (pk_sub (by omega))))
theorem ff_t44 {post : Int32 → Prop} {f2 : Int32} {a1 a2 a3 : Nat → Int32} {a4 a5 a6 : Nat → Int64} {a7 a8 : Nat → Int32} {ns cnt : Nat} {pl : Nat → Nat} (hc : cnt ≤ 6) (hl : ∀ k, k < cnt → a1 k = nI (pl k) ∧ pl k < 54)
    {m x : Nat} (hm : m ≤ 3) (hx : 3 ^ m ≤ x) (hx2 : x < 2 ^ 20) (H0 : (∀ j, 1 ≤ j → j ≤ m → ∀ k, k < cnt → pl k ≠ 3 ^ j + x % 3 ^ j) → ∃ n, wX_target_90 post (nI m) (nI (x - 3 ^ m)) (nI cnt) (nI ns) f2 a1 a2 a3 a4 a5 a6 a7 a8 n 0)
    (Hs : ∀ j k, 1 ≤ j → j ≤ m → k < cnt → pl k = 3 ^ j + x % 3 ^ j → post 25) :
    ∃ n, wX_target_44 post (nI m) (nI (x - 3 ^ m)) (nI cnt) (nI ns) f2 a1 a2 a3 a4 a5 a6 a7 a8 n 0 :=
  pk_loop (σ := Unit) (fun n k _ => wX_target_44 post (nI m) (nI (x - 3 ^ m)) (nI cnt) (nI ns) f2 a1 a2 a3 a4 a5 a6 a7 a8 n (nI k)) (fun k _ => ∀ i, m - k < i → i ≤ m → ∀ k, k < cnt → pl k ≠ 3 ^ i + x % 3 ^ i) m 0 () (by omega) (fun i h1 h2 => absurd h1 (by omega))
    (fun n _ h => pk_le m m (fun _ => H0 (fun j h1 h2 => h j (by omega) h2)) (fun z => absurd z (by omega)))
    (fun n k _ hk h hw => pk_le m k (fun z => absurd z (by omega)) (fun _ => ff_power (m - k) (by omega) (ff_power (m - k) (by omega) ⟨nI_ne0 (ff_p3 _) (ff_p9 (by omega)), nm_r (ff_end (by omega) (by omega) hx hx2)
      (ff_place hc hl (3 ^ (m - k) + x % 3 ^ (m - k)) (ff_end_lt (by omega) hx2)
        (fun s s1 s2 => pk_lt s 0 (fun z => absurd z (by omega)) (fun _ => Hs (m - k) s (by omega) (by omega) s1 s2))
        (fun no => br_t (by decide) (nm_r (nI_1 k) (hw () (fun i h1 h2 => by
          by_cases e : i = m - k
          · rw [e]; exact no
          · exact h i (by omega) h2)))))⟩ (pk_sub (by omega))) (pk_sub (by omega))))
theorem ff_tgt {post : Int32 → Prop} {f2 y : Int32} {a1 a2 a3 : Nat → Int32} {a4 a5 a6 : Nat → Int64} {a7 a8 : Nat → Int32} {ns cnt : Nat} {kn pl : Nat → Nat} (hn : ns ≤ 26) (ha : ∀ s, s < ns → a2 s = nI (kn s) ∧ kn s < 18)
    (hc : cnt ≤ 6) (hl : ∀ k, k < cnt → a1 k = nI (pl k) ∧ pl k < 54) (m x : Nat) (hm : m ≤ 3) (hx : 3 ^ m ≤ x) (hx3 : x < 3 ^ (m + 1))
    (Hd : ∀ j k, 1 ≤ j → j ≤ m → k < cnt → pl k = 3 ^ j + x % 3 ^ j → post 25)
    (H0 : (∀ j, 1 ≤ j → j ≤ m → ∀ k, k < cnt → pl k ≠ 3 ^ j + x % 3 ^ j) → (∀ j, 1 ≤ j → j ≤ m → ¬ ff_kn ns kn (3 ^ j + x % 3 ^ j)) → post 0)
    (Hs : (∀ j, 1 ≤ j → j ≤ m → ∀ k, k < cnt → pl k ≠ 3 ^ j + x % 3 ^ j) → ∀ j s, 1 ≤ j → j ≤ m → s < ns → kn s = 3 ^ j + x % 3 ^ j → (∀ i, j < i → i ≤ m → ¬ ff_kn ns kn (3 ^ i + x % 3 ^ i)) → post (nI s))
    (hy : y = nI x := by rfl) : wpX_target post (nI cnt, nI ns, f2, a1, a2, a3, a4, a5, a6, a7, a8) y := by
  subst hy
  have h81 : 3 ^ (m + 1) ≤ 3 ^ 4 := Nat.pow_le_pow_right (by omega) (by omega)
  have e81 : 3 ^ 4 = 81 := rfl
  have t34 : wX_target_34 post (nI x) (nI m) (nI cnt) (nI ns) f2 a1 a2 a3 a4 a5 a6 a7 a8 :=
    ff_power m (by omega) (nm_r (pk_sub hx) (ff_t44 hc hl hm hx (by omega) (fun no => ff_t90 hn ha hm hx (by omega) (H0 no) (Hs no)) Hd))
  have t23 : wX_target_23 post (nI x) (nI m) (nI cnt) (nI ns) f2 a1 a2 a3 a4 a5 a6 a7 a8 :=
    ff_power m (by omega) (pk_le (3 ^ m) x (fun _ => t34) (fun z => absurd z (by omega)))
  exact pk_loop (σ := Unit) (fun n i _ => wX_target_2 post (nI x) (nI cnt) (nI ns) f2 a1 a2 a3 a4 a5 a6 a7 a8 n (nI i)) (fun _ _ => True) m 0 () (by omega) trivial
    (fun n _ _ => pk_le 5 m (fun z => absurd z (by omega)) (fun _ => ff_power (m + 1) (by omega) (pk_lt x (3 ^ (m + 1)) (fun _ => t23) (fun z => absurd z (by omega))) (nI_1 m)))
    (fun n i _ hi _ hw => pk_le 5 i (fun z => absurd z (by omega)) (fun _ => ff_power (i + 1) (by omega) (by
      have g : 3 ^ (i + 1) ≤ 3 ^ m := Nat.pow_le_pow_right (by omega) (by omega)
      exact pk_lt x (3 ^ (i + 1)) (fun z => absurd z (by omega)) (fun _ => nm_r (nI_1 i) (hw () trivial))) (nI_1 i)))
/-- target, by the picture: x is a known beginning and a letter -/
theorem ff_target {post : Int32 → Prop} {f2 y : Int32} {a1 a2 a3 : Nat → Int32} {a4 a5 a6 : Nat → Int64} {a7 a8 : Nat → Int32} {F : Nat → Bool} {ns cnt : Nat} {kn pl : Nat → Nat} (hn : ns ≤ 25) (ha : ∀ s, s < ns → a2 s = nI (kn s) ∧ kn s < 18)
    (hc : cnt ≤ 6) (hl : ∀ k, k < cnt → a1 k = nI (pl k) ∧ pl k < 54) (hF : ∀ p, F p = true ↔ ∃ k, k < cnt ∧ pl k = p) (hK : ff_K F ns kn) (s c : Nat) (hs : s < ns) (hc3 : c < 3)
    (H : ∀ t, ff_to F ns kn (3 * kn s + c) t → post (nI t)) (hy : y = nI (3 * kn s + c) := by rfl) : wpX_target post (nI cnt, nI ns, f2, a1, a2, a3, a4, a5, a6, a7, a8) y := by
  have no27 : ∀ z, ¬ ff_kn ns kn (27 + z) := fun z ⟨t, t1, t2⟩ => by have := (ha t t1).2; omega
  have nf : ∀ {p}, (∀ k, k < cnt → pl k ≠ p) → ¬ F p = true := fun h z => by
    obtain ⟨k, k1, k2⟩ := (hF _).mp z
    exact h k k1 k2
  have yf : ∀ {k p}, k < cnt → pl k = p → F p = true := fun h z => (hF _).mpr ⟨_, h, z⟩
  rcases hK.2.2.1 s hs with h | h | ⟨h, h', _⟩
  · generalize hx : 3 * kn s + c = x at *
    refine ff_tgt (by omega) ha hc hl 1 x (by omega) (by omega) (by omega) ?_ ?_ ?_ hy
    · intro j k j1 j2 k1 k2
      have e : j = 1 := by omega
      subst e
      exact H 25 (Or.inl ⟨rfl, Or.inl (yf k1 k2)⟩)
    · intro n1 n2
      refine H 0 (Or.inr ⟨hK.1, ?_, Or.inr (Or.inr ⟨fun z => absurd z.1 (by omega), n2 1 (by omega) (by omega), hK.2.1⟩)⟩)
      rintro (z | ⟨z, _⟩ | ⟨z, _⟩)
      · exact nf (n1 1 (by omega) (by omega)) z
      · omega
      · omega
    · intro n1 j s j1 j2 s1 s2 _
      have e : j = 1 := by omega
      subst e
      refine H s (Or.inr ⟨s1, ?_, Or.inr (Or.inl ⟨fun z => absurd z.1 (by omega), ⟨s, s1, s2⟩, s2⟩)⟩)
      rintro (z | ⟨z, _⟩ | ⟨z, _⟩)
      · exact nf (n1 1 (by omega) (by omega)) z
      · omega
      · omega
  · generalize hx : 3 * kn s + c = x at *
    have dd : (∀ j, 1 ≤ j → j ≤ 2 → ∀ k, k < cnt → pl k ≠ 3 ^ j + x % 3 ^ j) → ¬ ff_dd F x := by
      intro n1
      rintro (z | ⟨_, z⟩ | ⟨z, _⟩)
      · exact nf (n1 1 (by omega) (by omega)) z
      · exact nf (n1 2 (by omega) (by omega)) z
      · omega
    refine ff_tgt (by omega) ha hc hl 2 x (by omega) (by omega) (by omega) ?_ ?_ ?_ hy
    · intro j k j1 j2 k1 k2
      by_cases e : j = 1
      · subst e
        exact H 25 (Or.inl ⟨rfl, Or.inl (yf k1 k2)⟩)
      · have e : j = 2 := by omega
        subst e
        exact H 25 (Or.inl ⟨rfl, Or.inr (Or.inl ⟨by omega, yf k1 k2⟩)⟩)
    · intro n1 n2
      exact H 0 (Or.inr ⟨hK.1, dd n1, Or.inr (Or.inr ⟨fun z => n2 2 (by omega) (by omega) z.2, n2 1 (by omega) (by omega), hK.2.1⟩)⟩)
    · intro n1 j s j1 j2 s1 s2 n3
      by_cases e : j = 1
      · subst e
        exact H s (Or.inr ⟨s1, dd n1, Or.inr (Or.inl ⟨fun z => n3 2 (by omega) (by omega) z.2, ⟨s, s1, s2⟩, s2⟩)⟩)
      · have e : j = 2 := by omega
        subst e
        exact H s (Or.inr ⟨s1, dd n1, Or.inl ⟨by omega, ⟨s, s1, s2⟩, s2⟩⟩)
  · generalize hx : 3 * kn s + c = x at *
    have dd : (∀ j, 1 ≤ j → j ≤ 3 → ∀ k, k < cnt → pl k ≠ 3 ^ j + x % 3 ^ j) → ¬ ff_dd F x := by
      intro n1
      rintro (z | ⟨_, z⟩ | ⟨_, z⟩)
      · exact nf (n1 1 (by omega) (by omega)) z
      · exact nf (n1 2 (by omega) (by omega)) z
      · exact nf (n1 3 (by omega) (by omega)) z
    refine ff_tgt (by omega) ha hc hl 3 x (by omega) (by omega) (by omega) ?_ ?_ ?_ hy
    · intro j k j1 j2 k1 k2
      by_cases e : j = 1
      · subst e
        exact H 25 (Or.inl ⟨rfl, Or.inl (yf k1 k2)⟩)
      · by_cases e : j = 2
        · subst e
          exact H 25 (Or.inl ⟨rfl, Or.inr (Or.inl ⟨by omega, yf k1 k2⟩)⟩)
        · have e : j = 3 := by omega
          subst e
          exact H 25 (Or.inl ⟨rfl, Or.inr (Or.inr ⟨by omega, yf k1 k2⟩)⟩)
    · intro n1 n2
      exact H 0 (Or.inr ⟨hK.1, dd n1, Or.inr (Or.inr ⟨fun z => n2 2 (by omega) (by omega) z.2, n2 1 (by omega) (by omega), hK.2.1⟩)⟩)
    · intro n1 j s j1 j2 s1 s2 n3
      by_cases e : j = 1
      · subst e
        exact H s (Or.inr ⟨s1, dd n1, Or.inr (Or.inl ⟨fun z => n3 2 (by omega) (by omega) z.2, ⟨s, s1, s2⟩, s2⟩)⟩)
      · by_cases e : j = 2
        · subst e
          exact H s (Or.inr ⟨s1, dd n1, Or.inl ⟨by omega, ⟨s, s1, s2⟩, s2⟩⟩)
        · have e : j = 3 := by omega
          subst e
          exact absurd ⟨s, s1, s2⟩ (no27 _)
end
section
/-! the table of ways -/
theorem ff_lin (a b c : Nat) : nI a * nI b + nI c = nI (a * b + c) := by rw [pk_mul, nI_add]
theorem ff_l26 (b c : Nat) : (26 : Int32) * nI b + nI c = nI (26 * b + c) := ff_lin 26 b c
theorem ff_l3 (b c : Nat) : (3 : Int32) * nI b + nI c = nI (3 * b + c) := ff_lin 3 b c
theorem ff_l10 (b c : Nat) : (10 : Int32) * nI b + nI c = nI (10 * b + c) := ff_lin 10 b c
def ff_VV (st : Nat → Nat) (ns i : Nat) : Nat := ff_V st ns (i / 26) (i % 26)
theorem ff_VV_at (st : Nat → Nat) (ns n : Nat) {t : Nat} (h : t < 26) : ff_VV st ns (26 * n + t) = ff_V st ns n t := by
  unfold ff_VV
  rw [show (26 * n + t) / 26 = n by omega, show (26 * n + t) % 26 = t by omega]
theorem ff_fillL {a : Nat → Int64} {g : Nat → Nat} {k : Nat} {x : Int64} (h : ∀ i, i < k → a i = lN (g i)) (hx : x = lN (g k)) : ∀ i, i < k + 1 → vp_updL a k x i = lN (g i) := by
  intro i hi
  by_cases e : i = k
  · rw [e, pk_uLs, hx]
  · rw [pk_uLn e]
    exact h i (by omega)
/-- the machine's rows, as the table of steps holds them -/
def ff_S (st : Nat → Nat) (ns : Nat) (a3 : Nat → Int32) : Prop :=
  1 ≤ ns ∧ ns ≤ 25 ∧ (∀ i, i < 3 * ns → st i < ns ∨ st i = 25) ∧ (∀ c, c < 3 → st (75 + c) = 25) ∧ (∀ i, i < 3 * ns ∨ (75 ≤ i ∧ i < 78) → a3 i = nI (st i))
section
variable {f0 f2 : Int32} {a1 a2 a3 : Nat → Int32} {a4 a5 a6 : Nat → Int64} {a7 a8 : Nat → Int32} {st : Nat → Nat} {ns : Nat}
theorem ff_c63 {post : St2 → Prop} {J35 J43 : Int32 → (Nat → Int32) → (Nat → Int32) → (Nat → Int32) → (Nat → Int64) → (Nat → Int64) → (Nat → Int64) → (Nat → Int32) → (Nat → Int32) → Prop} (hS : ff_S st ns a3)
    (n s : Nat) (hn30 : n + 1 ≤ 30) (hs : s < 26) {a : Nat → Int64} (ha : ∀ i, i < 26 * (n + 1) + s → a i = lN (ff_VV st ns i)) (h0 : a (26 * (n + 1) + s) = 0)
    (H : ∀ a', (∀ i, i < 26 * (n + 1) + (s + 1) → a' i = lN (ff_VV st ns i)) → J43 (nI (s + 1)) a1 a2 a3 a' a5 a6 a7 a8) :
    ∃ f, wX_countWays_63 post J35 J43 (nI (n + 1)) (nI s) f0 (nI ns) f2 f 0 a1 a2 a3 a a5 a6 a7 a8 := by
  obtain ⟨h1, hn, ht, hd, h3⟩ := hS
  by_cases hsn : s < ns
  · refine pk_loop (fun f c a => wX_countWays_63 post J35 J43 (nI (n + 1)) (nI s) f0 (nI ns) f2 f (nI c) a1 a2 a3 a a5 a6 a7 a8)
      (fun c a => (∀ i, i < 26 * (n + 1) + s → a i = lN (ff_VV st ns i)) ∧ a (26 * (n + 1) + s) = lN (ff_sm (fun c => ff_V st ns n (st (3 * s + c))) c)) 3 0 a (by omega) ⟨ha, h0⟩ ?_ ?_
    · rintro f b ⟨b1, b2⟩
      refine pk_le 3 3 (fun _ => nm_r (nI_1 s) (H b (fun i hi => ?_))) (fun z => absurd z (by omega))
      by_cases e : i = 26 * (n + 1) + s
      · rw [e, b2, ff_VV_at _ _ _ hs, ff_V_succ hn hd ht n hsn]
      · exact b1 i (by omega)
    · rintro f c b hc ⟨b1, b2⟩ hw
      have tt := ht (3 * s + c) (by omega)
      have tl : st (3 * s + c) < 26 := by omega
      refine pk_le 3 c (fun z => absurd z (by omega)) (fun _ => pk_le ns s (fun z => absurd z (by omega)) (fun _ => ?_))
      rw [ff_l3, ff_l26, nI_clamp (show 3 * s + c < 2 ^ 31 by omega), h3 (3 * s + c) (Or.inl (by omega)), nI_pred, ff_l26, nI_clamp (show 26 * (n + 1) + s < 2 ^ 31 by omega), nI_clamp (show 26 * n + st (3 * s + c) < 2 ^ 31 by omega)]
      refine ⟨vp_in_nI (by omega) (by omega), vp_in_nI (by omega) (by omega), vp_in_nI (by omega) (by omega), vp_in_nI (by omega) (by omega), nm_e (nm_r (nI_1 c) (hw _ ⟨fun i hi => ?_, ?_⟩))⟩
      · rw [pk_uLn (by omega)]
        exact b1 i hi
      · rw [pk_uLs, b2, b1 _ (by omega), ff_VV_at _ _ _ tl, lN_add]
        rfl
  · refine ⟨1, pk_le 3 0 (fun z => absurd z (by omega)) (fun _ => pk_le ns s (fun _ => nm_r (nI_1 s) (H a (fun i hi => ?_))) (fun z => absurd z (by omega)))⟩
    by_cases e : i = 26 * (n + 1) + s
    · rw [e, h0, ff_VV_at _ _ _ hs]
      unfold ff_V
      rw [if_neg hsn]
      rfl
    · exact ha i (by omega)
theorem ff_c43 {post : St2 → Prop} {J35 : Int32 → (Nat → Int32) → (Nat → Int32) → (Nat → Int32) → (Nat → Int64) → (Nat → Int64) → (Nat → Int64) → (Nat → Int32) → (Nat → Int32) → Prop} (hS : ff_S st ns a3)
    (n : Nat) (hn30 : n + 1 ≤ 30) {a : Nat → Int64} (ha : ∀ i, i < 26 * (n + 1) → a i = lN (ff_VV st ns i))
    (H : ∀ a', (∀ i, i < 26 * (n + 2) → a' i = lN (ff_VV st ns i)) → J35 (nI (n + 2)) a1 a2 a3 a' a5 a6 a7 a8) :
    ∃ f, wX_countWays_43 post J35 (nI (n + 1)) f0 (nI ns) f2 f 0 a1 a2 a3 a a5 a6 a7 a8 := by
  refine pk_loop (fun f s a => wX_countWays_43 post J35 (nI (n + 1)) f0 (nI ns) f2 f (nI s) a1 a2 a3 a a5 a6 a7 a8) (fun s a => ∀ i, i < 26 * (n + 1) + s → a i = lN (ff_VV st ns i)) 26 0 a (by omega) ha ?_ ?_
  · intro f b hb
    exact pk_le 26 26 (fun _ => nm_r (nI_1 (n + 1)) (H b (fun i hi => hb i (by omega)))) (fun z => absurd z (by omega))
  · intro f s b hs hb hw
    refine pk_le 26 s (fun z => absurd z (by omega)) (fun _ => ?_)
    rw [ff_l26, nI_clamp (show 26 * (n + 1) + s < 2 ^ 31 by omega)]
    refine ⟨vp_in_nI (by omega) (by omega), nm_e (ff_c63 hS n s hn30 hs (fun i hi => ?_) pk_uLs (fun a' h' => hw a' h'))⟩
    rw [pk_uLn (by omega)]
    exact hb i hi
theorem ff_countWays {post : St2 → Prop} (hS : ff_S st ns a3) (H : ∀ a', (∀ i, i < 806 → a' i = lN (ff_VV st ns i)) → post (f0, nI ns, f2, a1, a2, a3, a', a5, a6, a7, a8)) :
    wpX_countWays post (f0, nI ns, f2, a1, a2, a3, a4, a5, a6, a7, a8) := by
  have hn := hS.2.1
  refine pk_loop (fun f s a => wX_countWays_2 post f0 (nI ns) f2 f (nI s) a1 a2 a3 a a5 a6 a7 a8) (fun s a => ∀ i, i < s → a i = lN (ff_VV st ns i)) 26 0 a4 (by omega) (fun i hi => absurd hi (by omega)) ?_ ?_
  · intro f b hb
    refine pk_le 26 26 (fun _ => ?_) (fun z => absurd z (by omega))
    refine pk_loop (fun f n a => wX_countWays_35 post f0 (nI ns) f2 f (nI n) a1 a2 a3 a a5 a6 a7 a8) (fun n a => 1 ≤ n ∧ ∀ i, i < 26 * n → a i = lN (ff_VV st ns i)) 31 1 b (by omega) ⟨by omega, hb⟩ ?_ ?_
    · rintro f b ⟨_, hb⟩
      exact pk_lt 30 31 (fun _ => H b (fun i hi => hb i (by omega))) (fun z => absurd z (by omega))
    · rintro f n b hn31 ⟨n1, hb⟩ hw
      obtain ⟨m, rfl⟩ : ∃ m, n = m + 1 := ⟨n - 1, by omega⟩
      exact pk_lt 30 (m + 1) (fun z => absurd z (by omega)) (fun _ => ff_c43 hS m (by omega) hb (fun a' h' => hw a' ⟨by omega, h'⟩))
  · intro f s b hs hb hw
    refine pk_le 26 s (fun z => absurd z (by omega)) (fun _ => ?_)
    rw [nI_clamp (show s < 2 ^ 31 by omega)]
    have e : ff_VV st ns s = ff_V st ns 0 s := by
      have := ff_VV_at st ns 0 hs
      rw [show 26 * 0 + s = s by omega] at this
      exact this
    refine pk_le ns s (fun z => ⟨pk_in s 806 (by omega), nm_e (nm_r (nI_1 s) (hw _ (ff_fillL hb ?_)))⟩) (fun z => ⟨pk_in s 806 (by omega), nm_e (nm_r (nI_1 s) (hw _ (ff_fillL hb ?_)))⟩)
    · rw [e]
      unfold ff_V
      rw [if_neg (by omega)]
      rfl
    · rw [e]
      unfold ff_V
      rw [if_pos z, ff_W_0 st (by omega)]
      rfl
end
end
section
/-! build -/
def ff_form (ns : Nat) (kn : Nat → Nat) (y : Nat) : Prop := y = 1 ∨ (3 ≤ y ∧ y < 6) ∨ (9 ≤ y ∧ y < 18 ∧ ff_kn ns kn (y / 3))
/-- the known beginnings, as the array a holds them -/
def ff_Kf (ns : Nat) (kn : Nat → Nat) (a : Nat → Int32) : Prop := 1 ≤ ns ∧ kn 0 = 1 ∧ (∀ s, s < ns → ff_form ns kn (kn s)) ∧ (∀ s, s < ns → a s = nI (kn s) ∧ kn s < 18)
theorem ff_form_mono {ns ns' : Nat} {kn kn' : Nat → Nat} (h : ∀ y, ff_kn ns kn y → ff_kn ns' kn' y) {y : Nat} (hy : ff_form ns kn y) : ff_form ns' kn' y := by
  rcases hy with g | g | ⟨g1, g2, g3⟩
  · exact Or.inl g
  · exact Or.inr (Or.inl g)
  · exact Or.inr (Or.inr ⟨g1, g2, h _ g3⟩)
theorem ff_Kf_add {ns : Nat} {kn : Nat → Nat} {a : Nat → Int32} (h : ff_Kf ns kn a) {y : Nat} (hy : ff_form ns kn y) :
    ff_Kf (ns + 1) (fun s => if s = ns then y else kn s) (upd a ns (nI y)) ∧ (∀ z, ff_kn ns kn z → ff_kn (ns + 1) (fun s => if s = ns then y else kn s) z) ∧ ff_kn (ns + 1) (fun s => if s = ns then y else kn s) y := by
  obtain ⟨h1, h2, h3, h4⟩ := h
  have ex : ∀ z, ff_kn ns kn z → ff_kn (ns + 1) (fun s => if s = ns then y else kn s) z := by
    rintro z ⟨t, t1, t2⟩
    refine ⟨t, by omega, ?_⟩
    show (if t = ns then y else kn t) = z
    rw [if_neg (by omega), t2]
  have y18 : y < 18 := by
    rcases hy with g | g | ⟨g1, g2, g3⟩ <;> omega
  refine ⟨⟨by omega, ?_, ?_, ?_⟩, ex, ⟨ns, by omega, if_pos rfl⟩⟩
  · show (if 0 = ns then y else kn 0) = 1
    rw [if_neg (by omega), h2]
  · intro s hs
    show ff_form _ _ (if s = ns then y else kn s)
    by_cases e : s = ns
    · rw [if_pos e]
      exact ff_form_mono ex hy
    · rw [if_neg e]
      exact ff_form_mono ex (h3 s (by omega))
  · intro s hs
    show upd a ns (nI y) s = nI (if s = ns then y else kn s) ∧ (if s = ns then y else kn s) < 18
    by_cases e : s = ns
    · rw [if_pos e, e, pk_us]
      exact ⟨rfl, y18⟩
    · rw [if_neg e, pk_un e]
      exact h4 s (by omega)
section
variable {f0 f2 : Int32} {a1 a2 a3 : Nat → Int32} {a4 a5 a6 : Nat → Int64} {a7 a8 : Nat → Int32}
theorem ff_b49 {post : St2 → Prop} {J27 : Int32 → Int32 → (Nat → Int32) → (Nat → Int32) → (Nat → Int32) → (Nat → Int64) → (Nat → Int64) → (Nat → Int64) → (Nat → Int32) → (Nat → Int32) → Prop} {n ns : Nat} {kn : Nat → Nat} (hK : ff_Kf ns kn a2) (hn : ns < 26)
    {k l p y : Nat} (hk : k < 6) (hl : l + 1 ≤ 9) (hp : a1 k = nI p) (p54 : p < 54) (hy : p / 3 ^ (l + 1) = y) (fy : ff_form ns kn y)
    (H : ∀ ns' kn' a', ff_Kf ns' kn' a' → ns' ≤ ns + 1 → (∀ z, ff_kn ns kn z → ff_kn ns' kn' z) → ff_kn ns' kn' y → wX_build_49 post J27 (nI k) f0 f2 n (nI l) (nI ns') a1 a' a3 a4 a5 a6 a7 a8) :
    wX_build_49 post J27 (nI k) f0 f2 (n + 1) (nI (l + 1)) (nI ns) a1 a2 a3 a4 a5 a6 a7 a8 := by
  obtain ⟨k1, k2, k3⟩ := ff_Kf_add hK fy
  have y18 : y < 18 := by
    rcases fy with g | g | ⟨g1, g2, g3⟩ <;> omega
  refine pk_lt (l + 1) 1 (fun z => absurd z (by omega)) (fun _ => ⟨vp_in_nI hk (by omega), ff_power (l + 1) hl ⟨nI_ne0 (ff_p3 _) (ff_p9 hl), nm_r (show a1 (nI k).toNatClampNeg / nI (3 ^ (l + 1)) = nI y from ?_) (ff_stateOf (by omega) hK.2.2.2 y (by omega) ?_ ?_)⟩⟩)
  · rw [nI_clamp (by omega), hp, pk_div (by omega) (ff_p3 _) (ff_p9 hl), hy]
  · intro s s1 s2
    exact pk_le 0 s (fun _ => nm_r (pk_m1 l) (H ns kn a2 hK (by omega) (fun z h => h) ⟨s, s1, s2⟩)) (fun z => absurd z (by omega))
  · intro no
    refine br_f (by decide) ⟨vp_in_nI hn (by omega), nm_r (show upd a2 (nI ns).toNatClampNeg (nI y) = upd a2 ns (nI y) by rw [nI_clamp (by omega)]) (nm_r (nI_1 ns) (nm_r (pk_m1 l) (H (ns + 1) _ _ k1 (by omega) k2 k3)))⟩
theorem ff_b49x {post : St2 → Prop} {J27 : Int32 → Int32 → (Nat → Int32) → (Nat → Int32) → (Nat → Int32) → (Nat → Int64) → (Nat → Int64) → (Nat → Int64) → (Nat → Int32) → (Nat → Int32) → Prop} {n : Nat} {k : Nat} {f1 : Int32} 
    (H : J27 (nI (k + 1)) f1 a1 a2 a3 a4 a5 a6 a7 a8) : wX_build_49 post J27 (nI k) f0 f2 (n + 1) (nI 0) f1 a1 a2 a3 a4 a5 a6 a7 a8 :=
  pk_lt 0 1 (fun _ => nm_r (nI_1 k) H) (fun z => absurd z (by omega))
theorem ff_b27 {post : St2 → Prop} {cnt : Nat} {pl : Nat → Nat} (hc : cnt ≤ 3) (hl : ∀ k, k < cnt → a1 k = nI (pl k) ∧ ff_val (pl k)) (h0 : a2 0 = 1)
    (H : ∀ ns kn a, ff_Kf ns kn a → ns ≤ 7 → (∀ j, j < cnt → 9 ≤ pl j → ff_kn ns kn (pl j / 3)) → ∃ f, wX_build_111 post (nI cnt) (nI ns) f2 f 0 a1 a a3 a4 a5 a6 a7 a8) :
    ∃ f, wX_build_27 post (nI cnt) f2 f 0 1 a1 a2 a3 a4 a5 a6 a7 a8 := by
  refine pk_loop (σ := Int32 × (Nat → Int32)) (fun f k s => wX_build_27 post (nI cnt) f2 f (nI k) s.1 a1 s.2 a3 a4 a5 a6 a7 a8)
    (fun k s => ∃ ns kn, s.1 = nI ns ∧ ff_Kf ns kn s.2 ∧ ns ≤ 1 + 2 * k ∧ (∀ j, j < k → 9 ≤ pl j → ff_kn ns kn (pl j / 3))) cnt 0 (nI 1, a2) (by omega)
    ⟨1, fun _ => 1, rfl, ⟨by omega, rfl, fun _ _ => Or.inl rfl, fun s hs => by rw [show s = 0 by omega]; exact ⟨h0, by show 1 < 18; omega⟩⟩, by omega, fun j hj => absurd hj (by omega)⟩ ?_ ?_
  · rintro f ⟨x, a⟩ ⟨ns, kn, rfl, k1, k2, k3⟩
    exact pk_le cnt cnt (fun _ => H ns kn a k1 (by omega) k3) (fun z => absurd z (by omega))
  · rintro f k ⟨x, a⟩ hk ⟨ns, kn, e, k1, k2, k3⟩ hw
    have e' : x = nI ns := e
    subst e'
    obtain ⟨p1, p2⟩ := hl k hk
    have p54 := ff_val_lt p2
    refine pk_le cnt k (fun z => absurd z (by omega)) (fun _ => ⟨vp_in_nI (by omega) (by omega), ff_sizeOf (pl k) p54 ?_ (by rw [nI_clamp (by omega), p1])⟩)
    unfold ff_sz
    rcases p2 with g | g | g
    · rw [if_pos (by omega)]
      refine nm_r (nI_pred 0) ⟨1, ff_b49x (hw (nI ns, a) ⟨ns, kn, rfl, k1, by omega, fun j hj h9 => ?_⟩)⟩
      by_cases ej : j = k
      · subst ej; omega
      · exact k3 j (by omega) h9
    · rw [if_neg (by omega), if_pos (by omega)]
      refine nm_r (nI_pred 1) ⟨2, ff_b49 (y := pl k / 3) k1 (by omega) (by omega) (by omega) p1 p54 rfl (Or.inr (Or.inl ⟨by omega, by omega⟩)) (fun ns' kn' a' q1 q2 q3 q4 => ff_b49x (hw (nI ns', a') ⟨ns', kn', rfl, q1, by omega, fun j hj h9 => ?_⟩))⟩
      by_cases ej : j = k
      · subst ej; exact q4
      · exact q3 _ (k3 j (by omega) h9)
    · rw [if_neg (by omega), if_neg (by omega)]
      refine nm_r (nI_pred 2) ⟨3, ff_b49 (y := pl k / 9) k1 (by omega) (by omega) (by omega) p1 p54 rfl (Or.inr (Or.inl ⟨by omega, by omega⟩)) (fun ns' kn' a' q1 q2 q3 q4 =>
        ff_b49 (y := pl k / 3) q1 (by omega) (by omega) (by omega) p1 p54 rfl (Or.inr (Or.inr ⟨by omega, by omega, by rw [Nat.div_div_eq_div_mul]; exact q4⟩)) (fun ns2 kn2 a'' r1 r2 r3 r4 => ff_b49x (hw (nI ns2, a'') ⟨ns2, kn2, rfl, r1, by omega, fun j hj h9 => ?_⟩)))⟩
      by_cases ej : j = k
      · subst ej; exact r4
      · exact r3 _ (q3 _ (k3 j (by omega) h9))
theorem ff_b111 {post : St2 → Prop} {F : Nat → Bool} {cnt ns : Nat} {pl kn : Nat → Nat} (hc : cnt ≤ 3) (hl : ∀ k, k < cnt → a1 k = nI (pl k) ∧ ff_val (pl k)) (hF : ∀ p, F p = true ↔ ∃ k, k < cnt ∧ pl k = p)
    (hK : ff_K F ns kn) (ha : ∀ s, s < ns → a2 s = nI (kn s) ∧ kn s < 18) (hn : ns ≤ 7)
    (H : ∀ st a b, ff_S st ns a → (∀ s c, s < ns → c < 3 → ff_to F ns kn (3 * kn s + c) (st (3 * s + c))) → (∀ i, i < 806 → b i = lN (ff_VV st ns i)) → post (nI cnt, nI ns, f2, a1, a2, a, b, a5, a6, a7, a8)) :
    ∃ f, wX_build_111 post (nI cnt) (nI ns) f2 f 0 a1 a2 a3 a4 a5 a6 a7 a8 := by
  have h1 := hK.1
  refine pk_loop (fun f k a => wX_build_111 post (nI cnt) (nI ns) f2 f (nI k) a1 a2 a a4 a5 a6 a7 a8) (fun k a => ∀ i, i < k → ∃ t, a i = nI t ∧ ff_to F ns kn (3 * kn (i / 3) + i % 3) t) (3 * ns) 0 a3 (by omega) (fun i hi => absurd hi (by omega)) ?_ ?_
  · intro f b hb
    refine pk_le (3 * ns) (3 * ns) (fun _ => ?_) (fun z => absurd z (by omega)) (pk_mul 3 ns)
    refine pk_loop (fun f c a => wX_build_153 post (nI cnt) (nI ns) f2 f (nI c) a1 a2 a a4 a5 a6 a7 a8) (fun c a => (∀ i, i < 3 * ns → ∃ t, a i = nI t ∧ ff_to F ns kn (3 * kn (i / 3) + i % 3) t) ∧ ∀ j, j < c → a (75 + j) = 25) 3 0 b (by omega) ⟨hb, fun j hj => absurd hj (by omega)⟩ ?_ ?_
    · rintro f a ⟨q1, q2⟩
      refine pk_le 3 3 (fun _ => ?_) (fun z => absurd z (by omega))
      have tl : ∀ {x t}, ff_to F ns kn x t → t < ns ∨ t = 25 := by
        rintro x t (⟨g, _⟩ | ⟨g, _⟩)
        · exact Or.inr g
        · exact Or.inl g
      have s1 : ∀ i, i < 3 * ns → ∃ t, (if i < 75 then (a i).toNatClampNeg else 25) = t ∧ a i = nI t ∧ ff_to F ns kn (3 * kn (i / 3) + i % 3) t := by
        intro i hi
        obtain ⟨t, t1, t2⟩ := q1 i hi
        refine ⟨t, ?_, t1, t2⟩
        have := tl t2
        rw [if_pos (by omega), t1, nI_clamp (by omega)]
      have hS : ff_S (fun i => if i < 75 then (a i).toNatClampNeg else 25) ns a := by
        refine ⟨h1, by omega, ?_, ?_, ?_⟩
        · intro i hi
          obtain ⟨t, t1, _, t2⟩ := s1 i hi
          show (if i < 75 then (a i).toNatClampNeg else 25) < ns ∨ (if i < 75 then (a i).toNatClampNeg else 25) = 25
          rw [t1]
          exact tl t2
        · intro c hc
          show (if 75 + c < 75 then (a (75 + c)).toNatClampNeg else 25) = 25
          rw [if_neg (by omega)]
        · rintro i (hi | ⟨hi, hi2⟩)
          · obtain ⟨t, t1, t2, _⟩ := s1 i hi
            show a i = nI (if i < 75 then (a i).toNatClampNeg else 25)
            rw [t1, t2]
          · show a i = nI (if i < 75 then (a i).toNatClampNeg else 25)
            rw [if_neg (by omega)]
            have := q2 (i - 75) (by omega)
            rw [show 75 + (i - 75) = i by omega] at this
            exact this
      refine ff_countWays hS (fun b hb => H _ a b hS (fun s c hs hc => ?_) hb)
      obtain ⟨t, t1, _, t2⟩ := s1 (3 * s + c) (by omega)
      show ff_to F ns kn (3 * kn s + c) (if 3 * s + c < 75 then (a (3 * s + c)).toNatClampNeg else 25)
      rw [t1]
      rw [show (3 * s + c) / 3 = s by omega, show (3 * s + c) % 3 = c by omega] at t2
      exact t2
    · rintro f c a hc ⟨q1, q2⟩ hw
      refine pk_le 3 c (fun z => absurd z (by omega)) (fun _ => ?_)
      rw [show (75 : Int32) + nI c = nI (75 + c) from nI_add 75 c, nI_clamp (show 75 + c < 2 ^ 31 by omega)]
      refine ⟨vp_in_nI (by omega) (by omega), nm_e (nm_r (nI_1 c) (hw _ ⟨fun i hi => ?_, fun j hj => ?_⟩))⟩
      · rw [pk_un (by omega)]
        exact q1 i hi
      · by_cases e : j = c
        · rw [e, pk_us]
        · rw [pk_un (by omega)]
          exact q2 j (by omega)
  · intro f i b hi hb hw
    have i3 : i % 3 < 3 := Nat.mod_lt _ (by omega)
    have e1 : nI i / 3 = nI (i / 3) := pk_div (d := 3) (by omega) (by omega) (by omega)
    have e2 : nI i - nI i / 3 * 3 = nI (i % 3) := pk_rem (d := 3) (by omega) (by omega) (by omega)
    refine pk_le (3 * ns) i (fun z => absurd z (by omega)) (fun _ => ⟨by decide, pk_in (i / 3) 26 (by omega) e1, by decide, ?_⟩) (pk_mul 3 ns)
    refine ff_target (by omega) ha (by omega) (fun k hk => ⟨(hl k hk).1, ff_val_lt (hl k hk).2⟩) hF hK (i / 3) (i % 3) (by omega) i3 (fun t ht => ⟨vp_in_nI (by omega) (by omega), nm_r (show upd b (nI i).toNatClampNeg (nI t) = upd b i (nI t) by rw [nI_clamp (by omega)]) (nm_r (nI_1 i) (hw _ (fun j hj => ?_)))⟩) ?_
    · by_cases e : j = i
      · rw [e, pk_us]
        exact ⟨t, rfl, ht⟩
      · rw [pk_un e]
        exact hb j (by omega)
    · rw [e2, e1, nI_clamp (by omega), (ha (i / 3) (by omega)).1, ff_l3]
end
/-- built: the machine dies where a piece of F stands -/
def ff_B (F : Nat → Bool) (cnt : Nat) (u : St2) : Prop := match u with
  | (f0, f1, f2, a1, a2, a3, a4, a5, a6, a7, a8) => f0 = nI cnt ∧ f2 = 1 ∧ ∃ st ns, f1 = nI ns ∧ ff_S st ns a3 ∧ (∀ i, i < 806 → a4 i = lN (ff_VV st ns i)) ∧ ∀ n w, ff_run st 0 n w = 25 ↔ ff_sd F n w = true
/-- not built: the list holds the pieces of F -/
def ff_U (F : Nat → Bool) (cnt : Nat) (u : St2) : Prop := match u with
  | (f0, f1, f2, a1, a2, a3, a4, a5, a6, a7, a8) => f0 = nI cnt ∧ f2 = 0 ∧ cnt ≤ 3 ∧ ∃ pl : Nat → Nat, (∀ k, k < cnt → a1 k = nI (pl k) ∧ ff_val (pl k)) ∧ ∀ p, F p = true ↔ ∃ k, k < cnt ∧ pl k = p
def ff_R (F : Nat → Bool) (cnt : Nat) (u : St2) : Prop := ff_B F cnt u ∨ ff_U F cnt u
theorem ff_build {F : Nat → Bool} {cnt : Nat} {u : St2} {post : St2 → Prop} (hu : ff_R F cnt u) (H : ∀ v, ff_B F cnt v → post v) : wpX_build post u := by
  obtain ⟨f0, f1, f2, a1, a2, a3, a4, a5, a6, a7, a8⟩ := u
  rcases hu with h | h
  · have e : f2 = 1 := h.2.1
    exact br_f (by rw [e]; decide) (H _ h)
  · obtain ⟨rfl, rfl, hc, pl, h1, h2⟩ := h
    refine br_t rfl (nm_e (ff_b27 hc h1 pk_us (fun ns kn a k1 k2 k3 => ?_)))
    have hK : ff_K F ns kn := ⟨k1.1, k1.2.1, k1.2.2.1, fun p hp h9 => by
      obtain ⟨k, q1, rfl⟩ := (h2 p).mp hp
      exact k3 k q1 h9⟩
    exact ff_b111 hc h1 h2 hK k1.2.2.2 k2 (fun st a b hS hto hV => H _ ⟨rfl, rfl, st, ns, rfl, hS, hV, ff_ac25 (by omega) hK hS.2.2.2.1 hto⟩)
end
section
/-! reading words -/
theorem ff_m1 (x : Int32) : x + (-1) = x - 1 := (Int32.sub_eq_add_neg x 1).symm
theorem ff_run_first (st : Nat → Nat) (s m w : Nat) : ff_run st s (m + 1) w = ff_run st (st (3 * s + w / 3 ^ m % 3)) m w := by
  rw [Nat.add_comm m 1, ff_run_app]
  rfl
theorem ff_letter {w m : Nat} (hw : w < 2 ^ 31) (hm : m ≤ 9) : nI w / nI (3 ^ m) - nI w / nI (3 ^ m) / 3 * 3 = nI (w / 3 ^ m % 3) := by
  rw [pk_div hw (ff_p3 m) (ff_p9 hm)]
  exact pk_rem (d := 3) (Nat.lt_of_le_of_lt (Nat.div_le_self _ _) hw) (by omega) (by omega)
theorem ff_idx {st : Nat → Nat} {ns : Nat} {a3 : Nat → Int32} (hS : ff_S st ns a3) {t c : Nat} (ht : t < ns ∨ t = 25) (hc : c < 3) : 3 * t + c < 78 ∧ a3 (3 * t + c) = nI (st (3 * t + c)) ∧ (st (3 * t + c) < ns ∨ st (3 * t + c) = 25) := by
  obtain ⟨h1, hn, h2, hd, h3⟩ := hS
  rcases ht with h | h
  · exact ⟨by omega, h3 _ (Or.inl (by omega)), h2 _ (by omega)⟩
  · subst h
    exact ⟨by omega, h3 _ (Or.inr (by omega)), Or.inr (hd c hc)⟩
theorem ff_way {st : Nat → Nat} {ns : Nat} {a3 : Nat → Int32} {a4 : Nat → Int64} (hS : ff_S st ns a3) (hV : ∀ i, i < 806 → a4 i = lN (ff_VV st ns i)) {n t : Nat} (hn : n ≤ 30) (ht : t < ns ∨ t = 25) : 26 * n + t < 806 ∧ a4 (26 * n + t) = lN (ff_W st n t) := by
  obtain ⟨h1, h25, h2, hd, h3⟩ := hS
  refine ⟨by omega, ?_⟩
  rw [hV _ (by omega), ff_VV_at _ _ _ (by omega), ff_V_W h25 hd n ht]
theorem ff_run_at {st : Nat → Nat} {ns : Nat} {a3 : Nat → Int32} (hS : ff_S st ns a3) {s : Nat} (hs : s < ns ∨ s = 25) (n w : Nat) : ff_run st s n w < ns ∨ ff_run st s n w = 25 :=
  ff_run_in hS.2.2.2.1 hS.2.2.1 hs n w
section
variable {f0 f1 f2 : Int32} {a1 a2 a3 : Nat → Int32} {a4 a5 a6 : Nat → Int64} {a7 a8 : Nat → Int32} {st : Nat → Nat} {ns : Nat}
theorem ff_read {post : Int32 → Prop} {x y z : Int32} (hS : ff_S st ns a3) (s n w : Nat) (hs : s < ns ∨ s = 25) (hn : n ≤ 9) (hw : w < 2 ^ 31) (H : post (nI (ff_run st s n w))) (hx : x = nI s := by rfl) (hy : y = nI n := by rfl) (hz : z = nI w := by rfl) :
    wpX_read post (f0, f1, f2, a1, a2, a3, a4, a5, a6, a7, a8) x y z := by
  subst hx hy hz
  refine nm_e ⟨n + 1, pk_loopD (fun f m s => wX_read_8 post (nI w) f0 f1 f2 a1 a2 a3 a4 a5 a6 a7 a8 f s (nI m - 1)) (fun m x => ∃ t, x = nI t ∧ (t < ns ∨ t = 25) ∧ m ≤ n ∧ ff_run st t m w = ff_run st s n w) ?_ ?_ n (nI s) ⟨s, rfl, hs, Nat.le_refl n, rfl⟩⟩
  · rintro f x ⟨t, rfl, t1, t2, t3⟩
    refine br_t (by decide) ?_
    rw [← t3] at H
    exact H
  · rintro f m x ⟨t, rfl, t1, t2, t3⟩ hk
    have hc : w / 3 ^ m % 3 < 3 := Nat.mod_lt _ (by omega)
    obtain ⟨i1, i2, i3⟩ := ff_idx hS t1 hc
    show wX_read_8 post (nI w) f0 f1 f2 a1 a2 a3 a4 a5 a6 a7 a8 (f + 1) (nI t) (nI (m + 1) - 1)
    rw [nI_pred]
    refine pk_lt m 0 (fun z => absurd z (by omega)) (fun _ => ff_power m (by omega) ⟨nI_ne0 (ff_p3 _) (ff_p9 (by omega)), by decide, nm_r (ff_letter hw (by omega)) ?_⟩)
    rw [ff_l3, nI_clamp (by omega), i2]
    exact ⟨vp_in_nI i1 (by omega), nm_e (nm_r (ff_m1 _) (hk _ ⟨_, rfl, i3, by omega, by rw [← ff_run_first]; exact t3⟩))⟩
/-! rank -/
theorem ff_bl29 {post : Int32 → Prop} {J10 : Int32 → Int64 → Int32 → Prop} {x2 : Int32} (hS : ff_S st ns a3) (hV : ∀ i, i < 806 → a4 i = lN (ff_VV st ns i)) (k m X d t : Nat) (hm : m ≤ 8) (hd : d < 3) (et : ff_run st 0 k X = t)
    (H : J10 (nI (st (3 * t + d))) (lN (ff_A st (k + 1 + m) ((3 * X + d) * 3 ^ m))) (nI m - 1)) :
    ∃ f, wX_below_29 post J10 x2 (nI t) (nI m) (nI d) f0 f1 f2 a1 a2 a3 a4 a5 a6 a7 a8 f (lN (ff_A st (k + 1 + m) ((3 * X) * 3 ^ m))) 0 := by
  have t1 : t < ns ∨ t = 25 := by rw [← et]; exact ff_run_at hS (Or.inl hS.1) k X
  refine pk_loop (fun f c s => wX_below_29 post J10 x2 (nI t) (nI m) (nI d) f0 f1 f2 a1 a2 a3 a4 a5 a6 a7 a8 f s (nI c)) (fun c s => s = lN (ff_A st (k + 1 + m) ((3 * X + c) * 3 ^ m))) d 0 _ (by omega) rfl ?_ ?_
  · rintro f s rfl
    obtain ⟨i1, i2, i3⟩ := ff_idx hS t1 hd
    refine pk_le d d (fun _ => ?_) (fun z => absurd z (by omega))
    rw [ff_l3, nI_clamp (by omega), i2]
    exact ⟨vp_in_nI i1 (by omega), nm_e (nm_r (ff_m1 _) H)⟩
  · rintro f c s hc rfl hk
    have hc3 : c < 3 := by omega
    obtain ⟨i1, i2, i3⟩ := ff_idx hS t1 hc3
    obtain ⟨j1, j2⟩ := ff_way hS hV (n := m) (by omega) i3
    refine pk_le d c (fun z => absurd z (by omega)) (fun _ => ?_)
    rw [ff_l3, nI_clamp (by omega), i2, ff_l26, nI_clamp (by omega), j2, lN_add]
    refine ⟨vp_in_nI i1 (by omega), vp_in_nI j1 (by omega), nm_e (nm_r (nI_1 c) (hk _ ?_))⟩
    have q := ff_A_step st k m X c hc3
    rw [et] at q
    rw [← q]
    rfl
theorem ff_below {post : Int32 → Prop} (hS : ff_S st ns a3) (hV : ∀ i, i < 806 → a4 i = lN (ff_VV st ns i)) (n w : Nat) (hn : n ≤ 9) (hw : w < 3 ^ n) (H : post (nI (ff_A st n w))) :
    wpX_below post (f0, f1, f2, a1, a2, a3, a4, a5, a6, a7, a8) (nI n) (nI w) := by
  have h9 := ff_p9 hn
  have g : wX_below_10 post (nI w) f0 f1 f2 a1 a2 a3 a4 a5 a6 a7 a8 (n + 1) (nI 0) (lN 0) (nI n - 1) := by
    refine pk_loopD (σ := Int32 × Int64) (fun f m s => wX_below_10 post (nI w) f0 f1 f2 a1 a2 a3 a4 a5 a6 a7 a8 f s.1 s.2 (nI m - 1)) (fun m s => m ≤ n ∧ s.1 = nI (ff_run st 0 (n - m) (w / 3 ^ m)) ∧ s.2 = lN (ff_A st n (w / 3 ^ m * 3 ^ m))) ?_ ?_ n (nI 0, lN 0) ⟨Nat.le_refl n, ?_, ?_⟩
    · rintro f ⟨x, y⟩ ⟨_, _, e⟩
      refine br_t (by decide) ?_
      have e' : y = lN (ff_A st n (w / 3 ^ 0 * 3 ^ 0)) := e
      rw [e', lN_i, Nat.pow_zero, Nat.div_one, Nat.mul_one]
      exact H
    · rintro f m ⟨x, y⟩ ⟨hm, e1, e2⟩ hk
      have e1' : x = nI (ff_run st 0 (n - (m + 1)) (w / 3 ^ (m + 1))) := e1
      have e2' : y = lN (ff_A st n (w / 3 ^ (m + 1) * 3 ^ (m + 1))) := e2
      subst e1' e2'
      have hc : w / 3 ^ m % 3 < 3 := Nat.mod_lt _ (by omega)
      have ed : w / 3 ^ (m + 1) = w / 3 ^ m / 3 := by rw [Nat.div_div_eq_div_mul, Nat.pow_succ]
      have ek : n - (m + 1) + 1 + m = n := by omega
      show wX_below_10 post (nI w) f0 f1 f2 a1 a2 a3 a4 a5 a6 a7 a8 (f + 1) _ _ (nI (m + 1) - 1)
      rw [nI_pred]
      refine pk_lt m 0 (fun z => absurd z (by omega)) (fun _ => ff_power m (by omega) ⟨nI_ne0 (ff_p3 _) (ff_p9 (by omega)), by decide, nm_r (ff_letter (by omega) (by omega)) ?_⟩)
      have r := ff_bl29 (post := post) (J10 := wX_below_10 post (nI w) f0 f1 f2 a1 a2 a3 a4 a5 a6 a7 a8 f) (x2 := nI w) (f0 := f0) (f1 := f1) (f2 := f2) (a1 := a1) (a2 := a2) (a5 := a5) (a6 := a6) (a7 := a7) (a8 := a8) hS hV (n - (m + 1)) m (w / 3 ^ (m + 1)) (w / 3 ^ m % 3) _ (by omega) hc rfl
      rw [ek, show 3 * (w / 3 ^ (m + 1)) + w / 3 ^ m % 3 = w / 3 ^ m by omega, show 3 * (w / 3 ^ (m + 1)) * 3 ^ m = w / 3 ^ (m + 1) * 3 ^ (m + 1) by rw [Nat.pow_succ, Nat.mul_comm (3 ^ m) 3, ← Nat.mul_assoc, Nat.mul_comm 3]] at r
      refine r (hk (_, _) ⟨by omega, ?_, rfl⟩)
      show nI (st (3 * ff_run st 0 (n - (m + 1)) (w / 3 ^ (m + 1)) + w / 3 ^ m % 3)) = nI (ff_run st 0 (n - m) (w / 3 ^ m))
      rw [show n - m = n - (m + 1) + 1 by omega, ed]
      rfl
    · show nI 0 = nI (ff_run st 0 (n - n) (w / 3 ^ n))
      rw [Nat.sub_self]
      rfl
    · show lN 0 = lN (ff_A st n (w / 3 ^ n * 3 ^ n))
      rw [Nat.div_eq_of_lt hw, Nat.zero_mul]
      rfl
  exact nm_e ⟨n + 1, g⟩
/-! unrank -/
theorem ff_un22 {post : Int32 → Prop} {J14 : Int32 → Int64 → Int32 → Int32 → Prop} (hS : ff_S st ns a3) (hV : ∀ i, i < 806 → a4 i = lN (ff_VV st ns i)) (k m w t : Nat) (hm : m ≤ 8) (hk : k + 1 + m ≤ 9) (hw : w < 3 ^ (k + 1 + m)) (al : ff_run st 0 (k + 1 + m) w ≠ 25) (et : ff_run st 0 k (w / 3 ^ (m + 1)) = t)
    (H : J14 (nI (st (3 * t + w / 3 ^ m % 3))) (lN (ff_A st (k + 1 + m) w - ff_A st (k + 1 + m) (w / 3 ^ m * 3 ^ m))) (nI (w / 3 ^ m)) (nI m - 1)) :
    ∃ f, wX_unrank_22 post J14 (nI t) (nI (w / 3 ^ (m + 1))) (nI m) f0 f1 f2 a1 a2 a3 a4 a5 a6 a7 a8 f (lN (ff_A st (k + 1 + m) w - ff_A st (k + 1 + m) (w / 3 ^ (m + 1) * 3 ^ (m + 1)))) 0 := by
  have t1 : t < ns ∨ t = 25 := by rw [← et]; exact ff_run_at hS (Or.inl hS.1) k _
  have hc : w / 3 ^ m % 3 < 3 := Nat.mod_lt _ (by omega)
  have ed : w / 3 ^ (m + 1) = w / 3 ^ m / 3 := by rw [Nat.div_div_eq_div_mul, Nat.pow_succ]
  have eX : 3 * (w / 3 ^ (m + 1)) + w / 3 ^ m % 3 = w / 3 ^ m := by omega
  have w9 := ff_p9 hk
  have le1 : ∀ j, ff_A st (k + 1 + m) j ≤ j := ff_A_le st _
  have lw : w / 3 ^ m * 3 ^ m ≤ w := Nat.div_mul_le_self _ _
  have uw : w < (w / 3 ^ m + 1) * 3 ^ m := by
    rw [Nat.add_mul, Nat.one_mul]
    have := Nat.div_add_mod w (3 ^ m)
    have q := Nat.mod_lt w (ff_p3 m)
    rw [Nat.mul_comm] at this
    omega
  have Ww : ∀ s, ff_W st m s < 2 ^ 31 := fun s => Nat.lt_of_le_of_lt (ff_W_le st m s) (ff_p9 (by omega))
  have Aw : ff_A st (k + 1 + m) w < 2 ^ 31 := Nat.lt_of_le_of_lt (le1 w) (by omega)
  have hl : ∀ x, (nI (w / 3 ^ m) = x) → wX_unrank_89 post J14 (nI t) (lN (ff_A st (k + 1 + m) w - ff_A st (k + 1 + m) (w / 3 ^ m * 3 ^ m))) (nI (w / 3 ^ (m + 1))) (nI m) (nI (w / 3 ^ m % 3)) f0 f1 f2 a1 a2 a3 a4 a5 a6 a7 a8 := by
    intro x _
    obtain ⟨i1, i2, i3⟩ := ff_idx hS t1 hc
    unfold wX_unrank_89
    rw [ff_l3, ff_l3, nI_clamp (show 3 * t + w / 3 ^ m % 3 < 2 ^ 31 by omega), i2, eX]
    exact nm_e ⟨vp_in_nI i1 (by omega), nm_e (nm_r (ff_m1 _) H)⟩
  refine pk_loop (fun f c s => wX_unrank_22 post J14 (nI t) (nI (w / 3 ^ (m + 1))) (nI m) f0 f1 f2 a1 a2 a3 a4 a5 a6 a7 a8 f s (nI c)) (fun c s => s = lN (ff_A st (k + 1 + m) w - ff_A st (k + 1 + m) ((3 * (w / 3 ^ (m + 1)) + c) * 3 ^ m))) (w / 3 ^ m % 3) 0 _ (by omega) ?_ ?_ ?_
  · show lN (ff_A st (k + 1 + m) w - ff_A st (k + 1 + m) (w / 3 ^ (m + 1) * 3 ^ (m + 1))) = lN (ff_A st (k + 1 + m) w - ff_A st (k + 1 + m) ((3 * (w / 3 ^ (m + 1)) + 0) * 3 ^ m))
    rw [show (3 * (w / 3 ^ (m + 1)) + 0) * 3 ^ m = w / 3 ^ (m + 1) * 3 ^ (m + 1) by rw [Nat.add_zero, Nat.pow_succ, Nat.mul_comm (3 ^ m) 3, ← Nat.mul_assoc, Nat.mul_comm 3]]
  · rintro f s rfl
    rw [eX]
    refine pk_le 2 (w / 3 ^ m % 3) (fun _ => hl _ rfl) (fun z => ?_)
    obtain ⟨i1, i2, i3⟩ := ff_idx hS t1 hc
    obtain ⟨j1, j2⟩ := ff_way hS hV (n := m) (by omega) i3
    rw [ff_l3, nI_clamp (by omega), i2, ff_l26, nI_clamp (by omega), j2]
    refine ⟨vp_in_nI i1 (by omega), vp_in_nI j1 (by omega), br_t ?_ (hl _ rfl)⟩
    have q := ff_A_step st k m (w / 3 ^ (m + 1)) (w / 3 ^ m % 3) hc
    rw [et, eX] at q
    have q2 := ff_A_mono st (k + 1 + m) (show w + 1 ≤ (w / 3 ^ m + 1) * 3 ^ m by omega)
    rw [ff_A_succ, if_neg al] at q2
    have q3 := ff_A_mono st (k + 1 + m) lw
    rw [lN_lt (by omega) (Ww _)]
    omega
  · rintro f c s hcd rfl hkk
    have hc3 : c < 3 := by omega
    obtain ⟨i1, i2, i3⟩ := ff_idx hS t1 hc3
    obtain ⟨j1, j2⟩ := ff_way hS hV (n := m) (by omega) i3
    have q := ff_A_step st k m (w / 3 ^ (m + 1)) c hc3
    rw [et] at q
    have q2 : (3 * (w / 3 ^ (m + 1)) + c + 1) * 3 ^ m ≤ w := Nat.le_trans (Nat.mul_le_mul_right _ (by omega)) lw
    have q3 := ff_A_mono st (k + 1 + m) q2
    refine pk_le 2 c (fun z => absurd z (by omega)) (fun _ => ?_)
    rw [ff_l3, nI_clamp (show 3 * t + c < 2 ^ 31 by omega), i2, ff_l26, nI_clamp (show 26 * m + st (3 * t + c) < 2 ^ 31 by omega), j2]
    refine ⟨vp_in_nI i1 (by omega), vp_in_nI j1 (by omega), br_f ?_ ⟨vp_in_nI i1 (by omega), vp_in_nI j1 (by omega), nm_r (lN_sub ?_) (nm_r (nI_1 c) (hkk _ ?_))⟩⟩
    · rw [lN_lt (by omega) (Ww _)]
      omega
    · omega
    · refine congrArg lN ?_
      show _ = ff_A st (k + 1 + m) w - ff_A st (k + 1 + m) ((3 * (w / 3 ^ (m + 1)) + c + 1) * 3 ^ m)
      omega
theorem ff_unrank {post : Int32 → Prop} (hS : ff_S st ns a3) (hV : ∀ i, i < 806 → a4 i = lN (ff_VV st ns i)) (n w : Nat) (hn : n ≤ 9) (hw : w < 3 ^ n) (al : ff_run st 0 n w ≠ 25) (H : post (nI w)) :
    wpX_unrank post (f0, f1, f2, a1, a2, a3, a4, a5, a6, a7, a8) (nI n) (nI (ff_A st n w)) := by
  have h9 := ff_p9 hn
  have hA := ff_A_le st n w
  have g : wX_unrank_14 post f0 f1 f2 a1 a2 a3 a4 a5 a6 a7 a8 (n + 1) (nI 0) (lN (ff_A st n w)) (nI 0) (nI n - 1) := by
    refine pk_loopD (σ := Int32 × Int64 × Int32) (fun f m s => wX_unrank_14 post f0 f1 f2 a1 a2 a3 a4 a5 a6 a7 a8 f s.1 s.2.1 s.2.2 (nI m - 1)) (fun m s => m ≤ n ∧ s.1 = nI (ff_run st 0 (n - m) (w / 3 ^ m)) ∧ s.2.1 = lN (ff_A st n w - ff_A st n (w / 3 ^ m * 3 ^ m)) ∧ s.2.2 = nI (w / 3 ^ m)) ?_ ?_ n (nI 0, lN (ff_A st n w), nI 0) ⟨Nat.le_refl n, ?_, ?_, ?_⟩
    · rintro f ⟨x, y, z⟩ ⟨_, _, _, e⟩
      refine br_t (by decide) ?_
      have e' : z = nI (w / 3 ^ 0) := e
      rw [e', Nat.pow_zero, Nat.div_one]
      exact H
    · rintro f m ⟨x, y, z⟩ ⟨hm, e1, e2, e3⟩ hk
      have e1' : x = nI (ff_run st 0 (n - (m + 1)) (w / 3 ^ (m + 1))) := e1
      have e2' : y = lN (ff_A st n w - ff_A st n (w / 3 ^ (m + 1) * 3 ^ (m + 1))) := e2
      have e3' : z = nI (w / 3 ^ (m + 1)) := e3
      subst e1' e2' e3'
      have ed : w / 3 ^ (m + 1) = w / 3 ^ m / 3 := by rw [Nat.div_div_eq_div_mul, Nat.pow_succ]
      have ek : n - (m + 1) + 1 + m = n := by omega
      show wX_unrank_14 post f0 f1 f2 a1 a2 a3 a4 a5 a6 a7 a8 (f + 1) _ _ _ (nI (m + 1) - 1)
      rw [nI_pred]
      refine pk_lt m 0 (fun z => absurd z (by omega)) (fun _ => ?_)
      have r := ff_un22 (post := post) (J14 := wX_unrank_14 post f0 f1 f2 a1 a2 a3 a4 a5 a6 a7 a8 f) (f0 := f0) (f1 := f1) (f2 := f2) (a1 := a1) (a2 := a2) (a5 := a5) (a6 := a6) (a7 := a7) (a8 := a8) hS hV (n - (m + 1)) m w (ff_run st 0 (n - (m + 1)) (w / 3 ^ (m + 1))) (by omega) (by omega)
      rw [ek] at r
      refine r hw al rfl (hk (_, _, _) ⟨by omega, ?_, rfl, rfl⟩)
      show nI (st (3 * ff_run st 0 (n - (m + 1)) (w / 3 ^ (m + 1)) + w / 3 ^ m % 3)) = nI (ff_run st 0 (n - m) (w / 3 ^ m))
      rw [show n - m = n - (m + 1) + 1 by omega, ed]
      rfl
    · show nI 0 = nI (ff_run st 0 (n - n) (w / 3 ^ n))
      rw [Nat.sub_self]
      rfl
    · show lN (ff_A st n w) = lN (ff_A st n w - ff_A st n (w / 3 ^ n * 3 ^ n))
      rw [Nat.div_eq_of_lt hw, Nat.zero_mul]
      rfl
    · show nI 0 = nI (w / 3 ^ n)
      rw [Nat.div_eq_of_lt hw]
  refine nm_e ⟨n + 1, ?_⟩
  rw [nI_l (by omega)]
  exact g
end
end
section
/-! the questions that change nothing -/
/-- 1 if the n letters of w hold no piece -/
def ff_q (F : Nat → Bool) (n w : Nat) : Nat := if ff_sd F n w = true then 0 else 1
def ff_C (F : Nat → Bool) (n k : Nat) : Nat := ff_sm (ff_q F n) k
theorem ff_q_run {F : Nat → Bool} {st : Nat → Nat} (hr : ∀ n w, ff_run st 0 n w = 25 ↔ ff_sd F n w = true) (n w : Nat) : (if ff_run st 0 n w = 25 then 0 else 1) = ff_q F n w := by
  unfold ff_q
  by_cases h : ff_run st 0 n w = 25
  · rw [if_pos h, if_pos ((hr n w).mp h)]
  · rw [if_neg h, if_neg (fun z => h ((hr n w).mpr z))]
theorem ff_A_C {F : Nat → Bool} {st : Nat → Nat} (hr : ∀ n w, ff_run st 0 n w = 25 ↔ ff_sd F n w = true) (n k : Nat) : ff_A st n k = ff_C F n k :=
  ff_sm_congr (fun w _ => ff_q_run hr n w)
theorem ff_q_le (F : Nat → Bool) (n w : Nat) : ff_q F n w ≤ 1 := by
  unfold ff_q
  by_cases h : ff_sd F n w = true
  · rw [if_pos h]; omega
  · rw [if_neg h]; omega
theorem ff_C_le (F : Nat → Bool) (n k : Nat) : ff_C F n k ≤ k := ff_sm_le (fun i _ => ff_q_le F n i)
section
variable {F : Nat → Bool} {cnt : Nat} {u : St2}
theorem ff_allowed {post : Int32 → St2 → Prop} (hu : ff_R F cnt u) (n w : Nat) (hn : n ≤ 9) (hw : w < 3 ^ n) (H : ∀ v, ff_B F cnt v → post (nI (ff_q F n w)) v) : wpX_allowed post u (nI n) (nI w) := by
  obtain ⟨f0, f1, f2, a1, a2, a3, a4, a5, a6, a7, a8⟩ := u
  have h9 := ff_p9 hn
  unfold wpX_allowed
  dsimp only
  refine ff_refused n w hn hw (br_t (by decide) (ff_build hu (fun v hv => ?_)))
  obtain ⟨g0, g1, g2, b1, b2, b3, b4, b5, b6, b7, b8⟩ := v
  dsimp only
  obtain ⟨st, ns, e, hS, hV, hr⟩ := hv.2.2
  have h25 := hS.2.1
  have ra := ff_run_at hS (s := 0) (Or.inl hS.1) n w
  have hp := H _ hv
  rw [← ff_q_run hr] at hp
  refine ff_read hS 0 n w (Or.inl hS.1) hn (by omega) (pk_eq (ff_run st 0 n w) 25 (fun z => ?_) (fun z => ?_))
  · rw [if_pos z] at hp; exact hp
  · rw [if_neg z] at hp; exact hp
theorem ff_rank {post : Int32 → St2 → Prop} (hu : ff_R F cnt u) (n w : Nat) (hn : n ≤ 9) (hw : w < 3 ^ n) (H : ∀ v, ff_B F cnt v → post (nI (ff_C F n w)) v) : wpX_rank post u (nI n) (nI w) := by
  obtain ⟨f0, f1, f2, a1, a2, a3, a4, a5, a6, a7, a8⟩ := u
  have h9 := ff_p9 hn
  unfold wpX_rank
  dsimp only
  refine ff_refused n w hn hw (br_t (by decide) (ff_build hu (fun v hv => ?_)))
  obtain ⟨g0, g1, g2, b1, b2, b3, b4, b5, b6, b7, b8⟩ := v
  dsimp only
  obtain ⟨st, ns, e, hS, hV, hr⟩ := hv.2.2
  have hp := H _ hv
  rw [← ff_A_C hr] at hp
  exact ff_below hS hV n w hn hw hp
theorem ff_choices {post : Int32 → St2 → Prop} (hu : ff_R F cnt u) (n w : Nat) (hn : n ≤ 9) (hw : w < 3 ^ n) (H : ∀ v, ff_B F cnt v → post (nI (ff_q F n w * ff_sm (fun c => ff_q F (n + 1) (3 * w + c)) 3)) v) : wpX_choices post u (nI n) (nI w) := by
  obtain ⟨f0, f1, f2, a1, a2, a3, a4, a5, a6, a7, a8⟩ := u
  have h9 := ff_p9 hn
  unfold wpX_choices
  dsimp only
  refine ff_refused n w hn hw (br_t (by decide) (ff_build hu (fun v hv => ?_)))
  obtain ⟨g0, g1, g2, b1, b2, b3, b4, b5, b6, b7, b8⟩ := v
  dsimp only
  obtain ⟨st, ns, e, hS, hV, hr⟩ := hv.2.2
  have h25 := hS.2.1
  have ra := ff_run_at hS (s := 0) (Or.inl hS.1) n w
  have hp := H _ hv
  rw [← ff_q_run hr] at hp
  refine ff_read hS 0 n w (Or.inl hS.1) hn (by omega) (pk_eq (ff_run st 0 n w) 25 (fun z => ?_) (fun z => ?_))
  · rw [if_pos z, Nat.zero_mul] at hp; exact hp
  · rw [if_neg z, Nat.one_mul] at hp
    obtain ⟨j1, j2⟩ := ff_way hS hV (n := 1) (by omega) ra
    rw [show (26 : Int32) + nI (ff_run st 0 n w) = nI (26 * 1 + ff_run st 0 n w) from nI_add 26 _, nI_clamp (by omega), j2, lN_i]
    refine ⟨vp_in_nI j1 (by omega), ?_⟩
    have ew : ff_W st 1 (ff_run st 0 n w) = ff_sm (fun c => ff_q F (n + 1) (3 * w + c)) 3 := by
      refine ff_sm_congr (fun c hc => ?_)
      rw [← ff_q_run hr]
      have er : ff_run st (ff_run st 0 n w) 1 c = ff_run st 0 (n + 1) (3 * w + c) := by
        show st (3 * ff_run st 0 n w + c % 3) = st (3 * ff_run st 0 n ((3 * w + c) / 3) + (3 * w + c) % 3)
        have hc3 : c < 3 := hc
        rw [show (3 * w + c) / 3 = w by omega, show (3 * w + c) % 3 = c by omega, Nat.mod_eq_of_lt hc3]
      rw [er]
    rw [ew]
    exact hp
theorem ff_word_in {post : Int32 → St2 → Prop} (hu : ff_R F cnt u) (n w : Nat) (hn : n ≤ 9) (hw : w < 3 ^ n) (al : ff_q F n w = 1) (H : ∀ v, ff_B F cnt v → post (nI w) v) : wpX_word post u (nI n) (nI (ff_C F n w)) := by
  obtain ⟨f0, f1, f2, a1, a2, a3, a4, a5, a6, a7, a8⟩ := u
  have h9 := ff_p9 hn
  unfold wpX_word
  dsimp only
  refine ff_isLength n hn (br_f (by decide) (ff_build hu (fun v hv => ?_)))
  obtain ⟨g0, g1, g2, b1, b2, b3, b4, b5, b6, b7, b8⟩ := v
  dsimp only
  obtain ⟨st, ns, e, hS, hV, hr⟩ := hv.2.2
  have hp := H _ hv
  have hA := ff_A_le st n w
  have q := ff_A_mono st n (show w + 1 ≤ 3 ^ n by omega)
  have al' : ff_run st 0 n w ≠ 25 := by
    intro z
    rw [← ff_q_run hr, if_pos z] at al
    omega
  rw [ff_A_succ, if_neg al', ff_A_W] at q
  obtain ⟨j1, j2⟩ := ff_way hS hV (n := n) (by omega) (Or.inl hS.1)
  have W9 := ff_W_le st n 0
  rw [← ff_A_C hr]
  refine pk_lt (ff_A st n w) 0 (fun z => absurd z (by omega)) (fun _ => ?_)
  rw [show (26 : Int32) * nI n = nI (26 * n + 0) from pk_mul 26 n, nI_clamp (by omega), j2, nI_l (by omega), lN_lt (by omega) (by omega)]
  exact ⟨vp_in_nI j1 (by omega), br_t (by omega) (ff_unrank hS hV n w hn hw al' hp)⟩
theorem ff_word_out {post : Int32 → St2 → Prop} (hu : ff_R F cnt u) (n : Nat) (hn : n ≤ 9) (H : ∀ v, ff_B F cnt v → post (-2) v) : wpX_word post u (nI n) (nI (ff_C F n (3 ^ n))) := by
  obtain ⟨f0, f1, f2, a1, a2, a3, a4, a5, a6, a7, a8⟩ := u
  have h9 := ff_p9 hn
  unfold wpX_word
  dsimp only
  refine ff_isLength n hn (br_f (by decide) (ff_build hu (fun v hv => ?_)))
  obtain ⟨g0, g1, g2, b1, b2, b3, b4, b5, b6, b7, b8⟩ := v
  dsimp only
  obtain ⟨st, ns, e, hS, hV, hr⟩ := hv.2.2
  have hp := H _ hv
  obtain ⟨j1, j2⟩ := ff_way hS hV (n := n) (by omega) (Or.inl hS.1)
  have W9 := ff_W_le st n 0
  rw [← ff_A_C hr, ff_A_W]
  refine pk_lt (ff_W st n 0) 0 (fun z => absurd z (by omega)) (fun _ => ?_)
  rw [show (26 : Int32) * nI n = nI (26 * n + 0) from pk_mul 26 n, nI_clamp (by omega), j2, nI_l (by omega), lN_lt (by omega) (by omega)]
  exact ⟨vp_in_nI j1 (by omega), br_f (by omega) hp⟩
theorem ff_count {post : Int64 → St2 → Prop} (hu : ff_R F cnt u) (n : Nat) (hn : n ≤ 9) (H : ∀ v, ff_B F cnt v → post (lN (ff_C F n (3 ^ n))) v) : wpX_count post u (nI n) := by
  obtain ⟨f0, f1, f2, a1, a2, a3, a4, a5, a6, a7, a8⟩ := u
  refine pk_lt n 0 (fun z => absurd z (by omega)) (fun _ => pk_le n 30 (fun _ => ff_build hu (fun v hv => ?_)) (fun z => absurd z (by omega)))
  obtain ⟨g0, g1, g2, b1, b2, b3, b4, b5, b6, b7, b8⟩ := v
  dsimp only
  obtain ⟨st, ns, e, hS, hV, hr⟩ := hv.2.2
  have hp := H _ hv
  rw [← ff_A_C hr, ff_A_W] at hp
  obtain ⟨j1, j2⟩ := ff_way hS hV (n := n) (by omega) (Or.inl hS.1)
  rw [show (26 : Int32) * nI n = nI (26 * n + 0) from pk_mul 26 n, nI_clamp (by omega), j2]
  exact ⟨vp_in_nI j1 (by omega), hp⟩
theorem ff_longest {post : Int32 → St2 → Prop} (hu : ff_R F cnt u) (H : ∀ k, k ≤ 9 → (3 < k ↔ 0 < ff_C F 4 81) → ∀ v, ff_B F cnt v → post (nI k) v) : wpX_longest post u := by
  obtain ⟨f0, f1, f2, a1, a2, a3, a4, a5, a6, a7, a8⟩ := u
  refine ff_build hu (fun v hv => ?_)
  obtain ⟨g0, g1, g2, b1, b2, b3, b4, b5, b6, b7, b8⟩ := v
  dsimp only
  obtain ⟨st, ns, e, hS, hV, hr⟩ := hv.2.2
  have e4 : ff_C F 4 81 = ff_W st 4 0 := by rw [← ff_A_C hr]; exact ff_A_W st 4
  rw [e4] at H
  refine ⟨10, pk_loopD (σ := Unit) (fun f i _ => wX_longest_7 post g0 g1 g2 b1 b2 b3 b4 b5 b6 b7 b8 f (nI i)) (fun i _ => i ≤ 9 ∧ ∀ j, i < j → j ≤ 9 → ff_W st j 0 = 0) ?_ ?_ 9 () ⟨by omega, fun j h1 h2 => absurd h1 (by omega)⟩⟩
  · rintro f _ ⟨_, h⟩
    refine pk_le 0 0 (fun _ => H 0 (by omega) ?_ _ hv) (fun z => absurd z (by omega))
    rw [h 4 (by omega) (by omega)]
    omega
  · rintro f i _ ⟨i9, h⟩ hk
    obtain ⟨j1, j2⟩ := ff_way hS hV (n := i + 1) (by omega) (Or.inl hS.1)
    have W9 := Nat.lt_of_le_of_lt (ff_W_le st (i + 1) 0) (ff_p9 i9)
    refine pk_le (i + 1) 0 (fun z => absurd z (by omega)) (fun _ => ?_)
    rw [show (26 : Int32) * nI (i + 1) = nI (26 * (i + 1) + 0) from pk_mul 26 (i + 1), nI_clamp (by omega), j2]
    refine ⟨vp_in_nI j1 (by omega), br_c (fun z => ?_) (fun z => ?_)⟩
    · have z' : ff_W st (i + 1) 0 = 0 := (lN_eq W9 (by omega)).mp z
      refine nm_r (pk_m1 i) (hk () ⟨by omega, fun j h1 h2 => ?_⟩)
      by_cases ej : j = i + 1
      · rw [ej, z']
      · exact h j (by omega) h2
    · have z' : ff_W st (i + 1) 0 ≠ 0 := fun q => z (by rw [q]; rfl)
      refine H (i + 1) i9 ?_ _ hv
      by_cases i3 : 3 < i + 1
      · refine ⟨fun _ => ?_, fun _ => i3⟩
        have gr : ∀ k, ff_W st 4 0 = 0 → ff_W st (4 + k) 0 = 0 := by
          intro k h0
          induction k with
          | zero => exact h0
          | succ k ih => exact ff_W_grow hS.2.2.2.1 ih
        have q := gr (i + 1 - 4)
        rw [show 4 + (i + 1 - 4) = i + 1 by omega] at q
        omega
      · rw [h 4 (by omega) (by omega)]
        omega
theorem ff_beginning {post : Int32 → St2 → Prop} (hu : ff_R F cnt u) (b : Nat) (hb : b < 9) (H : ∀ v, ff_B F cnt v → post (nI (ff_sm (fun x => ff_q F 4 (b * 9 + x)) 9)) v) : wpX_beginning post u 4 (nI (9 + b)) := by
  obtain ⟨f0, f1, f2, a1, a2, a3, a4, a5, a6, a7, a8⟩ := u
  unfold wpX_beginning
  dsimp only
  refine ff_isLength 4 (by omega) (br_f (by decide) (ff_isPiece (9 + b) (Or.inr (Or.inl ⟨by omega, by omega⟩)) (br_f (by decide) (ff_build hu (fun v hv => ?_)))))
  obtain ⟨g0, g1, g2, b1, b2, b3, b4, b5, b6, b7, b8⟩ := v
  dsimp only
  obtain ⟨st, ns, e, hS, hV, hr⟩ := hv.2.2
  have h25 := hS.2.1
  have ra := ff_run_at hS (s := 0) (Or.inl hS.1) 2 b
  have es : ff_sz (9 + b) = 2 := by unfold ff_sz; rw [if_neg (by omega), if_pos (by omega)]
  have hp := H _ hv
  have eW : ff_sm (fun x => ff_q F 4 (b * 9 + x)) 9 = ff_W st 2 (ff_run st 0 2 b) := by
    rw [← ff_W_blk st 0 2 2 b]
    exact ff_sm_congr (fun x _ => (ff_q_run hr 4 (b * 9 + x)).symm)
  rw [eW] at hp
  refine ff_sizeOf (9 + b) (by omega) ?_
  rw [es]
  refine pk_le 2 4 (fun _ => ff_power 2 (by omega) (ff_read hS 0 2 b (Or.inl hS.1) (by omega) (by omega) (pk_eq (ff_run st 0 2 b) 25 (fun z => ?_) (fun z => ?_)) rfl rfl ?_)) (fun z => absurd z (by omega))
  · rw [z, ff_W_25 hS.2.2.2.1] at hp
    exact hp
  · obtain ⟨j1, j2⟩ := ff_way hS hV (n := 2) (by omega) ra
    rw [show (26 : Int32) * (4 - nI 2) + nI (ff_run st 0 2 b) = nI (26 * 2 + ff_run st 0 2 b) from ff_l26 2 _, nI_clamp (by omega), j2, lN_i]
    exact ⟨vp_in_nI j1 (by omega), hp⟩
  · rw [pk_sub (by omega)]
    exact congrArg nI (by omega)
theorem ff_reflect {post : Int32 → Prop} (v : Nat) (hv : v < 9) (H : post (nI (v * 9 + ff_rev v))) : wpX_reflect post () (nI v) 2 4 := by
  have e1 : ∀ x, x < 100 → nI x - nI x / 3 * 3 = nI (x % 3) := fun x hx => pk_rem (d := 3) (by omega) (by omega) (by omega)
  have e2 : ∀ x, x < 100 → nI x / 3 = nI (x / 3) := fun x hx => pk_div (d := 3) (by omega) (by omega) (by omega)
  refine br_f (by decide) (nm_r (show (4 : Int32) - 2 = nI 2 by decide) ⟨3, ?_⟩)
  refine pk_le 2 0 (fun z => absurd z (by omega)) (fun _ => ?_)
  rw [e1 v (by omega), e2 v (by omega), ff_l3]
  refine ⟨by decide, nm_e ⟨by decide, nm_e (nm_r (pk_m1 1) ?_)⟩⟩
  refine pk_le 1 0 (fun z => absurd z (by omega)) (fun _ => ?_)
  rw [e1 (v / 3) (by omega), e2 (v / 3) (by omega), ff_l3]
  refine ⟨by decide, nm_e ⟨by decide, nm_e (nm_r (pk_m1 0) ?_)⟩⟩
  refine pk_le 0 0 (fun _ => ?_) (fun z => absurd z (by omega))
  have e : 3 * (3 * v + v % 3) + v / 3 % 3 = v * 9 + ff_rev v := by unfold ff_rev; omega
  rw [e]
  exact H
theorem ff_ex {al : Nat → Nat} {m : Nat} (h1 : ∀ v, v < m → al v ≤ 1) {i : Nat} (hi : i < ff_sm al m) : ∃ v, v < m ∧ al v = 1 ∧ ff_sm al v = i := by
  induction m with
  | zero => exact absurd hi (by show ¬ i < 0; omega)
  | succ m ih =>
    have e : ff_sm al (m + 1) = ff_sm al m + al m := rfl
    by_cases g : i < ff_sm al m
    · obtain ⟨v, v1, v2⟩ := ih (fun v hv => h1 v (by omega)) g
      exact ⟨v, by omega, v2⟩
    · have := h1 m (by omega)
      exact ⟨m, by omega, by omega, by omega⟩
theorem ff_uq {al : Nat → Nat} {v w : Nat} (hv : al v = 1) (hw : al w = 1) (h : ff_sm al v = ff_sm al w) : v = w := by
  have k : ∀ {a b}, al a = 1 → ff_sm al a = ff_sm al b → ¬ a < b := by
    intro a b ha hab hlt
    have q := ff_sm_mono al (show a + 1 ≤ b by omega)
    have e : ff_sm al (a + 1) = ff_sm al a + al a := rfl
    omega
  have := k hv h
  have := k hw h.symm
  omega
theorem ff_mirrored {post : Int32 → St2 → Prop} (hu : ff_R F cnt u) (H : ∀ v, ff_B F cnt v → post (nI (ff_sm (fun x => ff_q F 4 (x * 9 + ff_rev x)) 9)) v) : wpX_mirrored post u 4 := by
  obtain ⟨f0, f1, f2, a1, a2, a3, a4, a5, a6, a7, a8⟩ := u
  unfold wpX_mirrored
  dsimp only
  refine ff_isLength 4 (by omega) (br_f (by decide) (ff_build hu (fun v hv => ?_)))
  obtain ⟨g0, g1, g2, b1, b2, b3, b4, b5, b6, b7, b8⟩ := v
  dsimp only
  obtain ⟨st, ns, e, hS, hV, hr⟩ := hv.2.2
  have h25 := hS.2.1
  have hp := H _ hv
  obtain ⟨j1, j2⟩ := ff_way hS hV (n := 2) (by omega) (Or.inl hS.1)
  have W9 : ff_W st 2 0 ≤ 9 := ff_W_le st 2 0
  refine nm_r (show ((4 : Int32) + 1) >>> ((1 : Int32) &&& 31) = 2 by decide) ?_
  rw [show (26 : Int32) * 2 = nI (26 * 2 + 0) from rfl, nI_clamp (by omega), j2, lN_i]
  refine ⟨vp_in_nI j1 (by omega), nm_e ?_⟩
  have ex : ∀ i, ∃ x, i < ff_W st 2 0 → (x < 9 ∧ ff_run st 0 2 x ≠ 25 ∧ ff_A st 2 x = i) := by
    intro i
    by_cases hi : i < ff_W st 2 0
    · obtain ⟨x, x1, x2, x3⟩ := ff_ex (al := fun w => if ff_run st 0 2 w = 25 then 0 else 1) (m := 9) (fun w _ => by rw [ff_q_run hr]; exact ff_q_le F 2 w) hi
      exact ⟨x, fun _ => ⟨x1, fun z => by have x2' : (if ff_run st 0 2 x = 25 then 0 else 1) = 1 := x2; rw [if_pos z] at x2'; omega, x3⟩⟩
    · exact ⟨0, fun z => absurd z hi⟩
  obtain ⟨un, hun⟩ := Classical.axiomOfChoice ex
  have key := ff_by_rank (fun w => if ff_run st 0 2 w = 25 then 0 else 1) (fun x => ff_q F 4 (x * 9 + ff_rev x)) un 9 (fun w _ => by by_cases z : ff_run st 0 2 w = 25 <;> simp [z]) (fun w hw h1 => by
    have h2 : ff_sm (fun w => if ff_run st 0 2 w = 25 then 0 else 1) w < ff_W st 2 0 := by
      have q := ff_sm_mono (fun w => if ff_run st 0 2 w = 25 then 0 else 1) (show w + 1 ≤ 9 by omega)
      have q2 : ff_sm (fun w => if ff_run st 0 2 w = 25 then 0 else 1) (w + 1) = ff_sm (fun w => if ff_run st 0 2 w = 25 then 0 else 1) w + (if ff_run st 0 2 w = 25 then 0 else 1) := rfl
      have h1' : (if ff_run st 0 2 w = 25 then 0 else 1) = 1 := h1
      have q3 : ff_W st 2 0 = ff_sm (fun w => if ff_run st 0 2 w = 25 then 0 else 1) 9 := rfl
      omega
    obtain ⟨x1, x2, x3⟩ := hun _ h2
    exact ff_uq (al := fun w => if ff_run st 0 2 w = 25 then 0 else 1) (if_neg x2) h1 x3)
  have e9 : ff_sm (fun x => (if ff_run st 0 2 x = 25 then 0 else 1) * ff_q F 4 (x * 9 + ff_rev x)) 9 = ff_sm (fun x => ff_q F 4 (x * 9 + ff_rev x)) 9 := by
    refine ff_sm_congr (fun x hx => ?_)
    by_cases z : ff_run st 0 2 x = 25
    · have c : ff_run st 0 (2 + 2) (x * 9 + ff_rev x) = ff_run st (ff_run st 0 2 x) 2 (ff_rev x) := ff_run_cut st 0 2 2 x (ff_rev x) (ff_rev_lt hx)
      rw [z, ff_run_dead hS.2.2.2.1] at c
      rw [if_pos z, Nat.zero_mul, ← ff_q_run hr, if_pos c]
    · rw [if_neg z, Nat.one_mul]
  rw [← e9, ← key] at hp
  refine pk_loop (fun f i s => wX_mirrored_36 post 4 2 (nI (ff_W st 2 0)) g0 g1 g2 b1 b2 b3 b4 b5 b6 b7 b8 f s (nI i)) (fun i s => s = nI (ff_sm (fun i => ff_q F 4 (un i * 9 + ff_rev (un i))) i)) (ff_W st 2 0) 0 0 (by omega) rfl ?_ ?_
  · rintro f s rfl
    exact pk_le (ff_W st 2 0) (ff_W st 2 0) (fun _ => hp) (fun z => absurd z (by omega))
  · rintro f i s hi rfl hk
    obtain ⟨x1, x2, x3⟩ := hun i hi
    have r9 := ff_rev_lt x1
    have ra := ff_run_at hS (s := 0) (Or.inl hS.1) 4 (un i * 9 + ff_rev (un i))
    refine pk_le (ff_W st 2 0) i (fun z => absurd z (by omega)) (fun _ => ?_)
    have main := ff_unrank (post := fun r_35 => (wpX_reflect (fun r_36 => (wpX_read (fun r_37 => (((r_37 = 25 → (∀ x4_41 : Int32, x4_41 = nI (ff_sm (fun i => ff_q F 4 (un i * 9 + ff_rev (un i))) i) + 0 → (∀ x5_42 : Int32, x5_42 = nI i + 1 → (wX_mirrored_36 post 4 2 (nI (ff_W st 2 0)) g0 g1 g2 b1 b2 b3 b4 b5 b6 b7 b8 f x4_41 x5_42)))) ∧ (¬ r_37 = 25 → (∀ x4_39 : Int32, x4_39 = nI (ff_sm (fun i => ff_q F 4 (un i * 9 + ff_rev (un i))) i) + 1 → (∀ x5_40 : Int32, x5_40 = nI i + 1 → (wX_mirrored_36 post 4 2 (nI (ff_W st 2 0)) g0 g1 g2 b1 b2 b3 b4 b5 b6 b7 b8 f x4_39 x5_40))))))) (g0, g1, g2, b1, b2, b3, b4, b5, b6, b7, b8) 0 4 r_36)) () r_35 2 4)) (f0 := g0) (f1 := g1) (f2 := g2) (a1 := b1) (a2 := b2) (a5 := b5) (a6 := b6) (a7 := b7) (a8 := b8) hS hV 2 (un i) (by omega) x1 x2
    rw [x3] at main
    refine main (ff_reflect (un i) x1 (ff_read hS 0 4 (un i * 9 + ff_rev (un i)) (Or.inl hS.1) (by omega) (by omega) (pk_eq (ff_run st 0 4 (un i * 9 + ff_rev (un i))) 25 (fun z => ?_) (fun z => ?_))))
    · refine nm_r (nI_add _ 0) (nm_r (nI_1 i) (hk _ ?_))
      show nI (ff_sm (fun i => ff_q F 4 (un i * 9 + ff_rev (un i))) i + 0) = nI (ff_sm (fun i => ff_q F 4 (un i * 9 + ff_rev (un i))) i + ff_q F 4 (un i * 9 + ff_rev (un i)))
      rw [← ff_q_run hr 4 (un i * 9 + ff_rev (un i)), if_pos z]
    · refine nm_r (nI_1 _) (nm_r (nI_1 i) (hk _ ?_))
      show nI (ff_sm (fun i => ff_q F 4 (un i * 9 + ff_rev (un i))) i + 1) = nI (ff_sm (fun i => ff_q F 4 (un i * 9 + ff_rev (un i))) i + ff_q F 4 (un i * 9 + ff_rev (un i)))
      rw [← ff_q_run hr 4 (un i * 9 + ff_rev (un i)), if_neg z]
end
end
section
/-! through, ending, standing -/
/-- what through answers -/
def ff_X (st : Nat → Nat) (ns t m b : Nat) : Nat := ff_sm (fun s => ff_N st t s * ff_V st ns m (ff_run st s 2 b)) ns
section
variable {f0 f2 : Int32} {a1 a2 a3 : Nat → Int32} {a4 a5 a6 : Nat → Int64} {a7 a8 : Nat → Int32} {st : Nat → Nat} {ns : Nat}
theorem ff_h113 {post : Int64 → St2 → Prop} {J36 : Int32 → (Nat → Int32) → (Nat → Int32) → (Nat → Int32) → (Nat → Int64) → (Nat → Int64) → (Nat → Int64) → (Nat → Int32) → (Nat → Int32) → Prop} {x1 x2 x3 : Int32} (hS : ff_S st ns a3) (k : Nat)
    (h6 : ∀ s, s < 26 → a6 s = lN (ff_sm (fun i => if st i = s then ff_N st k (i / 3) else 0) (3 * ns)))
    (H : ∀ a, (∀ s, s < 26 → a s = lN (ff_N st (k + 1) s)) → J36 (nI (k + 1)) a1 a2 a3 a4 a a6 a7 a8) :
    ∃ f, wX_through_113 post J36 x1 x2 x3 (nI k) f0 (nI ns) f2 f 0 a1 a2 a3 a4 a5 a6 a7 a8 := by
  refine pk_loop (fun f s a => wX_through_113 post J36 x1 x2 x3 (nI k) f0 (nI ns) f2 f (nI s) a1 a2 a3 a4 a a6 a7 a8) (fun s a => ∀ i, i < s → a i = lN (ff_N st (k + 1) i)) 26 0 a5 (by omega) (fun i hi => absurd hi (by omega)) ?_ ?_
  · intro f a ha
    exact pk_le 26 26 (fun _ => nm_r (nI_1 k) (H a ha)) (fun z => absurd z (by omega))
  · intro f s a hs ha hk
    refine pk_le 26 s (fun z => absurd z (by omega)) (fun _ => ?_)
    rw [nI_clamp (show s < 2 ^ 31 by omega)]
    refine pk_eq s 25 (fun z => ⟨vp_in_nI hs (by omega), nm_e (nm_r (nI_1 s) (hk _ (ff_fillL ha ?_)))⟩) (fun z => ⟨vp_in_nI hs (by omega), vp_in_nI hs (by omega), nm_e (nm_r (nI_1 s) (hk _ (ff_fillL ha ?_)))⟩)
    · unfold ff_N
      rw [if_pos z]
      rfl
    · rw [h6 s hs, ff_N_succ hS.2.1 hS.1 hS.2.2.2.1 hS.2.2.1 k z]
theorem ff_h69 {post : Int64 → St2 → Prop} {J36 : Int32 → (Nat → Int32) → (Nat → Int32) → (Nat → Int32) → (Nat → Int64) → (Nat → Int64) → (Nat → Int64) → (Nat → Int32) → (Nat → Int32) → Prop} {x1 x2 x3 : Int32} (hS : ff_S st ns a3) (k : Nat)
    (h5 : ∀ s, s < 26 → a5 s = lN (ff_N st k s)) (h6 : ∀ s, s < 26 → a6 s = 0)
    (H : ∀ a b, (∀ s, s < 26 → a s = lN (ff_N st (k + 1) s)) → J36 (nI (k + 1)) a1 a2 a3 a4 a b a7 a8) :
    ∃ f, wX_through_69 post J36 x1 x2 x3 (nI k) f0 (nI ns) f2 f 0 a1 a2 a3 a4 a5 a6 a7 a8 := by
  have h25 := hS.2.1
  refine pk_loop (fun f i b => wX_through_69 post J36 x1 x2 x3 (nI k) f0 (nI ns) f2 f (nI i) a1 a2 a3 a4 a5 b a7 a8) (fun j b => ∀ s, s < 26 → b s = lN (ff_sm (fun i => if st i = s then ff_N st k (i / 3) else 0) j)) (3 * ns) 0 a6 (by omega) h6 ?_ ?_
  · intro f b hb
    exact pk_le (3 * ns) (3 * ns) (fun _ => ff_h113 hS k hb (fun a ha => H a b ha)) (fun z => absurd z (by omega)) (pk_mul 3 ns)
  · intro f i b hi hb hk
    have e3 : a3 i = nI (st i) := hS.2.2.2.2 i (Or.inl hi)
    have tl := hS.2.2.1 i hi
    have t26 : st i < 26 := by omega
    have e1 : nI i / 3 = nI (i / 3) := pk_div (d := 3) (by omega) (by omega) (by omega)
    refine pk_le (3 * ns) i (fun z => absurd z (by omega)) (fun _ => ?_) (pk_mul 3 ns)
    rw [nI_clamp (show i < 2 ^ 31 by omega), e3, e1, nI_clamp (show st i < 2 ^ 31 by omega), nI_clamp (show i / 3 < 2 ^ 31 by omega)]
    refine ⟨vp_in_nI (by omega) (by omega), vp_in_nI t26 (by omega), by decide, vp_in_nI (by omega) (by omega), vp_in_nI t26 (by omega), nm_e (nm_r (nI_1 i) (hk _ (fun s hs => ?_)))⟩
    show vp_updL b (st i) (b (st i) + a5 (i / 3)) s = lN (ff_sm (fun i => if st i = s then ff_N st k (i / 3) else 0) i + (if st i = s then ff_N st k (i / 3) else 0))
    by_cases e : st i = s
    · subst e
      rw [pk_uLs, hb _ hs, h5 _ (by omega), if_pos rfl, lN_add]
    · rw [pk_uLn (fun z => e z.symm), if_neg e, hb s hs]
      rfl
theorem ff_h169 {post : Int64 → St2 → Prop} (hS : ff_S st ns a3) (hV : ∀ i, i < 806 → a4 i = lN (ff_VV st ns i)) (t m b : Nat) (hm : m ≤ 9) (hb : b < 9) (h5 : ∀ s, s < 26 → a5 s = lN (ff_N st t s))
    (H : post (lN (ff_X st ns t m b)) (f0, nI ns, f2, a1, a2, a3, a4, a5, a6, a7, a8)) :
    ∃ f, wX_through_169 post (nI (9 + b)) (nI m) (nI 2) f0 (nI ns) f2 a1 a2 a3 a4 a5 a6 a7 a8 f 0 0 := by
  have h25 := hS.2.1
  refine pk_loop (fun f s x => wX_through_169 post (nI (9 + b)) (nI m) (nI 2) f0 (nI ns) f2 a1 a2 a3 a4 a5 a6 a7 a8 f x (nI s)) (fun s x => x = lN (ff_sm (fun s => ff_N st t s * ff_V st ns m (ff_run st s 2 b)) s)) ns 0 0 (by omega) rfl ?_ ?_
  · rintro f x rfl
    exact pk_le ns ns (fun _ => H) (fun z => absurd z (by omega))
  · rintro f s x hs rfl hk
    have ra := ff_run_at hS (Or.inl hs) 2 b
    obtain ⟨j1, j2⟩ := ff_way hS hV (n := m) (by omega) ra
    refine pk_le ns s (fun z => absurd z (by omega)) (fun _ => ff_power 2 (by omega) (ff_read hS s 2 b (Or.inl hs) (by omega) (by omega) ?_ rfl rfl ?_))
    · rw [ff_l26, nI_clamp (show s < 2 ^ 31 by omega), nI_clamp (show 26 * m + ff_run st s 2 b < 2 ^ 31 by omega), j2, h5 s (by omega), lN_mul, lN_add]
      refine ⟨vp_in_nI (by omega) (by omega), vp_in_nI j1 (by omega), nm_e (nm_r (nI_1 s) (hk _ ?_))⟩
      rw [← ff_V_W hS.2.1 hS.2.2.2.1 m ra]
      rfl
    · rw [pk_sub (by omega)]
      exact congrArg nI (by omega)
theorem ff_through {post : Int64 → St2 → Prop} {x y z : Int32} (hS : ff_S st ns a3) (hV : ∀ i, i < 806 → a4 i = lN (ff_VV st ns i)) (t m b : Nat) (ht : t ≤ 9) (hm : m ≤ 9) (hb : b < 9)
    (H : ∀ a c, post (lN (ff_X st ns t m b)) (f0, nI ns, f2, a1, a2, a3, a4, a, c, a7, a8)) (hx : x = nI t := by rfl) (hy : y = nI (9 + b) := by rfl) (hz : z = nI m := by rfl) :
    wpX_through post (f0, nI ns, f2, a1, a2, a3, a4, a5, a6, a7, a8) x y z := by
  subst hx hy hz
  have es : ff_sz (9 + b) = 2 := by unfold ff_sz; rw [if_neg (by omega), if_pos (by omega)]
  refine pk_loop (fun f s a => wX_through_3 post (nI t) (nI (9 + b)) (nI m) f0 (nI ns) f2 f (nI s) a1 a2 a3 a4 a a6 a7 a8) (fun s a => ∀ i, i < s → a i = lN (ff_N st 0 i)) 26 0 a5 (by omega) (fun i hi => absurd hi (by omega)) ?_ ?_
  · intro f a ha
    refine pk_le 26 26 (fun _ => ?_) (fun z => absurd z (by omega))
    refine pk_loop (σ := (Nat → Int64) × (Nat → Int64)) (fun f k s => wX_through_36 post (nI t) (nI (9 + b)) (nI m) f0 (nI ns) f2 f (nI k) a1 a2 a3 a4 s.1 s.2 a7 a8) (fun k s => ∀ i, i < 26 → s.1 i = lN (ff_N st k i)) t 0 (a, a6) (by omega) ha ?_ ?_
    · rintro f ⟨a, c⟩ ha
      refine pk_le t t (fun _ => ff_sizeOf (9 + b) (by omega) ?_) (fun z => absurd z (by omega))
      rw [es]
      exact ff_h169 hS hV t m b hm hb ha (H a c)
    · rintro f k ⟨a, c⟩ hkt ha hk
      refine pk_le t k (fun z => absurd z (by omega)) (fun _ => ?_)
      refine pk_loop (fun f s c => wX_through_45 post _ (nI t) (nI (9 + b)) (nI m) (nI k) f0 (nI ns) f2 f (nI s) a1 a2 a3 a4 a c a7 a8) (fun s c => ∀ i, i < s → c i = 0) 26 0 c (by omega) (fun i hi => absurd hi (by omega)) ?_ ?_
      · intro f c hc
        exact pk_le 26 26 (fun _ => ff_h69 hS k ha hc (fun a' b' h' => hk (a', b') h')) (fun z => absurd z (by omega))
      · intro f s c hs hc hk2
        refine pk_le 26 s (fun z => absurd z (by omega)) (fun _ => ?_)
        rw [nI_clamp (show s < 2 ^ 31 by omega)]
        refine ⟨vp_in_nI hs (by omega), nm_e (nm_r (nI_1 s) (hk2 _ (fun i hi => ?_)))⟩
        by_cases e : i = s
        · rw [e, pk_uLs]
        · rw [pk_uLn e]
          exact hc i (by omega)
  · intro f s a hs ha hk
    refine pk_le 26 s (fun z => absurd z (by omega)) (fun _ => ?_)
    rw [nI_clamp (show s < 2 ^ 31 by omega)]
    refine pk_eq s 0 (fun z => ⟨vp_in_nI hs (by omega), nm_e (nm_r (nI_1 s) (hk _ (ff_fillL ha ?_)))⟩) (fun z => ⟨vp_in_nI hs (by omega), nm_e (nm_r (nI_1 s) (hk _ (ff_fillL ha ?_)))⟩)
    · rw [ff_N_0, if_pos z]
      rfl
    · rw [ff_N_0, if_neg z]
      rfl
end
section
variable {F : Nat → Bool} {cnt : Nat} {u : St2}
theorem ff_X_2 {st : Nat → Nat} {ns : Nat} {a3 : Nat → Int32} (hS : ff_S st ns a3) (hr : ∀ n w, ff_run st 0 n w = 25 ↔ ff_sd F n w = true) {b : Nat} (hb : b < 9) : ff_X st ns 2 0 b = ff_sm (fun v => ff_q F 4 (v * 9 + b)) 9 := by
  refine (ff_thr hS.2.1 hS.1 hS.2.2.2.1 hS.2.2.1 2 0 b hb).trans (ff_sm_congr (fun v _ => ?_))
  rw [← ff_q_run hr]
  show 0 + (if ff_run st 0 4 ((v * 9 + b) * 1 + 0) = 25 then 0 else 1) = _
  rw [Nat.zero_add, Nat.mul_one, Nat.add_zero]
theorem ff_X_1 {st : Nat → Nat} {ns : Nat} {a3 : Nat → Int32} (hS : ff_S st ns a3) (hr : ∀ n w, ff_run st 0 n w = 25 ↔ ff_sd F n w = true) {b : Nat} (hb : b < 9) : ff_X st ns 1 1 b = ff_sm (fun v => ff_sm (fun x => ff_q F 4 ((v * 9 + b) * 3 + x)) 3) 3 := by
  refine (ff_thr hS.2.1 hS.1 hS.2.2.2.1 hS.2.2.1 1 1 b hb).trans (ff_sm_congr (fun v _ => ff_sm_congr (fun x _ => ?_)))
  rw [← ff_q_run hr]
theorem ff_X_0 {st : Nat → Nat} {ns : Nat} {a3 : Nat → Int32} (hS : ff_S st ns a3) (hr : ∀ n w, ff_run st 0 n w = 25 ↔ ff_sd F n w = true) {b : Nat} (hb : b < 9) : ff_X st ns 0 2 b = ff_sm (fun x => ff_q F 4 (b * 9 + x)) 9 := by
  refine (ff_thr hS.2.1 hS.1 hS.2.2.2.1 hS.2.2.1 0 2 b hb).trans ?_
  show 0 + ff_sm (fun u => if ff_run st 0 4 ((0 * 9 + b) * 9 + u) = 25 then 0 else 1) 9 = _
  rw [Nat.zero_add]
  refine ff_sm_congr (fun x _ => ?_)
  rw [← ff_q_run hr, Nat.zero_mul, Nat.zero_add]
theorem ff_ending {post : Int32 → St2 → Prop} (hu : ff_R F cnt u) (b : Nat) (hb : b < 9) (H : ∀ v, ff_B F cnt v → post (nI (ff_sm (fun v => ff_q F 4 (v * 9 + b)) 9)) v) : wpX_ending post u 4 (nI (9 + b)) := by
  obtain ⟨f0, f1, f2, a1, a2, a3, a4, a5, a6, a7, a8⟩ := u
  unfold wpX_ending
  dsimp only
  refine ff_isLength 4 (by omega) (br_f (by decide) (ff_isPiece (9 + b) (Or.inr (Or.inl ⟨by omega, by omega⟩)) (br_f (by decide) (ff_build hu (fun v hv => ?_)))))
  obtain ⟨g0, g1, g2, b1, b2, b3, b4, b5, b6, b7, b8⟩ := v
  dsimp only
  obtain ⟨st, ns, e, hS, hV, hr⟩ := hv.2.2
  subst e
  have es : ff_sz (9 + b) = 2 := by unfold ff_sz; rw [if_neg (by omega), if_pos (by omega)]
  refine ff_sizeOf (9 + b) (by omega) ?_
  rw [es]
  refine pk_le 2 4 (fun _ => ff_through hS hV 2 0 b (by omega) (by omega) hb (fun a c => ?_)) (fun z => absurd z (by omega))
  dsimp only
  rw [lN_i, ff_X_2 hS hr hb]
  exact H (g0, nI ns, g2, b1, b2, b3, b4, a, c, b7, b8) hv
theorem ff_standing {post : Int32 → St2 → Prop} (hu : ff_R F cnt u) (b : Nat) (hb : b < 9)
    (H : ∀ v, ff_B F cnt v → post (nI (ff_sm (fun x => ff_q F 4 (b * 9 + x)) 9 + ff_sm (fun v => ff_sm (fun x => ff_q F 4 ((v * 9 + b) * 3 + x)) 3) 3 + ff_sm (fun v => ff_q F 4 (v * 9 + b)) 9)) v) : wpX_standing post u 4 (nI (9 + b)) := by
  obtain ⟨f0, f1, f2, a1, a2, a3, a4, a5, a6, a7, a8⟩ := u
  unfold wpX_standing
  dsimp only
  refine ff_isLength 4 (by omega) (br_f (by decide) (ff_isPiece (9 + b) (Or.inr (Or.inl ⟨by omega, by omega⟩)) (br_f (by decide) (ff_build hu (fun v hv => ?_)))))
  obtain ⟨g0, g1, g2, b1, b2, b3, b4, b5, b6, b7, b8⟩ := v
  dsimp only
  obtain ⟨st, ns, e, hS, hV, hr⟩ := hv.2.2
  subst e
  have es : ff_sz (9 + b) = 2 := by unfold ff_sz; rw [if_neg (by omega), if_pos (by omega)]
  refine ff_sizeOf (9 + b) (by omega) ?_
  rw [es]
  refine pk_loop (σ := Int64 × (Nat → Int64) × (Nat → Int64)) (fun f k s => wX_standing_34 post 4 (nI (9 + b)) (nI 2) f s.1 (nI k) g0 (nI ns) g2 b1 b2 b3 b4 s.2.1 s.2.2 b7 b8) (fun k s => s.1 = lN (ff_sm (fun t => ff_X st ns t (2 - t) b) k)) 3 0 (0, b5, b6) (by omega) rfl ?_ ?_
  · rintro f ⟨x, a, c⟩ e
    have e' : x = lN (ff_sm (fun t => ff_X st ns t (2 - t) b) 3) := e
    subst e'
    refine pk_lt 4 5 (fun _ => ?_) (fun z => absurd z (by omega))
    rw [lN_i]
    have q := H (g0, nI ns, g2, b1, b2, b3, b4, a, c, b7, b8) hv
    rw [← ff_X_0 hS hr hb, ← ff_X_1 hS hr hb, ← ff_X_2 hS hr hb] at q
    have e3 : ff_sm (fun t => ff_X st ns t (2 - t) b) 3 = ff_X st ns 0 2 b + ff_X st ns 1 1 b + ff_X st ns 2 0 b := by
      show 0 + ff_X st ns 0 2 b + ff_X st ns 1 1 b + ff_X st ns 2 0 b = _
      omega
    rw [e3]
    exact q
  · rintro f k ⟨x, a, c⟩ hk3 e hk
    have e' : x = lN (ff_sm (fun t => ff_X st ns t (2 - t) b) k) := e
    subst e'
    refine pk_lt 4 (k + 2) (fun z => absurd z (by omega)) (fun _ => ff_through hS hV k (2 - k) b (by omega) (by omega) hb (fun a' c' => ?_) rfl rfl ?_) rfl (nI_add k 2)
    · exact nm_r (lN_add _ _) (nm_r (nI_1 k) (hk (_, a', c') rfl))
    · exact (pk_sub (a := 2) (by omega))
end
end
section
/-! spreadTable, countWith -/
section
variable {f0 f2 : Int32} {a1 a2 a3 : Nat → Int32} {a4 a5 a6 : Nat → Int64} {a7 a8 : Nat → Int32} {st : Nat → Nat} {ns : Nat}
theorem ff_s69 {post : St2 → Prop} {J24 J37 : Int32 → (Nat → Int32) → (Nat → Int32) → (Nat → Int32) → (Nat → Int64) → (Nat → Int64) → (Nat → Int64) → (Nat → Int32) → (Nat → Int32) → Prop} {z0 : Int32} (hS : ff_S st ns a3) (t i c : Nat) (hi : i < 10 * ns) (hc : c < 3)
    (h7 : ∀ x, x < 260 → a7 x = nI (ff_T st t x)) {o : Nat → Nat} (h8 : ∀ x, x < 260 → a8 x = nI (o x)) (hz : z0 = nI (if c = 0 then 1 else 0))
    (H : ∀ a, (∀ x, x < 260 → a x = nI (o x + ff_g st i c x * ff_T st t i)) → J37 (nI (c + 1)) a1 a2 a3 a4 a5 a6 a7 a) :
    wX_spreadTable_69 post J24 J37 (nI i) (nI c) (nI (st (3 * (i / 10) + c))) z0 (nI (i % 10)) f0 (nI ns) f2 a1 a2 a3 a4 a5 a6 a7 a8 := by
  subst hz
  have h25 := hS.2.1
  have tl := hS.2.2.1 (3 * (i / 10) + c) (by omega)
  have z1 : (if c = 0 then 1 else 0) ≤ 1 := by by_cases h : c = 0 <;> simp [h]
  have i10 : i % 10 < 10 := Nat.mod_lt _ (by omega)
  unfold ff_g at H
  generalize (if c = 0 then 1 else 0) = zz at H z1 ⊢
  generalize st (3 * (i / 10) + c) = to at H tl ⊢
  refine nm_r (nI_add _ _) (pk_eq to 25 (fun z => nm_r (nI_1 c) (H a8 (fun x hx => ?_))) (fun z => pk_le 10 (i % 10 + zz) (fun y => nm_r (nI_1 c) (H a8 (fun x hx => ?_))) (fun y => ?_)))
  · rw [if_pos z, Nat.zero_mul, Nat.add_zero, h8 x hx]
  · rw [if_neg z, if_pos y, Nat.zero_mul, Nat.add_zero, h8 x hx]
  · rw [ff_l10, nI_clamp (show 10 * to + (i % 10 + zz) < 2 ^ 31 by omega), nI_clamp (show i < 2 ^ 31 by omega)]
    refine ⟨vp_in_nI (by omega) (by omega), vp_in_nI (by omega) (by omega), vp_in_nI (by omega) (by omega), nm_e (nm_r (nI_1 c) (H _ (fun x hx => ?_)))⟩
    rw [if_neg z, if_neg (show ¬ 10 ≤ i % 10 + zz by omega)]
    by_cases e : 10 * to + (i % 10 + zz) = x
    · subst e
      rw [pk_us, if_pos rfl, h8 _ (by omega), h7 _ (by omega), nI_add, Nat.one_mul]
    · rw [pk_un (fun q => e q.symm), if_neg e, Nat.zero_mul, Nat.add_zero, h8 x hx]
theorem ff_s37 {post : St2 → Prop} {J24 : Int32 → (Nat → Int32) → (Nat → Int32) → (Nat → Int32) → (Nat → Int64) → (Nat → Int64) → (Nat → Int64) → (Nat → Int32) → (Nat → Int32) → Prop} (hS : ff_S st ns a3) (t i : Nat) (hi : i < 10 * ns)
    (h7 : ∀ x, x < 260 → a7 x = nI (ff_T st t x)) {o : Nat → Nat} (h8 : ∀ x, x < 260 → a8 x = nI (o x))
    (H : ∀ a, (∀ x, x < 260 → a x = nI (o x + ff_sm (fun c => ff_g st i c x * ff_T st t i) 3)) → J24 (nI (i + 1)) a1 a2 a3 a4 a5 a6 a7 a) :
    ∃ f, wX_spreadTable_37 post J24 (nI i) f0 (nI ns) f2 f 0 a1 a2 a3 a4 a5 a6 a7 a8 := by
  have h25 := hS.2.1
  refine pk_loop (fun f c a => wX_spreadTable_37 post J24 (nI i) f0 (nI ns) f2 f (nI c) a1 a2 a3 a4 a5 a6 a7 a) (fun c a => ∀ x, x < 260 → a x = nI (o x + ff_sm (fun c => ff_g st i c x * ff_T st t i) c)) 3 0 a8 (by omega) h8 ?_ ?_
  · intro f a ha
    exact pk_le 3 3 (fun _ => nm_r (nI_1 i) (H a ha)) (fun z => absurd z (by omega))
  · intro f c a hc ha hk
    have e1 : nI i / 10 = nI (i / 10) := pk_div (d := 10) (by omega) (by omega) (by omega)
    have e2 : nI i - nI i / 10 * 10 = nI (i % 10) := pk_rem (d := 10) (by omega) (by omega) (by omega)
    have e3 : a3 (3 * (i / 10) + c) = nI (st (3 * (i / 10) + c)) := hS.2.2.2.2 _ (Or.inl (by omega))
    refine pk_le 3 c (fun z => absurd z (by omega)) (fun _ => ?_)
    rw [e2, e1, ff_l3, nI_clamp (show 3 * (i / 10) + c < 2 ^ 31 by omega), e3]
    refine ⟨by decide, vp_in_nI (by omega) (by omega), nm_e ⟨by decide, pk_eq c 0 (fun z => ?_) (fun z => ?_)⟩⟩
    · exact ff_s69 hS t i c hi hc h7 ha (by rw [if_pos z]; rfl) (fun b hb => hk b (fun x hx => by rw [hb x hx, Nat.add_assoc]; rfl))
    · exact ff_s69 hS t i c hi hc h7 ha (by rw [if_neg z]; rfl) (fun b hb => hk b (fun x hx => by rw [hb x hx, Nat.add_assoc]; rfl))
theorem ff_spread {post : St2 → Prop} (hS : ff_S st ns a3) (t : Nat) (ht : t ≤ 8) (h7 : ∀ x, x < 260 → a7 x = nI (ff_T st t x))
    (H : ∀ a c, (∀ x, x < 260 → a x = nI (ff_T st (t + 1) x)) → post (f0, nI ns, f2, a1, a2, a3, a4, a5, a6, a, c)) :
    wpX_spreadTable post (f0, nI ns, f2, a1, a2, a3, a4, a5, a6, a7, a8) := by
  have h25 := hS.2.1
  refine pk_loop (fun f i a => wX_spreadTable_2 post f0 (nI ns) f2 f (nI i) a1 a2 a3 a4 a5 a6 a7 a) (fun i a => ∀ x, x < i → a x = 0) 260 0 a8 (by omega) (fun x hx => absurd hx (by omega)) ?_ ?_
  · intro f a ha
    refine pk_le 260 260 (fun _ => ?_) (fun z => absurd z (by omega))
    refine pk_loop (fun f i a => wX_spreadTable_24 post f0 (nI ns) f2 f (nI i) a1 a2 a3 a4 a5 a6 a7 a) (fun i a => ∀ x, x < 260 → a x = nI (ff_sm (fun i => ff_sm (fun c => ff_g st i c x * ff_T st t i) 3) i)) (10 * ns) 0 a (by omega) ha ?_ ?_
    · intro f a ha
      refine pk_le (10 * ns) (10 * ns) (fun _ => ?_) (fun z => absurd z (by omega)) (pk_mul 10 ns)
      refine pk_loop (fun f i b => wX_spreadTable_120 post f0 (nI ns) f2 f (nI i) a1 a2 a3 a4 a5 a6 b a) (fun i b => ∀ x, x < i → b x = nI (ff_T st (t + 1) x)) 260 0 a7 (by omega) (fun x hx => absurd hx (by omega)) ?_ ?_
      · intro f b hb
        exact pk_le 260 260 (fun _ => H b a hb) (fun z => absurd z (by omega))
      · intro f i b hi hb hk
        refine pk_le 260 i (fun z => absurd z (by omega)) (fun _ => ?_)
        rw [nI_clamp (show i < 2 ^ 31 by omega)]
        refine ⟨vp_in_nI hi (by omega), vp_in_nI hi (by omega), nm_e (nm_r (nI_1 i) (hk _ (fun x hx => ?_)))⟩
        by_cases e : x = i
        · subst e
          rw [pk_us, ha x hi, ff_T_succ hS.2.1 hS.1 hS.2.2.2.1 hS.2.2.1 t x ht]
        · rw [pk_un e]
          exact hb x (by omega)
    · intro f i a hi ha hk
      exact pk_le (10 * ns) i (fun z => absurd z (by omega)) (fun _ => ff_s37 hS t i hi h7 ha (fun b hb => hk b hb)) (pk_mul 10 ns)
  · intro f i a hi ha hk
    refine pk_le 260 i (fun z => absurd z (by omega)) (fun _ => ?_)
    rw [nI_clamp (show i < 2 ^ 31 by omega)]
    refine ⟨vp_in_nI hi (by omega), nm_e (nm_r (nI_1 i) (hk _ (fun x hx => ?_)))⟩
    by_cases e : x = i
    · rw [e, pk_us]
    · rw [pk_un e]
      exact ha x (by omega)
end
theorem ff_countWith {F : Nat → Bool} {cnt : Nat} {u : St2} {post : Int32 → St2 → Prop} (hu : ff_R F cnt u) (k : Nat) (hk9 : k ≤ 9) (H : ∀ v, ff_B F cnt v → post (nI (ff_sm (fun w => if ff_zz 4 w = k then ff_q F 4 w else 0) 81)) v) : wpX_countWith post u 4 (nI k) := by
  obtain ⟨f0, f1, f2, a1, a2, a3, a4, a5, a6, a7, a8⟩ := u
  unfold wpX_countWith
  dsimp only
  refine ff_isLength 4 (by omega) (br_f (by decide) (pk_lt k 0 (fun z => absurd z (by omega)) (fun _ => pk_le k 9 (fun _ => ff_build hu (fun v hv => ?_)) (fun z => absurd z (by omega)))))
  obtain ⟨g0, g1, g2, b1, b2, b3, b4, b5, b6, b7, b8⟩ := v
  dsimp only
  obtain ⟨st, ns, e, hS, hV, hr⟩ := hv.2.2
  subst e
  have h25 := hS.2.1
  have eF : ff_sm (fun s => ff_T st 4 (10 * s + k)) ns = ff_sm (fun w => if ff_zz 4 w = k then ff_q F 4 w else 0) 81 := by
    rw [ff_T_fin hS.1 hS.2.2.2.1 hS.2.2.1 4 k (by omega) hk9]
    refine ff_sm_congr (fun w _ => ?_)
    rw [← ff_q_run hr]
    by_cases x : ff_run st 0 4 w = 25 <;> by_cases y : ff_zz 4 w = k <;> simp [x, y]
  rw [← eF] at H
  refine pk_loop (fun f i a => wX_countWith_28 post 4 (nI k) g0 (nI ns) g2 f (nI i) b1 b2 b3 b4 b5 b6 a b8) (fun i a => ∀ x, x < i → a x = 0) 260 0 b7 (by omega) (fun x hx => absurd hx (by omega)) ?_ ?_
  · intro f a ha
    refine pk_le 260 260 (fun _ => nm_e ?_) (fun z => absurd z (by omega))
    refine pk_loop (σ := (Nat → Int32) × (Nat → Int32)) (fun f i s => wX_countWith_57 post 4 (nI k) f (nI i) g0 (nI ns) g2 b1 b2 b3 b4 b5 b6 s.1 s.2) (fun t s => ∀ x, x < 260 → s.1 x = nI (ff_T st t x)) 4 0 (upd a 0 1, b8) (by omega) ?_ ?_ ?_
    · intro x hx
      show upd a 0 1 x = nI (ff_T st 0 x)
      rw [ff_T_0]
      by_cases e : x = 0
      · rw [e, pk_us]
        rfl
      · rw [pk_un e, if_neg e, ha x hx]
        rfl
    · rintro f ⟨a, c⟩ ha
      refine pk_le 4 4 (fun _ => ?_) (fun z => absurd z (by omega))
      refine pk_loop (fun f s x => wX_countWith_77 post (nI k) g0 (nI ns) g2 b1 b2 b3 b4 b5 b6 a c f x (nI s)) (fun s x => x = nI (ff_sm (fun s => ff_T st 4 (10 * s + k)) s)) ns 0 0 (by omega) rfl ?_ ?_
      · rintro f x rfl
        exact pk_le ns ns (fun _ => H (g0, nI ns, g2, b1, b2, b3, b4, b5, b6, a, c) hv) (fun z => absurd z (by omega))
      · rintro f s x hs rfl hk
        have ha' : a (10 * s + k) = nI (ff_T st 4 (10 * s + k)) := ha _ (by omega)
        refine pk_le ns s (fun z => absurd z (by omega)) (fun _ => ?_)
        rw [ff_l10, nI_clamp (by omega), ha', nI_add]
        exact ⟨vp_in_nI (by omega) (by omega), nm_e (nm_r (nI_1 s) (hk _ rfl))⟩
    · rintro f t ⟨a, c⟩ ht ha hk
      refine pk_le 4 t (fun z => absurd z (by omega)) (fun _ => ff_spread hS t (by omega) ha (fun a' c' h' => ?_))
      exact nm_r (nI_1 t) (hk (a', c') h')
  · intro f i a hi ha hk
    refine pk_le 260 i (fun z => absurd z (by omega)) (fun _ => ?_)
    rw [nI_clamp (show i < 2 ^ 31 by omega)]
    refine ⟨vp_in_nI hi (by omega), nm_e (nm_r (nI_1 i) (hk _ (fun x hx => ?_)))⟩
    by_cases e : x = i
    · rw [e, pk_us]
    · rw [pk_un e]
      exact ha x (by omega)
end
section
/-! the law's own methods, forbid, the law's first loop -/
theorem ff_rem_add (a y d : Nat) (hy : y < 2 ^ 31) (h0 : 0 < d) (hd : d < 2 ^ 31) : nI a + (nI y - nI y / nI d * nI d) = nI (a + y % d) := by
  rw [pk_rem hy h0 hd, nI_add]
theorem ff_piece1 (code i : Int32) : ∃ p, ff_val p ∧ ∀ post : Int32 → Prop, post (nI p) → wpL_piece post () code i := by
  obtain ⟨y, hy, ey⟩ := pk_andE (code >>> ((8 * i) &&& 31)) (m := 255) 8 (by decide)
  have hy' : y < 256 := hy
  have e7 : nI y &&& 7 = nI (y % 2 ^ 3) := pk_andN (by omega) 3 (by decide)
  have e1 : nI y &&& 1 = nI (y % 2 ^ 1) := pk_andN (by omega) 1 (by decide)
  have s3 : nI y >>> ((3 : Int32) &&& 31) = nI (y / 2 ^ 3) := pk_shrN (by omega) _ 3 (by decide)
  have s1 : nI y >>> ((1 : Int32) &&& 31) = nI (y / 2 ^ 1) := pk_shrN (by omega) _ 1 (by decide)
  by_cases h7 : y % 8 = 0
  · refine ⟨3 + y / 8 % 3, Or.inl ⟨by omega, by omega⟩, fun post hp => nm_r ey ?_⟩
    rw [e7, s3]
    refine pk_eq (y % 8) 0 (fun _ => ⟨by decide, ?_⟩) (fun z => absurd h7 z)
    exact (congrArg post (ff_rem_add 3 (y / 8) 3 (by omega) (by omega) (by omega))).mpr hp
  · by_cases h2 : y % 2 = 0
    · refine ⟨9 + y / 2 % 9, Or.inr (Or.inl ⟨by omega, by omega⟩), fun post hp => nm_r ey ?_⟩
      rw [e7, e1, s1]
      refine pk_eq (y % 8) 0 (fun z => absurd z h7) (fun _ => pk_eq (y % 2) 0 (fun _ => ⟨by decide, ?_⟩) (fun z => absurd h2 z))
      exact (congrArg post (ff_rem_add 9 (y / 2) 9 (by omega) (by omega) (by omega))).mpr hp
    · refine ⟨27 + y / 2 % 27, Or.inr (Or.inr ⟨by omega, by omega⟩), fun post hp => nm_r ey ?_⟩
      rw [e7, e1, s1]
      refine pk_eq (y % 8) 0 (fun z => absurd z h7) (fun _ => pk_eq (y % 2) 0 (fun z => absurd z h2) (fun _ => ⟨by decide, ?_⟩))
      exact (congrArg post (ff_rem_add 27 (y / 2) 27 (by omega) (by omega) (by omega))).mpr hp
/-- the script's three pieces -/
def ff_P (code : Int32) (q : Nat → Nat) : Prop := ∀ i, ff_val (q i) ∧ ∀ post : Int32 → Prop, post (nI (q i)) → wpL_piece post () code (nI i)
theorem ff_pieces (code : Int32) : ∃ q : Nat → Nat, ff_P code q := by
  obtain ⟨q, h⟩ := Classical.axiomOfChoice (fun i : Nat => ff_piece1 code (nI i))
  exact ⟨q, h⟩
def ff_is (p : Nat) : Nat → Bool := fun y => decide (y = p)
theorem ff_is_iff (p y : Nat) : ff_is p y = true ↔ y = p := by unfold ff_is; exact decide_eq_true_iff
theorem ff_sd_next {F : Nat → Bool} {n w : Nat} (h1 : ¬ F (3 + w % 3) = true) (h2 : ¬ (1 ≤ n ∧ F (9 + w % 9) = true)) (h3 : ¬ (2 ≤ n ∧ F (27 + w % 27) = true)) : ff_sd F (n + 1) w = ff_sd F n (w / 3) := by
  rw [Bool.eq_iff_iff, ff_sd_succ]
  constructor
  · rintro (h | h | h | h)
    · exact absurd h h1
    · exact absurd h h2
    · exact absurd h h3
    · exact h
  · exact fun h => Or.inr (Or.inr (Or.inr h))
theorem ff_stands5 {post : Int32 → Prop} (p : Nat) (hp : p < 54) (n : Nat) : ∀ w, n < 2 ^ 20 → w < 2 ^ 20 → post (nI (if ff_sd (ff_is p) n w = true then 1 else 0)) → wL_stands_5 post (nI p) (n + 1) (nI w) (nI n) := by
  induction n with
  | zero => exact fun w _ _ H => pk_le 0 0 (fun _ => H) (fun z => absurd z (by omega))
  | succ n ih =>
    intro w hn hw H
    have e3 : (3 : Int32) + (nI w - nI w / 3 * 3) = nI (3 + w % 3) := ff_rem_add 3 w 3 (by omega) (by omega) (by omega)
    have e9 : (9 : Int32) + (nI w - nI w / 9 * 9) = nI (9 + w % 9) := ff_rem_add 9 w 9 (by omega) (by omega) (by omega)
    have e27 : (27 : Int32) + (nI w - nI w / 27 * 27) = nI (27 + w % 27) := ff_rem_add 27 w 27 (by omega) (by omega) (by omega)
    have d3 : nI w / 3 = nI (w / 3) := pk_div (d := 3) (by omega) (by omega) (by omega)
    have yes : ff_sd (ff_is p) (n + 1) w = true → post 1 := fun h => by rw [if_pos h] at H; exact H
    have no : ¬ 3 + w % 3 = p → ¬ (1 ≤ n ∧ 9 + w % 9 = p) → ¬ (2 ≤ n ∧ 27 + w % 27 = p) → wL_stands_5 post (nI p) (n + 1) (nI (w / 3)) (nI n) := by
      intro h1 h2 h3
      rw [ff_sd_next (fun z => h1 ((ff_is_iff _ _).mp z)) (fun z => h2 ⟨z.1, (ff_is_iff _ _).mp z.2⟩) (fun z => h3 ⟨z.1, (ff_is_iff _ _).mp z.2⟩)] at H
      exact ih (w / 3) (by omega) (by omega) H
    have s38 : ¬ 3 + w % 3 = p → ¬ (1 ≤ n ∧ 9 + w % 9 = p) → wL_stands_38 post (wL_stands_5 post (nI p) (n + 1)) (nI p) (nI w) (nI (n + 1)) := by
      intro h1 h2
      refine pk_le (n + 1) 2 (fun z => ⟨by decide, nm_r d3 (nm_r (pk_m1 n) (no h1 h2 (fun q => absurd q.1 (by omega))))⟩) (fun z => ⟨by decide, pk_eq (27 + w % 27) p (fun e => ?_) (fun e => ⟨by decide, nm_r d3 (nm_r (pk_m1 n) (no h1 h2 (fun q => e q.2)))⟩) e27⟩)
      exact yes ((ff_sd_succ _ _ _).mpr (Or.inr (Or.inr (Or.inl ⟨by omega, (ff_is_iff _ _).mpr e⟩))))
    refine pk_le (n + 1) 0 (fun z => absurd z (by omega)) (fun _ => ⟨by decide, pk_eq (3 + w % 3) p (fun e => ?_) (fun e => pk_le (n + 1) 1 (fun z => s38 e (fun q => absurd q.1 (by omega))) (fun z => ⟨by decide, pk_eq (9 + w % 9) p (fun e2 => ?_) (fun e2 => s38 e (fun q => e2 q.2)) e9⟩)) e3⟩)
    · exact yes ((ff_sd_succ _ _ _).mpr (Or.inl ((ff_is_iff _ _).mpr e)))
    · exact yes ((ff_sd_succ _ _ _).mpr (Or.inr (Or.inl ⟨by omega, (ff_is_iff _ _).mpr e2⟩)))
/-- the forbidden pieces -/
def ff_F (q : Nat → Nat) : Nat → Bool := fun y => ff_is (q 0) y || (fun y => ff_is (q 1) y || ff_is (q 2) y) y
theorem ff_F_iff (q : Nat → Nat) (p : Nat) : ff_F q p = true ↔ ∃ j, j < 3 ∧ q j = p := by
  unfold ff_F
  rw [Bool.or_eq_true, Bool.or_eq_true, ff_is_iff, ff_is_iff, ff_is_iff]
  constructor
  · rintro (h | h | h)
    · exact ⟨0, by omega, h.symm⟩
    · exact ⟨1, by omega, h.symm⟩
    · exact ⟨2, by omega, h.symm⟩
  · rintro ⟨j, hj, h⟩
    by_cases j0 : j = 0
    · subst j0; exact Or.inl h.symm
    · by_cases j1 : j = 1
      · subst j1; exact Or.inr (Or.inl h.symm)
      · have j2 : j = 2 := by omega
        subst j2; exact Or.inr (Or.inr h.symm)
theorem ff_F_sd (q : Nat → Nat) (n w : Nat) : ff_sd (ff_F q) n w = true ↔ ∃ j, j < 3 ∧ ff_sd (ff_is (q j)) n w = true := by
  unfold ff_F
  rw [ff_sd_or, ff_sd_or (ff_is (q 1)) (ff_is (q 2)), Bool.or_eq_true, Bool.or_eq_true]
  constructor
  · rintro (h | h | h)
    · exact ⟨0, by omega, h⟩
    · exact ⟨1, by omega, h⟩
    · exact ⟨2, by omega, h⟩
  · rintro ⟨j, hj, h⟩
    by_cases j0 : j = 0
    · subst j0; exact Or.inl h
    · by_cases j1 : j = 1
      · subst j1; exact Or.inr (Or.inl h)
      · have j2 : j = 2 := by omega
        subst j2; exact Or.inr (Or.inr h)
theorem ff_lallow {post : Int32 → Prop} {code x y : Int32} {q : Nat → Nat} (hq : ff_P code q) (n w : Nat) (hn : n < 2 ^ 20) (hw : w < 2 ^ 20) (H : post (nI (ff_q (ff_F q) n w))) (hx : x = nI n := by rfl) (hy : y = nI w := by rfl) : wpL_allowed post () code x y := by
  subst hx hy
  unfold ff_q at H
  refine pk_loop (σ := Unit) (fun f i _ => wL_allowed_2 post code (nI n) (nI w) f (nI i)) (fun i _ => ∀ j, j < i → ¬ ff_sd (ff_is (q j)) n w = true) 3 0 () (by omega) (fun j hj => absurd hj (by omega)) ?_ ?_
  · intro f _ h
    refine pk_le 3 3 (fun _ => ?_) (fun z => absurd z (by omega))
    rw [if_neg (fun z => by obtain ⟨j, j1, j2⟩ := (ff_F_sd q n w).mp z; exact h j j1 j2)] at H
    exact H
  · intro f i _ hi h hk
    refine pk_le 3 i (fun z => absurd z (by omega)) (fun _ => (hq i).2 _ ⟨n + 1, ff_stands5 (q i) (ff_val_lt (hq i).1) n w hn hw ?_⟩)
    by_cases g : ff_sd (ff_is (q i)) n w = true
    · rw [if_pos g]
      rw [if_pos ((ff_F_sd q n w).mpr ⟨i, hi, g⟩)] at H
      exact br_f (by decide) H
    · rw [if_neg g]
      exact br_t (by decide) (nm_r (nI_1 i) (hk () (lt_s h g)))
/-- the list behind i pieces of the script -/
def ff_LL (q : Nat → Nat) (i cnt : Nat) (a1 : Nat → Int32) : Prop := cnt ≤ i ∧ ∃ pl : Nat → Nat, (∀ k, k < cnt → a1 k = nI (pl k) ∧ ff_val (pl k)) ∧ ∀ p, (∃ k, k < cnt ∧ pl k = p) ↔ ∃ j, j < i ∧ q j = p
section
variable {f0 f1 f2 : Int32} {a1 a2 a3 : Nat → Int32} {a4 a5 a6 : Nat → Int64} {a7 a8 : Nat → Int32}
theorem ff_forbid {post : Int32 → St2 → Prop} {q : Nat → Nat} {i cnt : Nat} (hv : ff_val (q i)) (hL : ff_LL q i cnt a1) (hi : i < 3) (h0 : f2 = 0)
    (Hn : (∀ j, j < i → q j ≠ q i) → ff_LL q (i + 1) (cnt + 1) (upd a1 cnt (nI (q i))) → post (nI (cnt + 1)) (nI (cnt + 1), f1, 0, upd a1 cnt (nI (q i)), a2, a3, a4, a5, a6, a7, a8))
    (Ho : (∃ j, j < i ∧ q j = q i) → ff_LL q (i + 1) cnt a1 → post (-2) (nI cnt, f1, f2, a1, a2, a3, a4, a5, a6, a7, a8)) :
    wpX_forbid post (nI cnt, f1, f2, a1, a2, a3, a4, a5, a6, a7, a8) (nI (q i)) := by
  obtain ⟨c1, pl, c2, c3⟩ := hL
  have v54 := ff_val_lt hv
  unfold wpX_forbid
  dsimp only
  refine ff_isPiece (q i) hv (br_f (by decide) (ff_place (by omega) (fun k hk => ⟨(c2 k hk).1, ff_val_lt (c2 k hk).2⟩) (q i) (by omega) ?_ ?_))
  · intro k k1 k2
    have ex := (c3 (q i)).mp ⟨k, k1, k2⟩
    refine pk_lt k 0 (fun z => absurd z (by omega)) (fun _ => Ho ex ⟨by omega, pl, c2, fun p => ?_⟩)
    rw [c3 p]
    constructor
    · rintro ⟨j, j1, j2⟩
      exact ⟨j, by omega, j2⟩
    · rintro ⟨j, j1, j2⟩
      by_cases e : j = i
      · subst e
        obtain ⟨j', x1, x2⟩ := ex
        exact ⟨j', x1, by rw [x2, j2]⟩
      · exact ⟨j, by omega, j2⟩
  · intro no
    refine br_t (by decide) (pk_eq cnt 6 (fun z => absurd z (by omega)) (fun _ => ⟨vp_in_nI (by omega) (by omega), nm_r (show upd a1 (nI cnt).toNatClampNeg (nI (q i)) = upd a1 cnt (nI (q i)) by rw [nI_clamp (by omega)]) (nm_r (nI_1 cnt) (Hn ?_ ⟨by omega, fun k => if k = cnt then q i else pl k, ?_, ?_⟩))⟩))
    · intro j hj e
      obtain ⟨k, k1, k2⟩ := (c3 (q i)).mpr ⟨j, hj, e⟩
      exact no k k1 k2
    · intro k hk
      show upd a1 cnt (nI (q i)) k = nI (if k = cnt then q i else pl k) ∧ ff_val (if k = cnt then q i else pl k)
      by_cases e : k = cnt
      · rw [e, pk_us, if_pos rfl]
        exact ⟨rfl, hv⟩
      · rw [pk_un e, if_neg e]
        exact c2 k (by omega)
    · intro p
      constructor
      · rintro ⟨k, k1, k2⟩
        have k2' : (if k = cnt then q i else pl k) = p := k2
        by_cases e : k = cnt
        · rw [if_pos e] at k2'
          exact ⟨i, by omega, k2'⟩
        · rw [if_neg e] at k2'
          obtain ⟨j, j1, j2⟩ := (c3 p).mp ⟨k, by omega, k2'⟩
          exact ⟨j, by omega, j2⟩
      · rintro ⟨j, j1, j2⟩
        by_cases e : j = i
        · subst e
          exact ⟨cnt, by omega, by show (if cnt = cnt then q j else pl cnt) = p; rw [if_pos rfl, j2]⟩
        · obtain ⟨k, k1, k2⟩ := (c3 p).mpr ⟨j, by omega, j2⟩
          exact ⟨k, by omega, by show (if k = cnt then q i else pl k) = p; rw [if_neg (by omega), k2]⟩
theorem ff_l14 {post : Int32 → St0 → Prop} {mc ms : Nat} {x0 x1 x2 : Int32} {kc ks : Nat} {q : Nat → Nat} (hq : ff_P x0 q) {n i cnt : Nat} (hL : ff_LL q i cnt a1) (hi : i < 3)
    (H : ∀ cnt' a, ff_LL q (i + 1) cnt' a → wL_lawOf_14 post mc ms x0 x1 x2 kc ks n (nI cnt') (nI (i + 1)) (nI cnt') f1 0 a a2 a3 a4 a5 a6 a7 a8) :
    wL_lawOf_14 post mc ms x0 x1 x2 kc ks (n + 1) (nI cnt) (nI i) (nI cnt) f1 0 a1 a2 a3 a4 a5 a6 a7 a8 := by
  have c1 := hL.1
  refine pk_le 3 i (fun z => absurd z (by omega)) (fun _ => (hq i).2 _ ?_)
  refine pk_loop (fun f j x => wL_lawOf_34 post mc ms _ x0 x1 x2 (nI cnt) (nI i) (nI (q i)) kc ks (nI cnt) f1 0 a1 a2 a3 a4 a5 a6 a7 a8 f x (nI j)) (fun j x => (x = nI 0 ∧ ∀ j', j' < j → q j' ≠ q i) ∨ (x = nI 1 ∧ ∃ j', j' < j ∧ q j' = q i)) i 0 0 (by omega) (Or.inl ⟨rfl, fun j hj => absurd hj (by omega)⟩) ?_ ?_
  · intro f x hx
    refine pk_le i i (fun _ => ff_forbid (hq i).1 hL hi rfl ?_ ?_) (fun z => absurd z (by omega))
    · intro no hL'
      rcases hx with ⟨rfl, _⟩ | ⟨_, j, j1, j2⟩
      · exact br_t rfl (br_t (nI_1 cnt).symm (br_t rfl (nm_r (nI_1 cnt) (nm_r (nI_1 i) (H (cnt + 1) _ hL')))))
      · exact absurd j2 (no j j1)
    · rintro ⟨j, j1, j2⟩ hL'
      rcases hx with ⟨_, no⟩ | ⟨rfl, _⟩
      · exact absurd j2 (no j j1)
      · exact br_f (by decide) (br_t rfl (br_f (by decide) (nm_r (nI_1 i) (H cnt _ hL'))))
  · intro f j x hj hx hk
    refine pk_le i j (fun z => absurd z (by omega)) (fun _ => (hq j).2 _ (pk_eq (q j) (q i) (fun e => nm_r (nI_1 j) (hk 1 (Or.inr ⟨rfl, j, by omega, e⟩))) (fun e => nm_r (nI_1 j) (hk x ?_)) rfl rfl (by have := ff_val_lt (hq j).1; omega) (by have := ff_val_lt (hq i).1; omega)))
    rcases hx with ⟨h1, h2⟩ | ⟨h1, j', h2, h3⟩
    · exact Or.inl ⟨h1, lt_s h2 e⟩
    · exact Or.inr ⟨h1, j', by omega, h3⟩
end
end
section
/-! the chain of branches behind a living word -/
theorem ff_b10 {c : Prop} {P : Int32 → Prop} (d : Prop) [Decidable d] (h : c ↔ d) (H : P (nI (if d then 1 else 0))) : (c → P 1) ∧ (¬ c → P 0) := by
  constructor
  · intro z
    rw [if_pos (h.mp z)] at H
    exact H
  · intro z
    rw [if_neg (fun y => z (h.mpr y))] at H
    exact H
theorem ff_b01 {c : Prop} {P : Int32 → Prop} (d : Prop) [Decidable d] (h : c ↔ ¬ d) (H : P (nI (if d then 1 else 0))) : (c → P 0) ∧ (¬ c → P 1) := by
  constructor
  · intro z
    rw [if_neg (h.mp z)] at H
    exact H
  · intro z
    by_cases y : d
    · rw [if_pos y] at H
      exact H
    · exact absurd (h.mpr y) z
theorem ff_bup {c : Prop} {P : Int32 → Prop} (n : Nat) (d : Prop) [Decidable d] (h : c ↔ d) (H : P (nI (n + if d then 1 else 0))) : (c → ∀ y, y = nI n + 1 → P y) ∧ (¬ c → P (nI n)) := by
  constructor
  · intro z
    rw [if_pos (h.mp z)] at H
    exact nm_r (nI_1 n) H
  · intro z
    rw [if_neg (fun y => z (h.mpr y))] at H
    exact H
theorem ff_chain {post : Int32 → St0 → Prop} {mc ms : Nat} {J138 J148 : Int32 → Int32 → Int32 → Int32 → Int32 → Int32 → Int32 → Int32 → Int32 → Int32 → (Nat → Int32) → (Nat → Int32) → (Nat → Int32) → (Nat → Int64) → (Nat → Int64) → (Nat → Int64) → (Nat → Int32) → (Nat → Int32) → Prop} {x0 x4 x5 : Int32} {kc ks : Nat} {g0 g1 g2 : Int32} {b1 b2 b3 : Nat → Int32} {b4 b5 b6 : Nat → Int64} {b7 b8 : Nat → Int32} {n6 n7 n8 n9 n10 zr b i j : Nat} (hi : i < 9) (hj : j < 9) (hb : b < 9) (hz : zr < 4)
    (H : J148 x5 (nI (n6 + if ((if i < 3 then 1 else 0) + (if i % 3 = 0 then 1 else 0) + (if j < 3 then 1 else 0) + (if j % 3 = 0 then 1 else 0)) = zr then 1 else 0)) (nI (n7 + if i = b then 1 else 0)) (nI (n8 + if j = b then 1 else 0)) (nI (n9 + ((if i = b then 1 else 0) + (if j = b then 1 else 0) + (if (9 * i + j) / 3 % 9 = b then 1 else 0)))) (nI (n10 + if i = ff_rev j then 1 else 0)) (nI (j + 1)) g0 g1 g2 b1 b2 b3 b4 b5 b6 b7 b8) :
    (3 ≤ nI i → wL_lawOf_303 post mc ms J138 J148 x0 x4 x5 (nI n6) (nI n7) (nI n8) (nI n9) (nI n10) (nI zr) (nI (9 + b)) (nI i) (nI j) (nI (9 * i + j)) 0 kc ks g0 g1 g2 b1 b2 b3 b4 b5 b6 b7 b8) ∧ (¬ 3 ≤ nI i → wL_lawOf_303 post mc ms J138 J148 x0 x4 x5 (nI n6) (nI n7) (nI n8) (nI n9) (nI n10) (nI zr) (nI (9 + b)) (nI i) (nI j) (nI (9 * i + j)) 1 kc ks g0 g1 g2 b1 b2 b3 b4 b5 b6 b7 b8) := by
  have eb : nI (9 + b) - 9 = nI b := (pk_sub (a := 9 + b) (b := 9) (by omega)).trans (congrArg nI (by omega))
  have e3 : ∀ x, x < 2 ^ 31 → nI x - nI x / 3 * 3 = nI (x % 3) := fun x hx => pk_rem (d := 3) hx (by omega) (by omega)
  have d3 : ∀ x, x < 2 ^ 31 → nI x / 3 = nI (x / 3) := fun x hx => pk_div (d := 3) hx (by omega) (by omega)
  have e9 : ∀ x, x < 2 ^ 31 → nI x - nI x / 9 * 9 = nI (x % 9) := fun x hx => pk_rem (d := 9) hx (by omega) (by omega)
  have rv : ff_rev j < 9 := ff_rev_lt hj
  refine ff_b01 (P := fun t => wL_lawOf_303 post mc ms J138 J148 x0 x4 x5 (nI n6) (nI n7) (nI n8) (nI n9) (nI n10) (nI zr) (nI (9 + b)) (nI i) (nI j) (nI (9 * i + j)) t kc ks g0 g1 g2 b1 b2 b3 b4 b5 b6 b7 b8) (i < 3) ((nI_leI (a := 3) (by omega) (by omega)).trans (by omega)) ?_
  unfold wL_lawOf_303
  rw [e3 i (by omega)]
  refine ⟨by decide, ?_⟩
  refine ff_b10 (P := fun t => wL_lawOf_315 post mc ms J138 J148 x0 x4 x5 (nI n6) (nI n7) (nI n8) (nI n9) (nI n10) (nI zr) (nI (9 + b)) (nI i) (nI j) (nI (9 * i + j)) t (nI (if i < 3 then 1 else 0)) kc ks g0 g1 g2 b1 b2 b3 b4 b5 b6 b7 b8) (i % 3 = 0) (nI_eq (b := 0) (by omega) (by omega)) ?_
  unfold wL_lawOf_315
  refine ff_b01 (P := fun t => wL_lawOf_327 post mc ms J138 J148 x0 x4 x5 (nI n6) (nI n7) (nI n8) (nI n9) (nI n10) (nI zr) (nI (9 + b)) (nI i) (nI j) (nI (9 * i + j)) t ((nI (if i < 3 then 1 else 0)) + (nI (if i % 3 = 0 then 1 else 0))) kc ks g0 g1 g2 b1 b2 b3 b4 b5 b6 b7 b8) (j < 3) ((nI_leI (a := 3) (by omega) (by omega)).trans (by omega)) ?_
  unfold wL_lawOf_327
  rw [e3 j (by omega)]
  refine ⟨by decide, ?_⟩
  refine ff_b10 (P := fun t => wL_lawOf_340 post mc ms J138 J148 x0 x4 x5 (nI n6) (nI n7) (nI n8) (nI n9) (nI n10) (nI zr) (nI (9 + b)) (nI i) (nI j) (nI (9 * i + j)) t ((nI (if i < 3 then 1 else 0)) + (nI (if i % 3 = 0 then 1 else 0)) + (nI (if j < 3 then 1 else 0))) kc ks g0 g1 g2 b1 b2 b3 b4 b5 b6 b7 b8) (j % 3 = 0) (nI_eq (b := 0) (by omega) (by omega)) ?_
  unfold wL_lawOf_340
  refine nm_r (show (nI (if i < 3 then 1 else 0)) + (nI (if i % 3 = 0 then 1 else 0)) + (nI (if j < 3 then 1 else 0)) + (nI (if j % 3 = 0 then 1 else 0)) = nI ((if i < 3 then 1 else 0) + (if i % 3 = 0 then 1 else 0) + (if j < 3 then 1 else 0) + (if j % 3 = 0 then 1 else 0)) by rw [nI_add, nI_add, nI_add]) ?_
  have hn : ((if i < 3 then 1 else 0) + (if i % 3 = 0 then 1 else 0) + (if j < 3 then 1 else 0) + (if j % 3 = 0 then 1 else 0)) < 2 ^ 31 := by
    have z1 : ∀ (d : Prop) [Decidable d], (if d then 1 else 0) ≤ 1 := fun d _ => by by_cases h : d <;> simp [h]
    have q1 := z1 (i < 3)
    have q2 := z1 (i % 3 = 0)
    have q3 := z1 (j < 3)
    have q4 := z1 (j % 3 = 0)
    omega
  refine ff_bup (P := fun t => wL_lawOf_353 post mc ms J138 J148 x0 x4 x5 t (nI n7) (nI n8) (nI n9) (nI n10) (nI zr) (nI (9 + b)) (nI i) (nI j) (nI (9 * i + j)) kc ks g0 g1 g2 b1 b2 b3 b4 b5 b6 b7 b8) n6 (((if i < 3 then 1 else 0) + (if i % 3 = 0 then 1 else 0) + (if j < 3 then 1 else 0) + (if j % 3 = 0 then 1 else 0)) = zr) (nI_eq hn (by omega)) ?_
  unfold wL_lawOf_353
  rw [eb]
  refine ff_bup (P := fun t => wL_lawOf_366 post mc ms J138 J148 x0 x4 x5 (nI (n6 + if ((if i < 3 then 1 else 0) + (if i % 3 = 0 then 1 else 0) + (if j < 3 then 1 else 0) + (if j % 3 = 0 then 1 else 0)) = zr then 1 else 0)) t (nI n8) (nI n9) (nI n10) (nI zr) (nI (9 + b)) (nI i) (nI j) (nI (9 * i + j)) kc ks g0 g1 g2 b1 b2 b3 b4 b5 b6 b7 b8) n7 (i = b) (nI_eq (by omega) (by omega)) ?_
  unfold wL_lawOf_366
  rw [eb]
  refine ff_bup (P := fun t => wL_lawOf_379 post mc ms J138 J148 x0 x4 x5 (nI (n6 + if ((if i < 3 then 1 else 0) + (if i % 3 = 0 then 1 else 0) + (if j < 3 then 1 else 0) + (if j % 3 = 0 then 1 else 0)) = zr then 1 else 0)) (nI (n7 + if i = b then 1 else 0)) t (nI n9) (nI n10) (nI zr) (nI (9 + b)) (nI i) (nI j) (nI (9 * i + j)) kc ks g0 g1 g2 b1 b2 b3 b4 b5 b6 b7 b8) n8 (j = b) (nI_eq (by omega) (by omega)) ?_
  unfold wL_lawOf_379
  rw [eb]
  refine ff_b10 (P := fun t => wL_lawOf_396 post mc ms J138 J148 x0 x4 x5 (nI (n6 + if ((if i < 3 then 1 else 0) + (if i % 3 = 0 then 1 else 0) + (if j < 3 then 1 else 0) + (if j % 3 = 0 then 1 else 0)) = zr then 1 else 0)) (nI (n7 + if i = b then 1 else 0)) (nI (n8 + if j = b then 1 else 0)) (nI n10) (nI zr) (nI (9 + b)) (nI i) (nI j) (nI (9 * i + j)) t (nI n9) kc ks g0 g1 g2 b1 b2 b3 b4 b5 b6 b7 b8) (i = b) (nI_eq (by omega) (by omega)) ?_
  unfold wL_lawOf_396
  rw [eb]
  refine ff_b10 (P := fun t => wL_lawOf_411 post mc ms J138 J148 x0 x4 x5 (nI (n6 + if ((if i < 3 then 1 else 0) + (if i % 3 = 0 then 1 else 0) + (if j < 3 then 1 else 0) + (if j % 3 = 0 then 1 else 0)) = zr then 1 else 0)) (nI (n7 + if i = b then 1 else 0)) (nI (n8 + if j = b then 1 else 0)) (nI n10) (nI zr) (nI (9 + b)) (nI i) (nI j) (nI (9 * i + j)) t (nI (if i = b then 1 else 0)) (nI n9) kc ks g0 g1 g2 b1 b2 b3 b4 b5 b6 b7 b8) (j = b) (nI_eq (by omega) (by omega)) ?_
  unfold wL_lawOf_411
  rw [eb, d3 (9 * i + j) (by omega), e9 ((9 * i + j) / 3) (by omega)]
  refine ⟨by decide, by decide, ?_⟩
  refine ff_b10 (P := fun t => wL_lawOf_432 post mc ms J138 J148 x0 x4 x5 (nI (n6 + if ((if i < 3 then 1 else 0) + (if i % 3 = 0 then 1 else 0) + (if j < 3 then 1 else 0) + (if j % 3 = 0 then 1 else 0)) = zr then 1 else 0)) (nI (n7 + if i = b then 1 else 0)) (nI (n8 + if j = b then 1 else 0)) (nI n10) (nI zr) (nI (9 + b)) (nI i) (nI j) t ((nI (if i = b then 1 else 0)) + (nI (if j = b then 1 else 0))) (nI n9) kc ks g0 g1 g2 b1 b2 b3 b4 b5 b6 b7 b8) ((9 * i + j) / 3 % 9 = b) (nI_eq (by omega) (by omega)) ?_
  unfold wL_lawOf_432
  refine nm_r (show nI n9 + ((nI (if i = b then 1 else 0)) + (nI (if j = b then 1 else 0)) + (nI (if (9 * i + j) / 3 % 9 = b then 1 else 0))) = nI (n9 + ((if i = b then 1 else 0) + (if j = b then 1 else 0) + (if (9 * i + j) / 3 % 9 = b then 1 else 0))) by rw [nI_add, nI_add, nI_add]) ?_
  rw [e3 j (by omega), d3 j (by omega), show nI (j % 3) * 3 + nI (j / 3) = nI (ff_rev j) from ff_lin (j % 3) 3 (j / 3)]
  refine ⟨by decide, by decide, ?_⟩
  refine pk_eq i (ff_rev j) (fun z => ?_) (fun z => ?_)
  · rw [if_pos z] at H
    exact nm_r (nI_1 n10) (nm_r (nI_1 j) H)
  · rw [if_neg z] at H
    exact nm_r (nI_1 j) H
end
section
/-! the law's main loops -/
def ff_S1 (F : Nat → Bool) (k n : Nat) : Nat := ff_sm (fun w => if ff_zz 4 w = k then ff_q F 4 w else 0) n
def ff_Sa (F : Nat → Bool) (b n : Nat) : Nat := ff_sm (fun w => if w / 9 = b then ff_q F 4 w else 0) n
def ff_Sb (F : Nat → Bool) (b n : Nat) : Nat := ff_sm (fun w => if w % 9 = b then ff_q F 4 w else 0) n
def ff_Sc (F : Nat → Bool) (b n : Nat) : Nat := ff_sm (fun w => if w / 3 % 9 = b then ff_q F 4 w else 0) n
def ff_Se (F : Nat → Bool) (n : Nat) : Nat := ff_sm (fun w => if w / 9 = ff_rev (w % 9) then ff_q F 4 w else 0) n
theorem ff_C_s (F : Nat → Bool) (w : Nat) : ff_C F 4 (w + 1) = ff_C F 4 w + ff_q F 4 w := rfl
theorem ff_S1_s (F : Nat → Bool) (k w : Nat) : ff_S1 F k (w + 1) = ff_S1 F k w + (if ff_zz 4 w = k then ff_q F 4 w else 0) := rfl
theorem ff_Sa_s (F : Nat → Bool) (k w : Nat) : ff_Sa F k (w + 1) = ff_Sa F k w + (if w / 9 = k then ff_q F 4 w else 0) := rfl
theorem ff_Sb_s (F : Nat → Bool) (k w : Nat) : ff_Sb F k (w + 1) = ff_Sb F k w + (if w % 9 = k then ff_q F 4 w else 0) := rfl
theorem ff_Sc_s (F : Nat → Bool) (k w : Nat) : ff_Sc F k (w + 1) = ff_Sc F k w + (if w / 3 % 9 = k then ff_q F 4 w else 0) := rfl
theorem ff_Se_s (F : Nat → Bool) (w : Nat) : ff_Se F (w + 1) = ff_Se F w + (if w / 9 = ff_rev (w % 9) then ff_q F 4 w else 0) := rfl
theorem ff_none_t : ∀ i, i < 9 → ∀ j, j < 9 → ((if i < 3 then 1 else 0) + (if i % 3 = 0 then 1 else 0) + (if j < 3 then 1 else 0) + (if j % 3 = 0 then 1 else 0)) = ff_zz 4 (9 * i + j) := by decide
theorem ff_none {i j : Nat} (hi : i < 9) (hj : j < 9) : ((if i < 3 then 1 else 0) + (if i % 3 = 0 then 1 else 0) + (if j < 3 then 1 else 0) + (if j % 3 = 0 then 1 else 0)) = ff_zz 4 (9 * i + j) := ff_none_t i hi j hj
theorem ff_q01 (F : Nat → Bool) (n w : Nat) : ff_q F n w = 0 ∨ ff_q F n w = 1 := by
  have := ff_q_le F n w
  omega
section
variable {post : Int32 → St0 → Prop} {mc ms : Nat} {x0 x4 : Int32} {kc ks : Nat} {q : Nat → Nat} {cnt zr b i j : Nat} {f0 f1 f2 : Int32} {a1 a2 a3 : Nat → Int32} {a4 a5 a6 : Nat → Int64} {a7 a8 : Nat → Int32}
theorem ff_k214 {J138 J148 : Int32 → Int32 → Int32 → Int32 → Int32 → Int32 → Int32 → Int32 → Int32 → Int32 → (Nat → Int32) → (Nat → Int32) → (Nat → Int32) → (Nat → Int64) → (Nat → Int64) → (Nat → Int64) → (Nat → Int32) → (Nat → Int32) → Prop} (hq : ff_P x0 q) (hi : i < 9) (hj : j < 9) (hb : b < 9) (hz : zr < 4) (hu : ff_B (ff_F q) cnt (f0, f1, f2, a1, a2, a3, a4, a5, a6, a7, a8))
    (H : ∀ (g0 g1 g2 : Int32) (b1 b2 b3 : Nat → Int32) (b4 b5 b6 : Nat → Int64) (b7 b8 : Nat → Int32), ff_B (ff_F q) cnt (g0, g1, g2, b1, b2, b3, b4, b5, b6, b7, b8) → J148 (nI (ff_C (ff_F q) 4 (9 * i + j + 1))) (nI (ff_S1 (ff_F q) zr (9 * i + j + 1))) (nI (ff_Sa (ff_F q) b (9 * i + j + 1))) (nI (ff_Sb (ff_F q) b (9 * i + j + 1))) (nI (ff_Sa (ff_F q) b (9 * i + j + 1) + ff_Sc (ff_F q) b (9 * i + j + 1) + ff_Sb (ff_F q) b (9 * i + j + 1))) (nI (ff_Se (ff_F q) (9 * i + j + 1))) (nI (j + 1)) g0 g1 g2 b1 b2 b3 b4 b5 b6 b7 b8) :
    ∃ f, wL_lawOf_214 post mc ms J138 J148 x0 x4 (nI (ff_C (ff_F q) 4 (9 * i + j))) (nI (ff_S1 (ff_F q) zr (9 * i + j))) (nI (ff_Sa (ff_F q) b (9 * i + j))) (nI (ff_Sb (ff_F q) b (9 * i + j))) (nI (ff_Sa (ff_F q) b (9 * i + j) + ff_Sc (ff_F q) b (9 * i + j) + ff_Sb (ff_F q) b (9 * i + j))) (nI (ff_Se (ff_F q) (9 * i + j))) (nI zr) (nI (9 + b)) (nI i) (nI j) (nI (9 * i + j)) (nI (ff_q (ff_F q) 4 (9 * i + j))) kc ks f0 f1 f2 a1 a2 a3 a4 a5 a6 a7 a8 f 0 0 := by
  have q01 := ff_q01 (ff_F q) 4 (9 * i + j)
  refine pk_loop (fun f c x => wL_lawOf_214 post mc ms J138 J148 x0 x4 (nI (ff_C (ff_F q) 4 (9 * i + j))) (nI (ff_S1 (ff_F q) zr (9 * i + j))) (nI (ff_Sa (ff_F q) b (9 * i + j))) (nI (ff_Sb (ff_F q) b (9 * i + j))) (nI (ff_Sa (ff_F q) b (9 * i + j) + ff_Sc (ff_F q) b (9 * i + j) + ff_Sb (ff_F q) b (9 * i + j))) (nI (ff_Se (ff_F q) (9 * i + j))) (nI zr) (nI (9 + b)) (nI i) (nI j) (nI (9 * i + j)) (nI (ff_q (ff_F q) 4 (9 * i + j))) kc ks f0 f1 f2 a1 a2 a3 a4 a5 a6 a7 a8 f x (nI c)) (fun c x => x = nI (ff_q (ff_F q) 4 (9 * i + j) * ff_sm (fun c => ff_q (ff_F q) 5 (3 * (9 * i + j) + c)) c)) 3 0 0 (by omega) rfl ?_ ?_
  · rintro f x rfl
    refine pk_le 3 3 (fun _ => ff_choices (Or.inl hu) 4 (9 * i + j) (by omega) (by omega) (fun v hv => ?_)) (fun z => absurd z (by omega))
    obtain ⟨g0, g1, g2, b1, b2, b3, b4, b5, b6, b7, b8⟩ := v
    dsimp only
    refine br_t rfl ?_
    rcases q01 with h0 | h1
    · refine br_t (by rw [h0]; rfl) (nm_r (nI_1 j) ?_)
      have h := H _ _ _ _ _ _ _ _ _ _ _ hv
      rw [ff_C_s, ff_S1_s, ff_Sa_s, ff_Sb_s, ff_Sc_s, ff_Se_s, h0] at h
      simp only [ite_self, Nat.add_zero] at h
      exact h
    · refine br_f (by rw [h1]; decide) (ff_word_in (Or.inl hv) 4 (9 * i + j) (by omega) (by omega) h1 (fun v hv => ?_))
      obtain ⟨g0, g1, g2, b1, b2, b3, b4, b5, b6, b7, b8⟩ := v
      dsimp only
      refine br_t rfl (nm_r (nI_1 _) (ff_chain hi hj hb hz ?_))
      have h := H _ _ _ _ _ _ _ _ _ _ _ hv
      rw [ff_C_s, ff_S1_s, ff_Sa_s, ff_Sb_s, ff_Sc_s, ff_Se_s, h1, ← ff_none hi hj, show (9 * i + j) / 9 = i by omega, show (9 * i + j) % 9 = j by omega] at h
      have e : ∀ sa sb sc x y z : Nat, sa + x + (sc + y) + (sb + z) = sa + sc + sb + (x + z + y) := by omega
      rw [e] at h
      exact h
  · rintro f c x hc rfl hk
    refine pk_le 3 c (fun z => absurd z (by omega)) (fun _ => ?_)
    rcases q01 with h0 | h1
    · refine br_t (by rw [h0]; rfl) (nm_r (nI_add _ 0) (nm_r (nI_1 c) (hk _ ?_)))
      rw [h0, Nat.zero_mul, Nat.zero_mul]
    · refine br_f (by rw [h1]; decide) (ff_lallow hq 5 (3 * (9 * i + j) + c) (by omega) (by omega) ?_ rfl (ff_l3 _ _))
      have q5 := ff_q_le (ff_F q) 5 (3 * (9 * i + j) + c)
      have es : ff_sm (fun c => ff_q (ff_F q) 5 (3 * (9 * i + j) + c)) (c + 1) = ff_sm (fun c => ff_q (ff_F q) 5 (3 * (9 * i + j) + c)) c + ff_q (ff_F q) 5 (3 * (9 * i + j) + c) := rfl
      refine pk_eq (ff_q (ff_F q) 5 (3 * (9 * i + j) + c)) 0 (fun z => nm_r (nI_add _ 0) (nm_r (nI_1 c) (hk _ ?_))) (fun z => nm_r (nI_1 _) (nm_r (nI_1 c) (hk _ ?_)))
      · rw [es, z, h1, Nat.one_mul, Nat.one_mul]
      · rw [es, show ff_q (ff_F q) 5 (3 * (9 * i + j) + c) = 1 by omega, h1, Nat.one_mul, Nat.one_mul]
theorem ff_k148 {J138 : Int32 → Int32 → Int32 → Int32 → Int32 → Int32 → Int32 → Int32 → Int32 → Int32 → (Nat → Int32) → (Nat → Int32) → (Nat → Int32) → (Nat → Int64) → (Nat → Int64) → (Nat → Int64) → (Nat → Int32) → (Nat → Int32) → Prop} (hq : ff_P x0 q) (hi : i < 9) (hj : j < 9) (hb : b < 9) (hz : zr < 4) {n : Nat} (hu : ff_R (ff_F q) cnt (f0, f1, f2, a1, a2, a3, a4, a5, a6, a7, a8))
    (H : ∀ (g0 g1 g2 : Int32) (b1 b2 b3 : Nat → Int32) (b4 b5 b6 : Nat → Int64) (b7 b8 : Nat → Int32), ff_B (ff_F q) cnt (g0, g1, g2, b1, b2, b3, b4, b5, b6, b7, b8) → wL_lawOf_148 post mc ms J138 x0 x4 (nI zr) (nI (9 + b)) (nI i) kc ks n (nI (ff_C (ff_F q) 4 (9 * i + j + 1))) (nI (ff_S1 (ff_F q) zr (9 * i + j + 1))) (nI (ff_Sa (ff_F q) b (9 * i + j + 1))) (nI (ff_Sb (ff_F q) b (9 * i + j + 1))) (nI (ff_Sa (ff_F q) b (9 * i + j + 1) + ff_Sc (ff_F q) b (9 * i + j + 1) + ff_Sb (ff_F q) b (9 * i + j + 1))) (nI (ff_Se (ff_F q) (9 * i + j + 1))) (nI (j + 1)) g0 g1 g2 b1 b2 b3 b4 b5 b6 b7 b8) :
    wL_lawOf_148 post mc ms J138 x0 x4 (nI zr) (nI (9 + b)) (nI i) kc ks (n + 1) (nI (ff_C (ff_F q) 4 (9 * i + j))) (nI (ff_S1 (ff_F q) zr (9 * i + j))) (nI (ff_Sa (ff_F q) b (9 * i + j))) (nI (ff_Sb (ff_F q) b (9 * i + j))) (nI (ff_Sa (ff_F q) b (9 * i + j) + ff_Sc (ff_F q) b (9 * i + j) + ff_Sb (ff_F q) b (9 * i + j))) (nI (ff_Se (ff_F q) (9 * i + j))) (nI j) f0 f1 f2 a1 a2 a3 a4 a5 a6 a7 a8 := by
  refine pk_le 9 j (fun z => absurd z (by omega)) (fun _ => nm_r (ff_lin 9 i j) (ff_lallow hq 4 (9 * i + j) (by omega) (by omega) (ff_allowed hu 4 (9 * i + j) (by omega) (by omega) (fun v hv => ?_))))
  obtain ⟨g0, g1, g2, b1, b2, b3, b4, b5, b6, b7, b8⟩ := v
  dsimp only
  have k : wL_lawOf_191 post mc ms J138 (wL_lawOf_148 post mc ms J138 x0 x4 (nI zr) (nI (9 + b)) (nI i) kc ks n) x0 x4 (nI (ff_C (ff_F q) 4 (9 * i + j))) (nI (ff_S1 (ff_F q) zr (9 * i + j))) (nI (ff_Sa (ff_F q) b (9 * i + j))) (nI (ff_Sb (ff_F q) b (9 * i + j))) (nI (ff_Sa (ff_F q) b (9 * i + j) + ff_Sc (ff_F q) b (9 * i + j) + ff_Sb (ff_F q) b (9 * i + j))) (nI (ff_Se (ff_F q) (9 * i + j))) (nI zr) (nI (9 + b)) (nI i) (nI j) (nI (9 * i + j)) (nI (ff_q (ff_F q) 4 (9 * i + j))) (nI (ff_q (ff_F q) 4 (9 * i + j))) (nI (ff_q (ff_F q) 4 (9 * i + j))) kc ks g0 g1 g2 b1 b2 b3 b4 b5 b6 b7 b8 := by
    refine br_t rfl (ff_rank (Or.inl hv) 4 (9 * i + j) (by omega) (by omega) (fun v hv => ?_))
    obtain ⟨g0, g1, g2, b1, b2, b3, b4, b5, b6, b7, b8⟩ := v
    dsimp only
    exact br_t rfl (ff_k214 hq hi hj hb hz hv H)
  rcases ff_q01 (ff_F q) 4 (9 * i + j) with h0 | h1
  · rw [h0] at k ⊢
    exact br_t rfl k
  · rw [h1] at k ⊢
    exact br_f (by decide) k
theorem ff_row {J138 : Int32 → Int32 → Int32 → Int32 → Int32 → Int32 → Int32 → Int32 → Int32 → Int32 → (Nat → Int32) → (Nat → Int32) → (Nat → Int32) → (Nat → Int64) → (Nat → Int64) → (Nat → Int64) → (Nat → Int32) → (Nat → Int32) → Prop} (hq : ff_P x0 q) (hi : i < 9) (hb : b < 9) (hz : zr < 4)
    (H : ∀ (g0 g1 g2 : Int32) (b1 b2 b3 : Nat → Int32) (b4 b5 b6 : Nat → Int64) (b7 b8 : Nat → Int32), ff_R (ff_F q) cnt (g0, g1, g2, b1, b2, b3, b4, b5, b6, b7, b8) → J138 (nI (ff_C (ff_F q) 4 (9 * (i + 1)))) (nI (ff_S1 (ff_F q) zr (9 * (i + 1)))) (nI (ff_Sa (ff_F q) b (9 * (i + 1)))) (nI (ff_Sb (ff_F q) b (9 * (i + 1)))) (nI (ff_Sa (ff_F q) b (9 * (i + 1)) + ff_Sc (ff_F q) b (9 * (i + 1)) + ff_Sb (ff_F q) b (9 * (i + 1)))) (nI (ff_Se (ff_F q) (9 * (i + 1)))) (nI (i + 1)) g0 g1 g2 b1 b2 b3 b4 b5 b6 b7 b8) (d : Nat) :
    ∀ j, j + d = 9 → ∀ (g0 g1 g2 : Int32) (b1 b2 b3 : Nat → Int32) (b4 b5 b6 : Nat → Int64) (b7 b8 : Nat → Int32), ff_R (ff_F q) cnt (g0, g1, g2, b1, b2, b3, b4, b5, b6, b7, b8) → wL_lawOf_148 post mc ms J138 x0 x4 (nI zr) (nI (9 + b)) (nI i) kc ks (d + 1) (nI (ff_C (ff_F q) 4 (9 * i + j))) (nI (ff_S1 (ff_F q) zr (9 * i + j))) (nI (ff_Sa (ff_F q) b (9 * i + j))) (nI (ff_Sb (ff_F q) b (9 * i + j))) (nI (ff_Sa (ff_F q) b (9 * i + j) + ff_Sc (ff_F q) b (9 * i + j) + ff_Sb (ff_F q) b (9 * i + j))) (nI (ff_Se (ff_F q) (9 * i + j))) (nI j) g0 g1 g2 b1 b2 b3 b4 b5 b6 b7 b8 := by
  induction d with
  | zero =>
    intro j hj g0 g1 g2 b1 b2 b3 b4 b5 b6 b7 b8 hu
    have e : 9 * i + j = 9 * (i + 1) := by omega
    rw [e]
    exact pk_le 9 j (fun _ => nm_r (nI_1 i) (H _ _ _ _ _ _ _ _ _ _ _ hu)) (fun z => absurd z (by omega))
  | succ d ih =>
    intro j hj g0 g1 g2 b1 b2 b3 b4 b5 b6 b7 b8 hu
    exact ff_k148 hq hi (by omega) hb hz hu (fun g0 g1 g2 b1 b2 b3 b4 b5 b6 b7 b8 hv => ih (j + 1) (by omega) _ _ _ _ _ _ _ _ _ _ _ (Or.inl hv))
end
end
section
/-! the end of the law -/
section
variable {post : Int32 → St0 → Prop} {mc ms : Nat} {x0 : Int32} {kc ks : Nat} {q : Nat → Nat} {cnt zr b : Nat} {f0 f1 f2 : Int32} {a1 a2 a3 : Nat → Int32} {a4 a5 a6 : Nat → Int64} {a7 a8 : Nat → Int32}
theorem ff_fin (hp : post 1 ()) (hb : b < 9) (hz : zr < 4) {n : Nat} (hu : ff_R (ff_F q) cnt (f0, f1, f2, a1, a2, a3, a4, a5, a6, a7, a8)) : wL_lawOf_138 post mc ms x0 (nI cnt) (nI zr) (nI (9 + b)) kc ks (n + 1) (nI (ff_C (ff_F q) 4 (81))) (nI (ff_S1 (ff_F q) zr (81))) (nI (ff_Sa (ff_F q) b (81))) (nI (ff_Sb (ff_F q) b (81))) (nI (ff_Sa (ff_F q) b (81) + ff_Sc (ff_F q) b (81) + ff_Sb (ff_F q) b (81))) (nI (ff_Se (ff_F q) (81))) (nI 9) f0 f1 f2 a1 a2 a3 a4 a5 a6 a7 a8 := by
  have c81 := ff_C_le (ff_F q) 4 81
  refine pk_le 9 9 (fun _ => ff_count hu 4 (by omega) (fun v hv => ?_)) (fun z => absurd z (by omega))
  obtain ⟨g0, g1, g2, b1, b2, b3, b4, b5, b6, b7, b8⟩ := v
  dsimp only
  refine br_t (nI_l (show ff_C (ff_F q) 4 81 < 2 ^ 31 by omega)).symm (ff_countWith (Or.inl hv) zr (by omega) (fun v hv => ?_))
  obtain ⟨g0, g1, g2, b1, b2, b3, b4, b5, b6, b7, b8⟩ := v
  dsimp only
  refine br_t rfl (ff_beginning (Or.inl hv) b hb (fun v hv => ?_))
  obtain ⟨g0, g1, g2, b1, b2, b3, b4, b5, b6, b7, b8⟩ := v
  dsimp only
  refine br_t (congrArg nI (ff_cut_a (ff_q (ff_F q) 4) hb).symm) (ff_ending (Or.inl hv) b hb (fun v hv => ?_))
  obtain ⟨g0, g1, g2, b1, b2, b3, b4, b5, b6, b7, b8⟩ := v
  dsimp only
  refine br_t (congrArg nI (ff_cut_b (ff_q (ff_F q) 4) hb).symm) (ff_standing (Or.inl hv) b hb (fun v hv => ?_))
  obtain ⟨g0, g1, g2, b1, b2, b3, b4, b5, b6, b7, b8⟩ := v
  dsimp only
  refine br_t (by rw [← ff_cut_a (ff_q (ff_F q) 4) hb, ← ff_cut_b (ff_q (ff_F q) 4) hb, ← ff_cut_c (ff_q (ff_F q) 4) hb]; rfl) (ff_mirrored (Or.inl hv) (fun v hv => ?_))
  obtain ⟨g0, g1, g2, b1, b2, b3, b4, b5, b6, b7, b8⟩ := v
  dsimp only
  refine br_t (congrArg nI (ff_cut_e (ff_q (ff_F q) 4)).symm) (ff_word_out (Or.inl hv) 4 (by omega) (fun v hv => ?_))
  obtain ⟨g0, g1, g2, b1, b2, b3, b4, b5, b6, b7, b8⟩ := v
  dsimp only
  refine br_t rfl (ff_count (Or.inl hv) 0 (by omega) (fun v hv => ?_))
  obtain ⟨g0, g1, g2, b1, b2, b3, b4, b5, b6, b7, b8⟩ := v
  dsimp only
  refine br_t rfl (br_t hv.1 (ff_longest (Or.inl hv) (fun k k9 hk v hv => ?_)))
  obtain ⟨g0, g1, g2, b1, b2, b3, b4, b5, b6, b7, b8⟩ := v
  refine pk_le k 3 (fun z => ?_) (fun z => ?_)
  · exact pk_le (ff_C (ff_F q) 4 81) 0 (fun _ => br_t rfl hp) (fun y => absurd (hk.mpr y) (by omega))
  · exact pk_le (ff_C (ff_F q) 4 81) 0 (fun y => absurd (hk.mp z) (by omega)) (fun _ => br_t rfl hp)
theorem ff_main (hp : post 1 ()) (hq : ff_P x0 q) (hb : b < 9) (hz : zr < 4) (d : Nat) : ∀ i, i + d = 9 → ∀ (g0 g1 g2 : Int32) (b1 b2 b3 : Nat → Int32) (b4 b5 b6 : Nat → Int64) (b7 b8 : Nat → Int32), ff_R (ff_F q) cnt (g0, g1, g2, b1, b2, b3, b4, b5, b6, b7, b8) → wL_lawOf_138 post mc ms x0 (nI cnt) (nI zr) (nI (9 + b)) kc ks (d + 1) (nI (ff_C (ff_F q) 4 (9 * i))) (nI (ff_S1 (ff_F q) zr (9 * i))) (nI (ff_Sa (ff_F q) b (9 * i))) (nI (ff_Sb (ff_F q) b (9 * i))) (nI (ff_Sa (ff_F q) b (9 * i) + ff_Sc (ff_F q) b (9 * i) + ff_Sb (ff_F q) b (9 * i))) (nI (ff_Se (ff_F q) (9 * i))) (nI i) g0 g1 g2 b1 b2 b3 b4 b5 b6 b7 b8 := by
  induction d with
  | zero =>
    intro i hi g0 g1 g2 b1 b2 b3 b4 b5 b6 b7 b8 hu
    have e : i = 9 := by omega
    subst e
    exact ff_fin hp hb hz hu
  | succ d ih =>
    intro i hi g0 g1 g2 b1 b2 b3 b4 b5 b6 b7 b8 hu
    refine pk_le 9 i (fun z => absurd z (by omega)) (fun _ => ⟨10, ?_⟩)
    exact ff_row hq (by omega) hb hz (fun g0 g1 g2 b1 b2 b3 b4 b5 b6 b7 b8 hu => ih (i + 1) (by omega) g0 g1 g2 b1 b2 b3 b4 b5 b6 b7 b8 hu) 9 0 (by omega) _ _ _ _ _ _ _ _ _ _ _ hu
theorem ff_l14x (hp : post 1 ()) {x1 x2 : Int32} (hq : ff_P x0 q) {n : Nat} (hL : ff_LL q 3 cnt a1) : wL_lawOf_14 post mc ms x0 x1 x2 kc ks (n + 1) (nI cnt) (nI 3) (nI cnt) f1 0 a1 a2 a3 a4 a5 a6 a7 a8 := by
  obtain ⟨y, hy, ey⟩ := pk_andE x1 (m := 15) 4 (by decide)
  obtain ⟨z, hz, ez⟩ := pk_andE x2 (m := 3) 2 (by decide)
  have hy' : y < 16 := hy
  obtain ⟨c1, pl, c2, c3⟩ := hL
  have hu : ff_R (ff_F q) cnt (nI cnt, f1, 0, a1, a2, a3, a4, a5, a6, a7, a8) := Or.inr ⟨rfl, rfl, c1, pl, c2, fun p => (ff_F_iff q p).trans (c3 p).symm⟩
  refine pk_le 3 3 (fun _ => nm_r ez ⟨by decide, ?_⟩) (fun z => absurd z (by omega))
  rw [ey]
  exact nm_r (ff_rem_add 9 y 9 (by omega) (by omega) (by omega)) ⟨10, ff_main hp hq (Nat.mod_lt _ (by omega)) hz 9 0 (by omega) _ _ _ _ _ _ _ _ _ _ _ hu⟩
end
theorem ff_init {post : St2 → Prop} (H : post (0, 0, 0, (fun _ => 0), (fun _ => 0), (fun _ => 0), (fun _ => 0), (fun _ => 0), (fun _ => 0), (fun _ => 0), (fun _ => 0))) : wpX_init post 8 1488 (0, 0, 0) := by
  unfold wpX_init
  exact ⟨by decide, by decide, by decide, by decide, by decide, by decide, by decide, by decide, by decide, by decide, by decide, by decide, by decide, by decide, by decide, by decide, H⟩
theorem ff_lawOf {post : Int32 → St0 → Prop} (hp : post 1 ()) (x y z : Int32) : wpL_lawOf post 9 1499 () x y z := by
  obtain ⟨q, hq⟩ := ff_pieces x
  have h0 : ff_LL q 0 0 (fun _ => 0) := ⟨Nat.le_refl 0, fun _ => 0, fun k hk => absurd hk (by omega), fun p => ⟨fun ⟨k, k1, _⟩ => absurd k1 (by omega), fun ⟨k, k1, _⟩ => absurd k1 (by omega)⟩⟩
  refine ⟨by decide, by decide, 8, 1488, by decide, by decide, ff_init ⟨4, ?_⟩⟩
  exact ff_l14 (i := 0) hq h0 (by omega) (fun c1 l1 h1 => ff_l14 (i := 1) hq h1 (by omega) (fun c2 l2 h2 => ff_l14 (i := 2) hq h2 (by omega) (fun c3 l3 h3 => ff_l14x hp hq h3)))
theorem ff_cell {post : Int32 → Prop} {L : Nat} {xs : Nat → Int32} {x : Int32} (hL : L ≤ 3) (k : Nat) (hk : k < 3) (H : ∀ y, post y) (hx : x = nI k := by rfl) : wpL_cellAt post L xs () x := by
  subst hx
  exact pk_le L k (fun _ => H _) (fun z => ⟨vp_in_nI z (by omega), H _⟩)
theorem i_vc (xs : Nat → Int32) (L : Nat) (hL : L ≤ 3) : wpL_law (fun r => r = 1) L xs :=
  ff_cell hL 0 (by omega) (fun x => ff_cell hL 1 (by omega) (fun y => ff_cell hL 2 (by omega) (fun z => ⟨9, 1499, by decide, by decide, ff_lawOf rfl x y z⟩)))
end
