section
/-! The plain words of the claim: what the class and its reference compute, over Nat. No program here. -/
def md_up (f : Nat → Nat) (k x : Nat) : Nat → Nat := fun j => if j = k then x else f j
def md_sum (f : Nat → Nat) : Nat → Nat
  | 0 => 0
  | n + 1 => md_sum f n + f n
def md_ch : Nat → Nat → Nat
  | _, 0 => 1
  | 0, _ + 1 => 0
  | n + 1, k + 1 => md_ch n k + md_ch n (k + 1)
/-- k of the columns that need q get a one: they need q - 1 then -/
def md_mv (h : Nat → Nat) (q k : Nat) : Nat → Nat := fun j => if j + 1 = q then h j + k else if j = q then h j - k else h j
/-- take: from level 'need' on, so many ones of a row are still to be put; g: the level before the row, h: the level behind it so far -/
def md_T (K : (Nat → Nat) → Nat) (g : Nat → Nat) : Nat → Nat → (Nat → Nat) → Nat
  | 0, ones, h => if ones = 0 then K h else 0
  | need + 1, ones, h => md_sum (fun k => md_ch (g (need + 1)) k * md_T K g need (ones - k) (md_mv h (need + 1) k)) (ones + 1)
/-- from: all fillings of the rows, h: how many columns need 0 .. 5 -/
def md_from : List Nat → (Nat → Nat) → Nat
  | [], h => if h 1 + h 2 + h 3 + h 4 + h 5 = 0 then 1 else 0
  | r :: rs, h => md_T (md_from rs) h 5 r h
/-- k values of f from i on, as a list -/
def md_rl (f : Nat → Nat) : Nat → Nat → List Nat
  | _, 0 => []
  | i, k + 1 => f i :: md_rl f (i + 1) k
/-- level r of the class's array 'have' -/
def md_lvl (f : Nat → Nat) (r : Nat) : Nat → Nat := fun j => if j < 6 then f (6 * r + j) else 0
def md_hist (col : Nat → Nat) : Nat → Nat → Nat
  | 0 => fun _ => 0
  | m + 1 => md_up (md_hist col m) (col m) (md_hist col m (col m) + 1)
/-- the reference: how many ones, and which number in base 6, a set s of columns is -/
def md_pop (m s : Nat) : Nat := md_sum (fun i => s / 2 ^ i % 2) m
def md_add (m s : Nat) : Nat := md_sum (fun i => s / 2 ^ i % 2 * 6 ^ i) m
def md_W (m : Nat) (row : Nat → Nat) : Nat → Nat → Nat
  | 0, c => if c = 0 then 1 else 0
  | r + 1, c => md_sum (fun s => if md_pop m s = row r ∧ md_add m s ≤ c then md_W m row r (c - md_add m s) else 0) (2 ^ m)
def md_code : List Nat → Nat
  | [] => 0
  | c :: cs => c + 6 * md_code cs
/-- the sort by insertion, as the class does it in its array -/
def md_shift (x : Nat) : Nat → (Nat → Nat) → (Nat → Nat)
  | 0, f => md_up f 0 x
  | k + 1, f => if f k < x then md_shift x k (md_up f (k + 1) (f k)) else md_up f (k + 1) x
def md_sort (row : Nat → Nat) : Nat → (Nat → Nat) → (Nat → Nat)
  | 0, f => f
  | i + 1, f => md_shift (row i) i (md_sort row i f)
def md_GR (n m : Nat) (row col srt : Nat → Nat) : Prop := md_sum row n = md_sum col m ∧ (∀ j, j < m → col j ≤ n) ∧ ∀ k, k < n → md_sum srt (k + 1) ≤ md_sum (fun j => min (col j) (k + 1)) m
/-! sums -/
theorem md_sum_ext {f g : Nat → Nat} {n : Nat} (h : ∀ i, i < n → f i = g i) : md_sum f n = md_sum g n := by
  induction n with
  | zero => rfl
  | succ n ih =>
    show md_sum f n + f n = md_sum g n + g n
    rw [ih (fun i hi => h i (by omega)), h n (by omega)]
theorem md_sum_add (f g : Nat → Nat) (n : Nat) : md_sum (fun i => f i + g i) n = md_sum f n + md_sum g n := by
  induction n with
  | zero => rfl
  | succ n ih =>
    show md_sum (fun i => f i + g i) n + (f n + g n) = md_sum f n + f n + (md_sum g n + g n)
    rw [ih]; omega
theorem md_sum_mul (a : Nat) (f : Nat → Nat) (n : Nat) : md_sum (fun i => a * f i) n = a * md_sum f n := by
  induction n with
  | zero => rfl
  | succ n ih =>
    show md_sum (fun i => a * f i) n + a * f n = a * (md_sum f n + f n)
    rw [ih, Nat.mul_add]
theorem md_sum_0 (n : Nat) : md_sum (fun _ => 0) n = 0 := by
  induction n with
  | zero => rfl
  | succ n ih => show md_sum (fun _ => 0) n + 0 = 0; rw [ih]
theorem md_sum_S (f : Nat → Nat) (n : Nat) : md_sum f (n + 1) = f 0 + md_sum (fun i => f (i + 1)) n := by
  induction n with
  | zero => show 0 + f 0 = f 0 + 0; omega
  | succ n ih =>
    show md_sum f (n + 1) + f (n + 1) = f 0 + (md_sum (fun i => f (i + 1)) n + f (n + 1))
    rw [ih]; omega
theorem md_sum_cut {f : Nat → Nat} {a : Nat} (h : ∀ i, a ≤ i → f i = 0) : ∀ b, a ≤ b → md_sum f b = md_sum f a := by
  intro b
  induction b with
  | zero => intro hb; have : a = 0 := by omega
            subst this; rfl
  | succ b ih =>
    intro hb
    by_cases e : a = b + 1
    · subst e; rfl
    · show md_sum f b + f b = _
      rw [ih (by omega), h b (by omega)]; rfl
theorem md_sum_le {f : Nat → Nat} {n b : Nat} (h : ∀ i, i < n → f i ≤ b) : md_sum f n ≤ n * b := by
  induction n with
  | zero => exact Nat.zero_le _
  | succ n ih =>
    show md_sum f n + f n ≤ _
    have h1 := ih (fun i hi => h i (by omega))
    have h2 := h n (by omega)
    rw [Nat.succ_mul]; omega
theorem md_sum_two (G : Nat → Nat) (n : Nat) : md_sum G (2 * n) = md_sum (fun s => G (2 * s) + G (2 * s + 1)) n := by
  induction n with
  | zero => rfl
  | succ n ih =>
    rw [show 2 * (n + 1) = 2 * n + 1 + 1 by omega]
    show md_sum G (2 * n) + G (2 * n) + G (2 * n + 1) = md_sum (fun s => G (2 * s) + G (2 * s + 1)) n + (G (2 * n) + G (2 * n + 1))
    rw [ih]; omega
theorem md_ch_big : ∀ (n k : Nat), n < k → md_ch n k = 0 := by
  intro n
  induction n with
  | zero => intro k h; cases k with
    | zero => omega
    | succ k => rfl
  | succ n ih => intro k h; cases k with
    | zero => omega
    | succ k =>
      show md_ch n k + md_ch n (k + 1) = 0
      rw [ih k (by omega), ih (k + 1) (by omega)]
theorem md_ch_0 (n : Nat) : md_ch n 0 = 1 := by cases n <;> rfl
theorem md_ch_step : ∀ a, a < 6 → ∀ k, k < 6 → md_ch (a + k) k * (a + k + 1) / (k + 1) = md_ch (a + k + 1) (k + 1) := by decide
theorem md_ch_le : ∀ a, a < 6 → ∀ k, k < 6 → md_ch a k ≤ 10 := by decide
theorem md_up_s {f : Nat → Nat} {k x : Nat} : md_up f k x k = x := by simp [md_up]
theorem md_up_n {f : Nat → Nat} {k x j : Nat} (h : j ≠ k) : md_up f k x j = f j := by simp [md_up, h]
theorem md_up_self (f : Nat → Nat) (k : Nat) : md_up f k (f k) = f := by
  funext j
  by_cases h : j = k
  · subst h; exact md_up_s
  · exact md_up_n h
theorem md_up_up (f : Nat → Nat) (k x y : Nat) : md_up (md_up f k x) k y = md_up f k y := by
  funext j
  by_cases h : j = k
  · subst h; rw [md_up_s, md_up_s]
  · rw [md_up_n h, md_up_n h, md_up_n h]
theorem md_W_le (m : Nat) (row : Nat → Nat) (hm : m ≤ 5) : ∀ r c, md_W m row r c ≤ 32 ^ r := by
  intro r
  induction r with
  | zero => intro c; show (if c = 0 then 1 else 0) ≤ 1; split <;> omega
  | succ r ih =>
    intro c
    have h1 : md_W m row (r + 1) c ≤ 2 ^ m * 32 ^ r := by
      refine md_sum_le (fun s _ => ?_)
      split
      · exact ih _
      · exact Nat.zero_le _
    have h2 : 2 ^ m ≤ 2 ^ 5 := Nat.pow_le_pow_right (by omega) hm
    have h3 : 2 ^ m * 32 ^ r ≤ 2 ^ 5 * 32 ^ r := Nat.mul_le_mul_right _ h2
    rw [Nat.pow_succ, Nat.mul_comm]
    exact Nat.le_trans h1 h3
/-! lists of values -/
theorem md_rl_snoc (f : Nat → Nat) : ∀ (k i : Nat), md_rl f i (k + 1) = md_rl f i k ++ [f (i + k)] := by
  intro k
  induction k with
  | zero => intro i; rfl
  | succ k ih =>
    intro i
    show f i :: md_rl f (i + 1) (k + 1) = (f i :: md_rl f (i + 1) k) ++ [f (i + (k + 1))]
    rw [ih (i + 1), List.cons_append, show i + 1 + k = i + (k + 1) by omega]
theorem md_rl_len (f : Nat → Nat) : ∀ (k i : Nat), (md_rl f i k).length = k := by
  intro k
  induction k with
  | zero => intro i; rfl
  | succ k ih => intro i; show (md_rl f (i + 1) k).length + 1 = k + 1; rw [ih]
theorem md_rl_mem (f : Nat → Nat) : ∀ (k i x : Nat), x ∈ md_rl f i k → ∃ j, i ≤ j ∧ j < i + k ∧ x = f j := by
  intro k
  induction k with
  | zero => intro i x h; cases h
  | succ k ih =>
    intro i x h
    rcases List.mem_cons.mp h with e | e
    · exact ⟨i, by omega, by omega, e⟩
    · obtain ⟨j, h1, h2, h3⟩ := ih (i + 1) x e
      exact ⟨j, by omega, by omega, h3⟩
theorem md_rl_ext {f g : Nat → Nat} : ∀ (k i : Nat), (∀ j, i ≤ j → j < i + k → f j = g j) → md_rl f i k = md_rl g i k := by
  intro k
  induction k with
  | zero => intro i _; rfl
  | succ k ih =>
    intro i h
    show f i :: md_rl f (i + 1) k = g i :: md_rl g (i + 1) k
    rw [h i (by omega) (by omega), ih (i + 1) (fun j a b => h j (by omega) (by omega))]
end
section
/-! THE PLAIN LAW: the class's numbers and the reference's are one number; and when it isn't 0 (Gale and Ryser). -/
def md_e (c : Nat) : Nat → Nat := fun j => if j = c then 1 else 0
def md_pl (f g : Nat → Nat) : Nat → Nat := fun j => f j + g j
def md_hl : List Nat → Nat → Nat
  | [], _ => 0
  | c :: cs, j => md_hl cs j + (if j = c then 1 else 0)
def md_ls : List Nat → Nat
  | [] => 0
  | c :: cs => c + md_ls cs
/-- the sum over all ways to lower r of the columns by one -/
def md_S : List Nat → Nat → (List Nat → Nat) → Nat
  | [], r, K => if r = 0 then K [] else 0
  | c :: cs, r, K => md_S cs r (fun t => K (c :: t)) + (if 1 ≤ c ∧ 1 ≤ r then md_S cs (r - 1) (fun t => K ((c - 1) :: t)) else 0)
/-- how many tables of zeros and ones have these sums of rows and of columns -/
def md_N : List Nat → List Nat → Nat
  | [], cs => if md_ls cs = 0 then 1 else 0
  | r :: rs, cs => md_S cs r (md_N rs)
def md_Sel : List Nat → Nat → List Nat → Prop
  | [], r, t => r = 0 ∧ t = []
  | c :: cs, r, t => (∃ t', t = c :: t' ∧ md_Sel cs r t') ∨ (1 ≤ c ∧ 1 ≤ r ∧ ∃ t', t = (c - 1) :: t' ∧ md_Sel cs (r - 1) t')
def md_B (cs : List Nat) : Prop := ∀ c, c ∈ cs → c ≤ 5
theorem md_B_cons {c : Nat} {cs : List Nat} (h : md_B (c :: cs)) : c ≤ 5 ∧ md_B cs := ⟨h c List.mem_cons_self, fun x hx => h x (List.mem_cons_of_mem _ hx)⟩
theorem md_B_mk {c : Nat} {cs : List Nat} (h1 : c ≤ 5) (h2 : md_B cs) : md_B (c :: cs) := by
  intro x hx
  rcases List.mem_cons.mp hx with e | e
  · omega
  · exact h2 x e
/-! take, by columns -/
theorem md_T_ext (K : (Nat → Nat) → Nat) {g g' : Nat → Nat} : ∀ (need : Nat), (∀ j, 1 ≤ j → j ≤ need → g j = g' j) → ∀ (ones : Nat) (h : Nat → Nat), md_T K g need ones h = md_T K g' need ones h := by
  intro need
  induction need with
  | zero => intro _ ones h; rfl
  | succ need ih =>
    intro hg ones h
    refine md_sum_ext (fun k _ => ?_)
    rw [hg (need + 1) (by omega) (by omega), ih (fun j a b => hg j a (by omega))]
theorem md_mv_same (h : Nat → Nat) (q k : Nat) : md_mv (md_pl h (md_e (q + 1))) (q + 1) (k + 1) = md_mv (md_pl h (md_e q)) (q + 1) k := by
  funext j
  simp only [md_mv, md_pl, md_e]
  repeat' split
  all_goals omega
theorem md_mv_off (h : Nat → Nat) (q k c : Nat) (hc : c ≠ q) : md_mv (md_pl h (md_e c)) q k = md_pl (md_mv h q k) (md_e c) := by
  funext j
  simp only [md_mv, md_pl, md_e]
  repeat' split
  all_goals omega
theorem md_T_pascal (K : (Nat → Nat) → Nat) (g : Nat → Nat) (c : Nat) (hc : 1 ≤ c) : ∀ (need : Nat), c ≤ need → ∀ (ones : Nat) (h : Nat → Nat),
    md_T K (md_pl g (md_e c)) need ones (md_pl h (md_e c)) = md_T K g need ones (md_pl h (md_e c)) + (if 1 ≤ ones then md_T K g need (ones - 1) (md_pl h (md_e (c - 1))) else 0) := by
  intro need
  induction need with
  | zero => intro h; omega
  | succ need ih =>
    intro hcn ones h
    by_cases e : c = need + 1
    · subst e
      have e1 : ∀ k, md_T K (md_pl g (md_e (need + 1))) need (ones - k) (md_mv (md_pl h (md_e (need + 1))) (need + 1) k) = md_T K g need (ones - k) (md_mv (md_pl h (md_e (need + 1))) (need + 1) k) :=
        fun k => md_T_ext K need (fun j a b => by simp only [md_pl, md_e]; rw [if_neg (by omega)]; rfl) _ _
      have e2 : md_pl g (md_e (need + 1)) (need + 1) = g (need + 1) + 1 := by simp [md_pl, md_e]
      show md_sum (fun k => md_ch (md_pl g (md_e (need + 1)) (need + 1)) k * md_T K (md_pl g (md_e (need + 1))) need (ones - k) (md_mv (md_pl h (md_e (need + 1))) (need + 1) k)) (ones + 1) = md_sum (fun k => md_ch (g (need + 1)) k * md_T K g need (ones - k) (md_mv (md_pl h (md_e (need + 1))) (need + 1) k)) (ones + 1) + _
      rw [e2, md_sum_ext (fun k _ => by rw [e1 k] : ∀ k, k < ones + 1 → md_ch (g (need + 1) + 1) k * md_T K (md_pl g (md_e (need + 1))) need (ones - k) (md_mv (md_pl h (md_e (need + 1))) (need + 1) k) = md_ch (g (need + 1) + 1) k * md_T K g need (ones - k) (md_mv (md_pl h (md_e (need + 1))) (need + 1) k))]
      rw [md_sum_S, md_sum_S]
      simp only [md_ch_0]
      have e3 : md_sum (fun k => md_ch (g (need + 1) + 1) (k + 1) * md_T K g need (ones - (k + 1)) (md_mv (md_pl h (md_e (need + 1))) (need + 1) (k + 1))) ones
          = md_sum (fun k => md_ch (g (need + 1)) k * md_T K g need (ones - 1 - k) (md_mv (md_pl h (md_e need)) (need + 1) k)) ones + md_sum (fun k => md_ch (g (need + 1)) (k + 1) * md_T K g need (ones - (k + 1)) (md_mv (md_pl h (md_e (need + 1))) (need + 1) (k + 1))) ones := by
        rw [← md_sum_add]
        refine md_sum_ext (fun k _ => ?_)
        show (md_ch (g (need + 1)) k + md_ch (g (need + 1)) (k + 1)) * _ = _
        rw [Nat.add_mul, md_mv_same, show ones - (k + 1) = ones - 1 - k by omega]
      rw [e3]
      by_cases ho : 1 ≤ ones
      · rw [if_pos ho]
        show _ = _ + md_sum (fun k => md_ch (g (need + 1)) k * md_T K g need (ones - 1 - k) (md_mv (md_pl h (md_e (need + 1 - 1))) (need + 1) k)) (ones - 1 + 1)
        rw [show ones - 1 + 1 = ones by omega, Nat.add_sub_cancel]
        omega
      · rw [if_neg ho]
        have : ones = 0 := by omega
        subst this
        simp [md_sum]
    · have hc2 : c ≤ need := by omega
      show md_sum (fun k => md_ch (md_pl g (md_e c) (need + 1)) k * md_T K (md_pl g (md_e c)) need (ones - k) (md_mv (md_pl h (md_e c)) (need + 1) k)) (ones + 1) = md_sum (fun k => md_ch (g (need + 1)) k * md_T K g need (ones - k) (md_mv (md_pl h (md_e c)) (need + 1) k)) (ones + 1) + _
      have e2 : md_pl g (md_e c) (need + 1) = g (need + 1) := by simp only [md_pl, md_e]; rw [if_neg (by omega)]; rfl
      have e1 : md_sum (fun k => md_ch (md_pl g (md_e c) (need + 1)) k * md_T K (md_pl g (md_e c)) need (ones - k) (md_mv (md_pl h (md_e c)) (need + 1) k)) (ones + 1)
          = md_sum (fun k => md_ch (g (need + 1)) k * md_T K g need (ones - k) (md_mv (md_pl h (md_e c)) (need + 1) k)) (ones + 1) + md_sum (fun k => if 1 ≤ ones - k then md_ch (g (need + 1)) k * md_T K g need (ones - k - 1) (md_mv (md_pl h (md_e (c - 1))) (need + 1) k) else 0) (ones + 1) := by
        rw [← md_sum_add]
        refine md_sum_ext (fun k _ => ?_)
        rw [e2, md_mv_off h (need + 1) k c (by omega), ih hc2, Nat.mul_add, md_mv_off h (need + 1) k (c - 1) (by omega)]
        congr 1
        split
        · rfl
        · rfl
      have e4 : md_sum (fun k => if 1 ≤ ones - k then md_ch (g (need + 1)) k * md_T K g need (ones - k - 1) (md_mv (md_pl h (md_e (c - 1))) (need + 1) k) else 0) (ones + 1) = md_sum (fun k => if 1 ≤ ones - k then md_ch (g (need + 1)) k * md_T K g need (ones - k - 1) (md_mv (md_pl h (md_e (c - 1))) (need + 1) k) else 0) ones := by
        show md_sum _ ones + (if 1 ≤ ones - ones then _ else 0) = _
        rw [if_neg (by omega), Nat.add_zero]
      rw [e1, e4]
      congr 1
      by_cases ho : 1 ≤ ones
      · rw [if_pos ho]
        show _ = md_sum (fun k => md_ch (g (need + 1)) k * md_T K g need (ones - 1 - k) (md_mv (md_pl h (md_e (c - 1))) (need + 1) k)) (ones - 1 + 1)
        rw [show ones - 1 + 1 = ones by omega]
        refine md_sum_ext (fun k hk => ?_)
        rw [if_pos (by omega), show ones - k - 1 = ones - 1 - k by omega]
      · rw [if_neg ho]
        have : ones = 0 := by omega
        subst this
        rfl
theorem md_mv_0 (h : Nat → Nat) (q : Nat) : md_mv h q 0 = h := by
  funext j
  simp only [md_mv]
  repeat' split
  all_goals omega
theorem md_T_zero (K : (Nat → Nat) → Nat) : ∀ (need ones : Nat) (h : Nat → Nat), md_T K (fun _ => 0) need ones h = if ones = 0 then K h else 0 := by
  intro need
  induction need with
  | zero => intro ones h; rfl
  | succ need ih =>
    intro ones h
    show md_sum (fun k => md_ch 0 k * md_T K (fun _ => 0) need (ones - k) (md_mv h (need + 1) k)) (ones + 1) = _
    rw [md_sum_S, md_sum_ext (g := fun _ => 0) (fun k _ => by show md_ch 0 (k + 1) * _ = 0; rw [md_ch_big 0 (k + 1) (by omega), Nat.zero_mul]), md_sum_0, md_mv_0, ih, md_ch_0, Nat.one_mul, Nat.sub_zero]
    rfl
theorem md_group (K : (Nat → Nat) → Nat) : ∀ (cs : List Nat), md_B cs → ∀ (r : Nat) (a : Nat → Nat), md_S cs r (fun t => K (md_pl (md_hl t) a)) = md_T K (md_hl cs) 5 r (md_pl (md_hl cs) a) := by
  intro cs
  induction cs with
  | nil =>
    intro _ r a
    have : md_hl [] = fun _ => 0 := rfl
    rw [this, md_T_zero]
    rfl
  | cons c cs ih =>
    intro hB r a
    obtain ⟨hc, hB⟩ := md_B_cons hB
    show md_S cs r (fun t => K (md_pl (md_hl (c :: t)) a)) + (if 1 ≤ c ∧ 1 ≤ r then md_S cs (r - 1) (fun t => K (md_pl (md_hl ((c - 1) :: t)) a)) else 0) = _
    have f1 : ∀ (x : Nat), (fun t => K (md_pl (md_hl (x :: t)) a)) = fun t => K (md_pl (md_hl t) (md_pl (md_e x) a)) := by
      intro x
      funext t
      congr 1
      funext j
      show md_hl t j + (if j = x then 1 else 0) + a j = md_hl t j + ((if j = x then 1 else 0) + a j)
      omega
    have f2 : ∀ x, md_pl (md_hl cs) (md_pl (md_e x) a) = md_pl (md_pl (md_hl cs) a) (md_e x) := by
      intro x
      funext j
      simp only [md_pl]; omega
    have f3 : md_hl (c :: cs) = md_pl (md_hl cs) (md_e c) := rfl
    have f4 : md_pl (md_hl (c :: cs)) a = md_pl (md_pl (md_hl cs) a) (md_e c) := by
      rw [f3]; funext j; simp only [md_pl]; omega
    rw [f1 c, f1 (c - 1), ih hB, ih hB, f2, f2, f4, f3]
    by_cases h0 : 1 ≤ c
    · rw [md_T_pascal K (md_hl cs) c h0 5 hc]
      congr 1
      by_cases h1 : 1 ≤ r
      · rw [if_pos ⟨h0, h1⟩, if_pos h1]
      · rw [if_neg (fun q => h1 q.2), if_neg h1]
    · rw [if_neg (fun q => h0 q.1), Nat.add_zero]
      refine md_T_ext K 5 (fun j a b => ?_) _ _
      simp only [md_pl, md_e]; rw [if_neg (by omega)]; rfl
/-! the sums over choices -/
theorem md_S_congr : ∀ (cs : List Nat) (r : Nat) {K K' : List Nat → Nat}, (∀ t, md_Sel cs r t → K t = K' t) → md_S cs r K = md_S cs r K' := by
  intro cs
  induction cs with
  | nil =>
    intro r K K' h
    show (if r = 0 then K [] else 0) = if r = 0 then K' [] else 0
    split
    · exact h [] ⟨by assumption, rfl⟩
    · rfl
  | cons c cs ih =>
    intro r K K' h
    show md_S cs r _ + _ = md_S cs r _ + _
    rw [ih r (K' := fun t => K' (c :: t)) (fun t ht => h (c :: t) (Or.inl ⟨t, rfl, ht⟩))]
    congr 1
    split
    · rename_i q
      exact ih (r - 1) (fun t ht => h ((c - 1) :: t) (Or.inr ⟨q.1, q.2, t, rfl, ht⟩))
    · rfl
theorem md_S_pos : ∀ (cs : List Nat) (r : Nat) (K : List Nat → Nat), 0 < md_S cs r K ↔ ∃ t, md_Sel cs r t ∧ 0 < K t := by
  intro cs
  induction cs with
  | nil =>
    intro r K
    show 0 < (if r = 0 then K [] else 0) ↔ _
    constructor
    · intro h
      split at h
      · exact ⟨[], ⟨by assumption, rfl⟩, h⟩
      · omega
    · rintro ⟨t, ⟨h1, h2⟩, h3⟩
      subst h2
      rw [if_pos h1]; exact h3
  | cons c cs ih =>
    intro r K
    show 0 < md_S cs r (fun t => K (c :: t)) + (if 1 ≤ c ∧ 1 ≤ r then md_S cs (r - 1) (fun t => K ((c - 1) :: t)) else 0) ↔ _
    constructor
    · intro h
      by_cases h1 : 0 < md_S cs r (fun t => K (c :: t))
      · obtain ⟨t, a, b⟩ := (ih r _).mp h1
        exact ⟨c :: t, Or.inl ⟨t, rfl, a⟩, b⟩
      · split at h
        · rename_i q
          obtain ⟨t, a, b⟩ := (ih (r - 1) (fun t => K ((c - 1) :: t))).mp (by omega)
          exact ⟨(c - 1) :: t, Or.inr ⟨q.1, q.2, t, rfl, a⟩, b⟩
        · omega
    · rintro ⟨t, ⟨t', e, a⟩ | ⟨h1, h2, t', e, a⟩, b⟩
      · subst e
        have := (ih r (fun t => K (c :: t))).mpr ⟨t', a, b⟩
        omega
      · subst e
        rw [if_pos ⟨h1, h2⟩]
        have := (ih (r - 1) (fun t => K ((c - 1) :: t))).mpr ⟨t', a, b⟩
        omega
theorem md_Sel_B : ∀ (cs : List Nat) (r : Nat) (t : List Nat), md_Sel cs r t → md_B cs → md_B t := by
  intro cs
  induction cs with
  | nil => rintro r t ⟨-, e⟩ _; subst e; intro c hc; cases hc
  | cons c cs ih =>
    rintro r t (⟨t', e, a⟩ | ⟨h1, h2, t', e, a⟩) hB
    · subst e
      exact md_B_mk (md_B_cons hB).1 (ih r t' a (md_B_cons hB).2)
    · subst e
      exact md_B_mk (by have := (md_B_cons hB).1; omega) (ih (r - 1) t' a (md_B_cons hB).2)
theorem md_Sel_ls : ∀ (cs : List Nat) (r : Nat) (t : List Nat), md_Sel cs r t → md_ls cs = r + md_ls t := by
  intro cs
  induction cs with
  | nil => rintro r t ⟨h, e⟩; subst e; subst h; rfl
  | cons c cs ih =>
    rintro r t (⟨t', e, a⟩ | ⟨h1, h2, t', e, a⟩)
    · subst e
      have := ih r t' a
      simp only [md_ls]; omega
    · subst e
      have := ih (r - 1) t' a
      simp only [md_ls]; omega
theorem md_Sel_top : ∀ (cs : List Nat) (r : Nat) (t : List Nat) (L : Nat), md_Sel cs r t → (∀ x, x ∈ t → x ≤ L) → ∀ c, c ∈ cs → c ≤ L + 1 := by
  intro cs
  induction cs with
  | nil => intro r t L _ _ c hc; cases hc
  | cons c cs ih =>
    intro r t L hs ht x hx
    rcases hs with ⟨t', e, a⟩ | ⟨h1, h2, t', e, a⟩
    · subst e
      rcases List.mem_cons.mp hx with q | q
      · have := ht c List.mem_cons_self; omega
      · exact ih r t' L a (fun y hy => ht y (List.mem_cons_of_mem _ hy)) x q
    · subst e
      rcases List.mem_cons.mp hx with q | q
      · have := ht (c - 1) List.mem_cons_self; omega
      · exact ih (r - 1) t' L a (fun y hy => ht y (List.mem_cons_of_mem _ hy)) x q
theorem md_hl_0 : ∀ (cs : List Nat), md_B cs → (md_hl cs 1 + md_hl cs 2 + md_hl cs 3 + md_hl cs 4 + md_hl cs 5 = 0 ↔ md_ls cs = 0) := by
  intro cs
  induction cs with
  | nil => intro _; exact Iff.rfl
  | cons c cs ih =>
    intro hB
    obtain ⟨hc, hB⟩ := md_B_cons hB
    have := ih hB
    simp only [md_hl, md_ls]
    rcases (show c = 0 ∨ c = 1 ∨ c = 2 ∨ c = 3 ∨ c = 4 ∨ c = 5 by omega) with e | e | e | e | e | e <;> subst e <;> simp <;> omega
theorem md_from_N : ∀ (rs cs : List Nat), md_B cs → md_from rs (md_hl cs) = md_N rs cs := by
  intro rs
  induction rs with
  | nil =>
    intro cs hB
    show (if md_hl cs 1 + md_hl cs 2 + md_hl cs 3 + md_hl cs 4 + md_hl cs 5 = 0 then 1 else 0) = if md_ls cs = 0 then 1 else 0
    by_cases h : md_ls cs = 0
    · rw [if_pos h, if_pos ((md_hl_0 cs hB).mpr h)]
    · rw [if_neg h, if_neg (fun q => h ((md_hl_0 cs hB).mp q))]
  | cons r rs ih =>
    intro cs hB
    have h1 := md_group (md_from rs) cs hB r (fun _ => 0)
    have h2 : ∀ f : Nat → Nat, md_pl f (fun _ => 0) = f := fun f => rfl
    rw [h2] at h1
    show md_T (md_from rs) (md_hl cs) 5 r (md_hl cs) = md_S cs r (md_N rs)
    rw [← h1]
    exact md_S_congr cs r (fun t ht => by rw [h2]; exact ih t (md_Sel_B cs r t ht hB))
/-! rows in any order -/
theorem md_S_add : ∀ (cs : List Nat) (r : Nat) (K K' : List Nat → Nat), md_S cs r (fun t => K t + K' t) = md_S cs r K + md_S cs r K' := by
  intro cs
  induction cs with
  | nil =>
    intro r K K'
    show (if r = 0 then K [] + K' [] else 0) = (if r = 0 then K [] else 0) + if r = 0 then K' [] else 0
    split <;> omega
  | cons c cs ih =>
    intro r K K'
    simp only [md_S]
    rw [ih r (fun t => K (c :: t)) (fun t => K' (c :: t)), ih (r - 1) (fun t => K ((c - 1) :: t)) (fun t => K' ((c - 1) :: t))]
    split <;> omega
theorem md_S_if (p : Prop) [Decidable p] (cs : List Nat) (r : Nat) (K : List Nat → Nat) : md_S cs r (fun t => if p then K t else 0) = if p then md_S cs r K else 0 := by
  by_cases h : p
  · simp only [if_pos h]
  · simp only [if_neg h]
    induction cs generalizing r with
    | nil => show (if r = 0 then 0 else 0) = 0; split <;> rfl
    | cons c cs ih =>
      show md_S cs r (fun _ => 0) + (if 1 ≤ c ∧ 1 ≤ r then md_S cs (r - 1) (fun _ => 0) else 0) = 0
      have ih' : ∀ r, md_S cs r (fun _ => 0) = 0 := fun r => ih r
      rw [ih', ih']; split <;> rfl
theorem md_S_comm : ∀ (cs : List Nat) (r q : Nat) (K : List Nat → Nat), md_S cs r (fun t => md_S t q K) = md_S cs q (fun t => md_S t r K) := by
  intro cs
  induction cs with
  | nil =>
    intro r q K
    show (if r = 0 then (if q = 0 then K [] else 0) else 0) = if q = 0 then (if r = 0 then K [] else 0) else 0
    by_cases h1 : r = 0 <;> by_cases h2 : q = 0 <;> simp [h1, h2]
  | cons c cs ih =>
    have key : ∀ (r q : Nat) (K : List Nat → Nat), md_S (c :: cs) r (fun t => md_S t q K) = md_S cs r (fun t => md_S t q (fun u => K (c :: u))) + (if 1 ≤ c ∧ 1 ≤ q then md_S cs r (fun t => md_S t (q - 1) (fun u => K ((c - 1) :: u))) else 0)
        + (if 1 ≤ c ∧ 1 ≤ r then md_S cs (r - 1) (fun t => md_S t q (fun u => K ((c - 1) :: u))) else 0) + (if 1 ≤ c ∧ 1 ≤ r ∧ 1 ≤ c - 1 ∧ 1 ≤ q then md_S cs (r - 1) (fun t => md_S t (q - 1) (fun u => K ((c - 1 - 1) :: u))) else 0) := by
      intro r q K
      show md_S cs r (fun t => md_S t q (fun u => K (c :: u)) + (if 1 ≤ c ∧ 1 ≤ q then md_S t (q - 1) (fun u => K ((c - 1) :: u)) else 0)) + (if 1 ≤ c ∧ 1 ≤ r then md_S cs (r - 1) (fun t => md_S t q (fun u => K ((c - 1) :: u)) + (if 1 ≤ c - 1 ∧ 1 ≤ q then md_S t (q - 1) (fun u => K ((c - 1 - 1) :: u)) else 0)) else 0) = _
      rw [md_S_add, md_S_if, md_S_add, md_S_if]
      by_cases a : 1 ≤ c ∧ 1 ≤ r
      · rw [if_pos a, if_pos a]
        by_cases b : 1 ≤ c - 1 ∧ 1 ≤ q
        · rw [if_pos b, if_pos (⟨a.1, a.2, b.1, b.2⟩ : 1 ≤ c ∧ 1 ≤ r ∧ 1 ≤ c - 1 ∧ 1 ≤ q)]; omega
        · rw [if_neg b, if_neg (fun (z : 1 ≤ c ∧ 1 ≤ r ∧ 1 ≤ c - 1 ∧ 1 ≤ q) => b ⟨z.2.2.1, z.2.2.2⟩)]; omega
      · rw [if_neg a, if_neg a, if_neg (fun (z : 1 ≤ c ∧ 1 ≤ r ∧ 1 ≤ c - 1 ∧ 1 ≤ q) => a ⟨z.1, z.2.1⟩)]
    intro r q K
    rw [key, key, ih r q, ih r (q - 1), ih (r - 1) q, ih (r - 1) (q - 1)]
    have e : (if 1 ≤ c ∧ 1 ≤ r ∧ 1 ≤ c - 1 ∧ 1 ≤ q then md_S cs (q - 1) (fun t => md_S t (r - 1) (fun u => K ((c - 1 - 1) :: u))) else 0) = (if 1 ≤ c ∧ 1 ≤ q ∧ 1 ≤ c - 1 ∧ 1 ≤ r then md_S cs (q - 1) (fun t => md_S t (r - 1) (fun u => K ((c - 1 - 1) :: u))) else 0) := by
      by_cases a : 1 ≤ c ∧ 1 ≤ r ∧ 1 ≤ c - 1 ∧ 1 ≤ q
      · rw [if_pos a, if_pos ⟨a.1, a.2.2.2, a.2.2.1, a.2.1⟩]
      · rw [if_neg a, if_neg (fun z => a ⟨z.1, z.2.2.2, z.2.2.1, z.2.1⟩)]
    rw [e]
    omega
theorem md_N_swap (r q : Nat) (rs cs : List Nat) : md_N (r :: q :: rs) cs = md_N (q :: r :: rs) cs := md_S_comm cs r q (md_N rs)
theorem md_N_cons {rs rs' : List Nat} (r : Nat) (h : ∀ cs, md_N rs cs = md_N rs' cs) (cs : List Nat) : md_N (r :: rs) cs = md_N (r :: rs') cs := md_S_congr cs r (fun t _ => h t)
theorem md_N_perm {rs rs' : List Nat} (h : rs.Perm rs') : ∀ cs, md_N rs cs = md_N rs' cs := by
  induction h with
  | nil => intro cs; rfl
  | cons x _ ih => exact md_N_cons x ih
  | swap x y l => exact md_N_swap y x l
  | trans _ _ h1 h2 => intro cs; rw [h1 cs, h2 cs]
theorem md_N_top : ∀ (rs cs : List Nat), 0 < md_N rs cs → ∀ c, c ∈ cs → c ≤ rs.length := by
  intro rs
  induction rs with
  | nil =>
    intro cs h
    have h0 : md_ls cs = 0 := by
      by_cases e : md_ls cs = 0
      · exact e
      · have : md_N [] cs = 0 := if_neg e
        omega
    clear h
    induction cs with
    | nil => intro c hc; cases hc
    | cons x cs ih =>
      intro c hc
      simp only [md_ls] at h0
      rcases List.mem_cons.mp hc with e | e
      · subst e; omega
      · exact ih (by omega) c e
  | cons r rs ih =>
    intro cs h
    obtain ⟨t, a, b⟩ := (md_S_pos cs r (md_N rs)).mp h
    exact md_Sel_top cs r t rs.length a (ih t b)
end
section
/-! the reference, by digits -/
def md_bits : Nat → Nat → List Nat
  | 0, _ => []
  | m + 1, s => (s % 2) :: md_bits m (s / 2)
def md_le : List Nat → List Nat → Prop
  | [], [] => True
  | b :: bs, c :: cs => b ≤ c ∧ md_le bs cs
  | _, _ => False
def md_sb : List Nat → List Nat → List Nat
  | c :: cs, b :: bs => (c - b) :: md_sb cs bs
  | _, _ => []
theorem md_pop_bits : ∀ (m s : Nat), md_pop m s = md_ls (md_bits m s) := by
  intro m
  induction m with
  | zero => intro s; rfl
  | succ m ih =>
    intro s
    show md_sum (fun i => s / 2 ^ i % 2) (m + 1) = s % 2 + md_ls (md_bits m (s / 2))
    rw [md_sum_S, ← ih]
    congr 1
    · simp
    · refine md_sum_ext (fun i _ => ?_)
      rw [Nat.pow_succ, Nat.mul_comm, Nat.div_div_eq_div_mul]
theorem md_add_bits : ∀ (m s : Nat), md_add m s = md_code (md_bits m s) := by
  intro m
  induction m with
  | zero => intro s; rfl
  | succ m ih =>
    intro s
    show md_sum (fun i => s / 2 ^ i % 2 * 6 ^ i) (m + 1) = s % 2 + 6 * md_code (md_bits m (s / 2))
    rw [md_sum_S, ← ih]
    congr 1
    · simp
    · show _ = 6 * md_sum (fun i => s / 2 / 2 ^ i % 2 * 6 ^ i) m
      rw [← md_sum_mul]
      refine md_sum_ext (fun i _ => ?_)
      show s / 2 ^ (i + 1) % 2 * 6 ^ (i + 1) = 6 * (s / 2 / 2 ^ i % 2 * 6 ^ i)
      rw [Nat.div_div_eq_div_mul, ← Nat.pow_succ', Nat.pow_succ 6 i, ← Nat.mul_assoc, Nat.mul_comm]
theorem md_bits_len : ∀ (m s : Nat), (md_bits m s).length = m := by
  intro m
  induction m with
  | zero => intro s; rfl
  | succ m ih => intro s; show (md_bits m (s / 2)).length + 1 = m + 1; rw [ih]
theorem md_bits_le : ∀ (m s x : Nat), x ∈ md_bits m s → x ≤ 1 := by
  intro m
  induction m with
  | zero => intro s x h; cases h
  | succ m ih =>
    intro s x h
    rcases List.mem_cons.mp h with e | e
    · omega
    · exact ih _ x e
/-- all choices are all sets of columns that fit -/
theorem md_S_bits : ∀ (cs : List Nat) (r : Nat) (K : List Nat → Nat) (I : (s : Nat) → Decidable (md_ls (md_bits cs.length s) = r ∧ md_le (md_bits cs.length s) cs)),
    md_S cs r K = md_sum (fun s => if md_ls (md_bits cs.length s) = r ∧ md_le (md_bits cs.length s) cs then K (md_sb cs (md_bits cs.length s)) else 0) (2 ^ cs.length) := by
  intro cs
  induction cs with
  | nil =>
    intro r K I
    show (if r = 0 then K [] else 0) = 0 + if md_ls (md_bits ([] : List Nat).length 0) = r ∧ md_le (md_bits ([] : List Nat).length 0) [] then K [] else 0
    by_cases h : r = 0
    · rw [if_pos h, if_pos ⟨h.symm, trivial⟩]; omega
    · rw [if_neg h, if_neg (fun q => h q.1.symm)]
  | cons c cs ih =>
    intro r K I
    have I2 : ∀ (r : Nat) (s : Nat), Decidable (md_ls (md_bits cs.length s) = r ∧ md_le (md_bits cs.length s) cs) := fun r s => Classical.propDecidable _
    rw [show 2 ^ (c :: cs).length = 2 * 2 ^ cs.length from by rw [List.length_cons, Nat.pow_succ, Nat.mul_comm], md_sum_two, md_sum_add]
    show md_S cs r (fun t => K (c :: t)) + (if 1 ≤ c ∧ 1 ≤ r then md_S cs (r - 1) (fun t => K ((c - 1) :: t)) else 0) = _
    have b0 : ∀ s, md_bits (c :: cs).length (2 * s) = 0 :: md_bits cs.length s := by
      intro s
      show (2 * s % 2) :: md_bits cs.length (2 * s / 2) = _
      rw [show 2 * s % 2 = 0 by omega, show 2 * s / 2 = s by omega]
    have b1 : ∀ s, md_bits (c :: cs).length (2 * s + 1) = 1 :: md_bits cs.length s := by
      intro s
      show ((2 * s + 1) % 2) :: md_bits cs.length ((2 * s + 1) / 2) = _
      rw [show (2 * s + 1) % 2 = 1 by omega, show (2 * s + 1) / 2 = s by omega]
    congr 1
    · rw [ih r _ (I2 r)]
      refine md_sum_ext (fun s _ => ?_)
      by_cases h : md_ls (md_bits cs.length s) = r ∧ md_le (md_bits cs.length s) cs
      · rw [if_pos h, if_pos (by rw [b0]; exact ⟨by simp only [md_ls]; omega, Nat.zero_le _, h.2⟩), b0]
        rfl
      · rw [if_neg h, if_neg (by rw [b0]; rintro ⟨q1, -, q2⟩; exact h ⟨by simp only [md_ls] at q1; omega, q2⟩)]
    · by_cases a : 1 ≤ c ∧ 1 ≤ r
      · rw [if_pos a, ih (r - 1) _ (I2 (r - 1))]
        refine md_sum_ext (fun s _ => ?_)
        by_cases h : md_ls (md_bits cs.length s) = r - 1 ∧ md_le (md_bits cs.length s) cs
        · rw [if_pos h, if_pos (by rw [b1]; exact ⟨by simp only [md_ls]; omega, a.1, h.2⟩), b1]
          rfl
        · rw [if_neg h, if_neg (by rw [b1]; rintro ⟨q1, -, q2⟩; exact h ⟨by simp only [md_ls] at q1; omega, q2⟩)]
      · rw [if_neg a, md_sum_ext (g := fun _ => 0) (fun s _ => ?_), md_sum_0]
        rw [if_neg]
        rw [b1]
        rintro ⟨q1, q2, -⟩
        simp only [md_ls] at q1
        exact a ⟨q2, by omega⟩
theorem md_code_sb : ∀ (cs bs : List Nat), md_le bs cs → md_code bs + md_code (md_sb cs bs) = md_code cs := by
  intro cs
  induction cs with
  | nil => intro bs h; cases bs with
    | nil => rfl
    | cons b bs => exact absurd h (fun q => q)
  | cons c cs ih => intro bs h; cases bs with
    | nil => exact absurd h (fun q => q)
    | cons b bs =>
      have := ih bs h.2
      have := h.1
      simp only [md_code, md_sb]; omega
theorem md_sb_B : ∀ (cs bs : List Nat), md_B cs → md_B (md_sb cs bs) := by
  intro cs
  induction cs with
  | nil => intro bs _ c hc; cases bs <;> cases hc
  | cons c cs ih => intro bs h; cases bs with
    | nil => intro c hc; cases hc
    | cons b bs => exact md_B_mk (by have := (md_B_cons h).1; omega) (ih bs (md_B_cons h).2)
theorem md_sb_len : ∀ (cs bs : List Nat), md_le bs cs → (md_sb cs bs).length = cs.length := by
  intro cs
  induction cs with
  | nil => intro bs _; cases bs <;> rfl
  | cons c cs ih => intro bs h; cases bs with
    | nil => exact absurd h (fun q => q)
    | cons b bs => show (md_sb cs bs).length + 1 = cs.length + 1; rw [ih bs h.2]
theorem md_code_lt : ∀ (cs : List Nat), md_B cs → md_code cs < 6 ^ cs.length := by
  intro cs
  induction cs with
  | nil => intro _; exact Nat.one_pos
  | cons c cs ih =>
    intro h
    have h1 := (md_B_cons h).1
    have h2 := ih (md_B_cons h).2
    show c + 6 * md_code cs < 6 ^ (cs.length + 1)
    rw [Nat.pow_succ]; omega
theorem md_digits : ∀ (m c : Nat), c < 6 ^ m → ∃ ds : List Nat, ds.length = m ∧ md_B ds ∧ md_code ds = c := by
  intro m
  induction m with
  | zero => intro c h; exact ⟨[], rfl, (fun c hc => by cases hc), by show 0 = c; simp at h; omega⟩
  | succ m ih =>
    intro c h
    obtain ⟨ds, h1, h2, h3⟩ := ih (c / 6) (by rw [Nat.pow_succ] at h; omega)
    exact ⟨(c % 6) :: ds, by rw [List.length_cons, h1], md_B_mk (by omega) h2, by simp only [md_code]; omega⟩
/-- where the digits don't carry: the sum's digits say that the set fits -/
theorem md_code_fit : ∀ (cs bs ds : List Nat), bs.length = cs.length → ds.length = cs.length → md_B cs → (∀ x, x ∈ bs → x ≤ 1) → (∀ x, x ∈ ds → x ≤ 4) → md_code bs + md_code ds = md_code cs → md_le bs cs := by
  intro cs
  induction cs with
  | nil => intro bs ds h1 _ _ _ _ _; cases bs with
    | nil => trivial
    | cons b bs => cases h1
  | cons c cs ih =>
    intro bs ds h1 h2 hB hb hd he
    cases bs with
    | nil => cases h1
    | cons b bs =>
      cases ds with
      | nil => cases h2
      | cons d ds =>
        have q1 := (md_B_cons hB).1
        have q2 := hb b List.mem_cons_self
        have q3 := hd d List.mem_cons_self
        simp only [md_code] at he
        have q4 : b + d = c ∧ md_code bs + md_code ds = md_code cs := by omega
        exact ⟨by omega, ih bs ds (by simpa using h1) (by simpa using h2) (md_B_cons hB).2 (fun x hx => hb x (List.mem_cons_of_mem _ hx)) (fun x hx => hd x (List.mem_cons_of_mem _ hx)) q4.2⟩
def md_rr (row : Nat → Nat) : Nat → List Nat
  | 0 => []
  | r + 1 => row r :: md_rr row r
theorem md_rr_len (row : Nat → Nat) : ∀ r, (md_rr row r).length = r := by
  intro r
  induction r with
  | zero => rfl
  | succ r ih => show (md_rr row r).length + 1 = r + 1; rw [ih]
theorem md_rr_perm (row : Nat → Nat) : ∀ r, (md_rr row r).Perm (md_rl row 0 r) := by
  intro r
  induction r with
  | zero => exact List.Perm.refl _
  | succ r ih =>
    rw [md_rl_snoc, Nat.zero_add]
    exact (List.Perm.cons _ ih).trans (List.perm_append_singleton (row r) (md_rl row 0 r)).symm
theorem md_code_0 : ∀ cs, md_code cs = 0 ↔ md_ls cs = 0 := by
  intro cs
  induction cs with
  | nil => exact Iff.rfl
  | cons c cs ih => simp only [md_code, md_ls]; omega
theorem md_W_N (m : Nat) (row : Nat → Nat) : ∀ r, r ≤ 5 → ∀ cs : List Nat, cs.length = m → md_B cs → md_W m row r (md_code cs) = md_N (md_rr row r) cs := by
  intro r
  induction r with
  | zero =>
    intro _ cs _ _
    show (if md_code cs = 0 then 1 else 0) = if md_ls cs = 0 then 1 else 0
    by_cases h : md_ls cs = 0
    · rw [if_pos h, if_pos ((md_code_0 cs).mpr h)]
    · rw [if_neg h, if_neg (fun q => h ((md_code_0 cs).mp q))]
  | succ r ih =>
    intro hr cs hl hB
    subst hl
    show md_sum (fun s => if md_pop cs.length s = row r ∧ md_add cs.length s ≤ md_code cs then md_W cs.length row r (md_code cs - md_add cs.length s) else 0) (2 ^ cs.length) = md_S cs (row r) (md_N (md_rr row r))
    rw [md_S_bits cs (row r) _ (fun s => Classical.propDecidable _)]
    refine md_sum_ext (fun s _ => ?_)
    rw [md_pop_bits, md_add_bits]
    generalize hbs : md_bits cs.length s = bs
    have hbl : bs.length = cs.length := by rw [← hbs]; exact md_bits_len _ _
    have hb1 : ∀ x, x ∈ bs → x ≤ 1 := by rw [← hbs]; exact md_bits_le _ _
    by_cases h1 : md_ls bs = row r
    · by_cases h2 : md_le bs cs
      · have h3 := md_code_sb cs bs h2
        rw [if_pos ⟨h1, by omega⟩, if_pos ⟨h1, h2⟩, show md_code cs - md_code bs = md_code (md_sb cs bs) by omega]
        exact ih (by omega) _ (md_sb_len cs bs h2) (md_sb_B cs bs hB)
      · rw [if_neg (fun (q : md_ls bs = row r ∧ md_le bs cs) => h2 q.2)]
        by_cases h3 : md_code bs ≤ md_code cs
        · rw [if_pos ⟨h1, h3⟩]
          have h4 := md_code_lt cs hB
          obtain ⟨ds, d1, d2, d3⟩ := md_digits cs.length (md_code cs - md_code bs) (by omega)
          rw [← d3, ih (by omega) ds d1 d2]
          by_cases h5 : md_N (md_rr row r) ds = 0
          · exact h5
          · exfalso
            have h6 := md_N_top (md_rr row r) ds (by omega)
            rw [md_rr_len] at h6
            exact h2 (md_code_fit cs bs ds hbl d1 hB hb1 (fun x hx => by have := h6 x hx; omega) (by omega))
        · rw [if_neg (fun (q : md_ls bs = row r ∧ md_code bs ≤ md_code cs) => h3 q.2)]
    · rw [if_neg (fun (q : md_ls bs = row r ∧ md_code bs ≤ md_code cs) => h1 q.1), if_neg (fun (q : md_ls bs = row r ∧ md_le bs cs) => h1 q.1)]
theorem md_hl_snoc : ∀ (cs : List Nat) (c : Nat), md_hl (cs ++ [c]) = md_up (md_hl cs) c (md_hl cs c + 1) := by
  intro cs c
  have key : ∀ (cs : List Nat) (j : Nat), md_hl (cs ++ [c]) j = md_hl cs j + if j = c then 1 else 0 := by
    intro cs
    induction cs with
    | nil => intro j; rfl
    | cons x cs ih =>
      intro j
      show md_hl (cs ++ [c]) j + (if j = x then 1 else 0) = md_hl cs j + (if j = x then 1 else 0) + if j = c then 1 else 0
      rw [ih j]; omega
  funext j
  rw [key]
  by_cases h : j = c
  · subst h; rw [if_pos rfl, md_up_s]
  · rw [if_neg h, md_up_n h]; rfl
theorem md_hist_hl (col : Nat → Nat) : ∀ m, md_hist col m = md_hl (md_rl col 0 m) := by
  intro m
  induction m with
  | zero => rfl
  | succ m ih =>
    rw [md_rl_snoc, Nat.zero_add, md_hl_snoc, ← ih]
    rfl
theorem md_rl_B {col : Nat → Nat} {m : Nat} (h : ∀ j, j < m → col j ≤ 5) : md_B (md_rl col 0 m) := by
  intro c hc
  obtain ⟨j, -, h2, h3⟩ := md_rl_mem col m 0 c hc
  rw [h3]; exact h j (by omega)
/-- THE COUNTS ARE ONE -/
theorem md_count {n m : Nat} {row col : Nat → Nat} (hn : n ≤ 5) (hc : ∀ j, j < m → col j ≤ 5) : md_from (md_rl row 0 n) (md_hist col m) = md_W m row n (md_code (md_rl col 0 m)) := by
  rw [md_hist_hl, md_from_N _ _ (md_rl_B hc), md_W_N m row n hn _ (md_rl_len col m 0) (md_rl_B hc)]
  exact (md_N_perm (md_rr_perm row n) _).symm
/-! Gale and Ryser -/
def md_mn (k : Nat) : List Nat → Nat
  | [] => 0
  | c :: cs => min c k + md_mn k cs
def md_pf : Nat → List Nat → Nat
  | 0, _ => 0
  | _ + 1, [] => 0
  | k + 1, r :: rs => r + md_pf k rs
def md_desc : List Nat → Prop
  | [] => True
  | r :: rs => (∀ x, x ∈ rs → x ≤ r) ∧ md_desc rs
theorem md_Sel_mn : ∀ (cs : List Nat) (r : Nat) (t : List Nat) (k : Nat), md_Sel cs r t → r + md_mn k t ≤ md_mn (k + 1) cs := by
  intro cs
  induction cs with
  | nil => rintro r t k ⟨h, e⟩; subst e; subst h; exact Nat.le_refl _
  | cons c cs ih =>
    rintro r t k (⟨t', e, a⟩ | ⟨h1, h2, t', e, a⟩)
    · subst e
      have := ih r t' k a
      simp only [md_mn]; omega
    · subst e
      have := ih (r - 1) t' k a
      simp only [md_mn]; omega
theorem md_nec : ∀ (rs cs : List Nat), 0 < md_N rs cs → md_ls rs = md_ls cs ∧ ∀ k, md_pf k rs ≤ md_mn k cs := by
  intro rs
  induction rs with
  | nil =>
    intro cs h
    refine ⟨?_, fun k => ?_⟩
    · by_cases e : md_ls cs = 0
      · rw [e]; rfl
      · have : md_N [] cs = 0 := if_neg e
        omega
    · cases k <;> exact Nat.zero_le _
  | cons r rs ih =>
    intro cs h
    obtain ⟨t, a, b⟩ := (md_S_pos cs r (md_N rs)).mp h
    obtain ⟨h1, h2⟩ := ih t b
    refine ⟨?_, fun k => ?_⟩
    · rw [md_Sel_ls cs r t a]
      show r + md_ls rs = r + md_ls t
      rw [h1]
    · cases k with
      | zero => exact Nat.zero_le _
      | succ k =>
        have := md_Sel_mn cs r t k a
        have := h2 k
        show r + md_pf k rs ≤ _
        omega
def md_ge (q : Nat) : List Nat → Nat
  | [] => 0
  | c :: cs => (if q ≤ c then 1 else 0) + md_ge q cs
theorem md_ge_mono (q : Nat) : ∀ cs, md_ge (q + 1) cs ≤ md_ge q cs := by
  intro cs
  induction cs with
  | nil => exact Nat.le_refl _
  | cons c cs ih =>
    simp only [md_ge]
    by_cases h : q + 1 ≤ c
    · rw [if_pos h, if_pos (by omega)]; omega
    · rw [if_neg h]; omega
/-- the greatest columns are lowered, by a threshold -/
theorem md_pick (th : Nat) (hth : 1 ≤ th) : ∀ (cs : List Nat) (r : Nat), md_ge (th + 1) cs ≤ r → r ≤ md_ge th cs → ∃ t, md_Sel cs r t ∧ (∀ k, th ≤ k → md_mn k t + r = md_mn (k + 1) cs) ∧ ∀ k, k < th → md_mn k t = md_mn k cs := by
  intro cs
  induction cs with
  | nil =>
    intro r h1 h2
    have : r = 0 := by simp only [md_ge] at h2; omega
    subst this
    exact ⟨[], ⟨rfl, rfl⟩, fun k _ => rfl, fun k _ => rfl⟩
  | cons c cs ih =>
    intro r h1 h2
    have hm := md_ge_mono th cs
    simp only [md_ge] at h1 h2
    by_cases hs : th + 1 ≤ c ∨ (c = th ∧ md_ge th cs < r)
    · have hc : th ≤ c := by omega
      rw [if_pos hc] at h2
      have hr : 1 ≤ r ∧ md_ge (th + 1) cs ≤ r - 1 := by
        rcases hs with q | q
        · rw [if_pos q] at h1; omega
        · omega
      obtain ⟨t, a, b, d⟩ := ih (r - 1) hr.2 (by omega)
      refine ⟨(c - 1) :: t, Or.inr ⟨by omega, hr.1, t, rfl, a⟩, fun k hk => ?_, fun k hk => ?_⟩
      · have := b k hk
        simp only [md_mn]; omega
      · have := d k hk
        simp only [md_mn]; omega
    · have hc : c ≤ th := by omega
      rw [if_neg (by omega)] at h1
      have hr : r ≤ md_ge th cs := by
        by_cases q : th ≤ c
        · omega
        · rw [if_neg q] at h2; omega
      obtain ⟨t, a, b, d⟩ := ih r (by omega) hr
      refine ⟨c :: t, Or.inl ⟨t, rfl, a⟩, fun k hk => ?_, fun k hk => ?_⟩
      · have := b k hk
        simp only [md_mn]; omega
      · have := d k hk
        simp only [md_mn]; omega
theorem md_ge_1 : ∀ cs, md_ge 1 cs = md_mn 1 cs := by
  intro cs
  induction cs with
  | nil => rfl
  | cons c cs ih =>
    simp only [md_ge, md_mn, ih]
    by_cases h : 1 ≤ c
    · rw [if_pos h]; omega
    · rw [if_neg h]; omega
theorem md_ge_6 : ∀ cs, md_B cs → md_ge 6 cs = 0 := by
  intro cs
  induction cs with
  | nil => intro _; rfl
  | cons c cs ih =>
    intro h
    have := (md_B_cons h).1
    simp only [md_ge, ih (md_B_cons h).2]
    rw [if_neg (by omega)]
theorem md_thr (cs : List Nat) (hB : md_B cs) (r : Nat) (hr : r ≤ md_mn 1 cs) : ∃ th, 1 ≤ th ∧ md_ge (th + 1) cs ≤ r ∧ r ≤ md_ge th cs := by
  rw [← md_ge_1] at hr
  have h6 := md_ge_6 cs hB
  by_cases h2 : md_ge 2 cs ≤ r
  · exact ⟨1, by omega, h2, hr⟩
  · by_cases h3 : md_ge 3 cs ≤ r
    · exact ⟨2, by omega, h3, by omega⟩
    · by_cases h4 : md_ge 4 cs ≤ r
      · exact ⟨3, by omega, h4, by omega⟩
      · by_cases h5 : md_ge 5 cs ≤ r
        · exact ⟨4, by omega, h5, by omega⟩
        · exact ⟨5, by omega, by show md_ge 6 cs ≤ r; omega, by omega⟩
theorem md_pf_sh : ∀ (rs : List Nat) (r k : Nat), md_desc (r :: rs) → md_pf k rs ≤ md_pf k (r :: rs) := by
  intro rs
  induction rs with
  | nil => intro r k _; cases k <;> exact Nat.zero_le _
  | cons x rs ih =>
    intro r k h
    cases k with
    | zero => exact Nat.le_refl _
    | succ k =>
      have h1 := ih x k h.2
      have h2 := h.1 x List.mem_cons_self
      show x + md_pf k rs ≤ r + md_pf k (x :: rs)
      omega
theorem md_suf : ∀ (rs cs : List Nat), md_B cs → md_desc rs → md_ls rs = md_ls cs → (∀ k, k ≤ rs.length → md_pf k rs ≤ md_mn k cs) → 0 < md_N rs cs := by
  intro rs
  induction rs with
  | nil =>
    intro cs _ _ h _
    have : md_N [] cs = 1 := if_pos h.symm
    omega
  | cons r rs ih =>
    intro cs hB hd hs hk
    have h1 : r ≤ md_mn 1 cs := by
      have := hk 1 (by simp)
      have e : md_pf 1 (r :: rs) = r + 0 := rfl
      omega
    obtain ⟨th, t1, t2, t3⟩ := md_thr cs hB r h1
    obtain ⟨t, a, b, d⟩ := md_pick th t1 cs r t2 t3
    refine (md_S_pos cs r (md_N rs)).mpr ⟨t, a, ih t (md_Sel_B cs r t a hB) hd.2 ?_ (fun k hkl => ?_)⟩
    · have := md_Sel_ls cs r t a
      have e : md_ls (r :: rs) = r + md_ls rs := rfl
      omega
    · by_cases q : th ≤ k
      · have h2 := b k q
        have h3 := hk (k + 1) (by simp; omega)
        have e : md_pf (k + 1) (r :: rs) = r + md_pf k rs := rfl
        omega
      · have h2 := d k (by omega)
        have h3 := hk k (by simp; omega)
        have h4 := md_pf_sh rs r k hd
        omega
/-! the sort -/
theorem md_shift_all (x : Nat) : ∀ (k : Nat) (f : Nat → Nat), (∀ a b, a < b → b < k → f b ≤ f a) →
    (md_rl (md_shift x k f) 0 (k + 1)).Perm (x :: md_rl f 0 k) ∧ (∀ a b, a < b → b < k + 1 → md_shift x k f b ≤ md_shift x k f a) ∧ (∀ j, k < j → md_shift x k f j = f j) ∧ (∀ y, y ≤ x → (∀ i, i < k → y ≤ f i) → ∀ j, j ≤ k → y ≤ md_shift x k f j) := by
  intro k
  induction k with
  | zero =>
    intro f _
    refine ⟨?_, fun a b h1 h2 => by omega, fun j hj => md_up_n (by omega), fun y hy _ j hj => ?_⟩
    · show [md_up f 0 x 0].Perm [x]
      rw [md_up_s]
    · have : j = 0 := by omega
      subst this
      show y ≤ md_up f 0 x 0
      rw [md_up_s]; exact hy
  | succ k ih =>
    intro f hf
    by_cases h : f k < x
    · have e : md_shift x (k + 1) f = md_shift x k (md_up f (k + 1) (f k)) := if_pos h
      have u : ∀ j, j < k + 1 → md_up f (k + 1) (f k) j = f j := fun j hj => md_up_n (by omega)
      obtain ⟨i1, i2, i3, i4⟩ := ih (md_up f (k + 1) (f k)) (fun a b h1 h2 => by rw [u a (by omega), u b (by omega)]; exact hf a b h1 (by omega))
      rw [e]
      have g1 : md_shift x k (md_up f (k + 1) (f k)) (k + 1) = f k := by rw [i3 (k + 1) (by omega), md_up_s]
      refine ⟨?_, fun a b h1 h2 => ?_, fun j hj => ?_, fun y hy hi j hj => ?_⟩
      · rw [md_rl_snoc _ (k + 1) 0, Nat.zero_add, g1, md_rl_snoc f k 0, Nat.zero_add]
        have e2 : md_rl (md_up f (k + 1) (f k)) 0 k = md_rl f 0 k := md_rl_ext k 0 (fun j _ hj => u j (by omega))
        rw [e2] at i1
        exact List.Perm.append_right [f k] i1
      · by_cases hb : b = k + 1
        · subst hb
          rw [g1]
          exact i4 (f k) (by omega) (fun i hi => by rw [u i (by omega)]; exact hf i k hi (by omega)) a (by omega)
        · exact i2 a b h1 (by omega)
      · rw [i3 j (by omega)]; exact md_up_n (by omega)
      · by_cases hb : j = k + 1
        · subst hb
          rw [g1]; exact hi k (by omega)
        · exact i4 y hy (fun i h1 => by rw [u i (by omega)]; exact hi i (by omega)) j (by omega)
    · have e : md_shift x (k + 1) f = md_up f (k + 1) x := if_neg h
      have u : ∀ j, j < k + 1 → md_up f (k + 1) x j = f j := fun j hj => md_up_n (by omega)
      rw [e]
      refine ⟨?_, fun a b h1 h2 => ?_, fun j hj => md_up_n (by omega), fun y hy hi j hj => ?_⟩
      · rw [md_rl_snoc _ (k + 1) 0, Nat.zero_add, md_up_s, md_rl_ext (k + 1) 0 (fun j _ hj => u j (by omega))]
        exact List.perm_append_singleton x _
      · by_cases hb : b = k + 1
        · subst hb
          rw [md_up_s, u a h1]
          by_cases ha : a = k
          · subst ha; omega
          · have := hf a k (by omega) (by omega); omega
        · rw [u b (by omega), u a (by omega)]; exact hf a b h1 (by omega)
      · by_cases hb : j = k + 1
        · subst hb; rw [md_up_s]; exact hy
        · rw [u j (by omega)]; exact hi j (by omega)
theorem md_sort_all (row : Nat → Nat) (f : Nat → Nat) : ∀ n, (md_rl (md_sort row n f) 0 n).Perm (md_rl row 0 n) ∧ ∀ a b, a < b → b < n → md_sort row n f b ≤ md_sort row n f a := by
  intro n
  induction n with
  | zero => exact ⟨List.Perm.refl _, fun a b _ h => by omega⟩
  | succ n ih =>
    obtain ⟨h1, h2, -, -⟩ := md_shift_all (row n) n (md_sort row n f) ih.2
    refine ⟨?_, h2⟩
    refine h1.trans ?_
    rw [md_rl_snoc row n 0, Nat.zero_add]
    exact (List.Perm.cons _ ih.1).trans (List.perm_append_singleton (row n) (md_rl row 0 n)).symm
theorem md_rl_desc (f : Nat → Nat) : ∀ (k i : Nat), (∀ a b, a < b → b < i + k → f b ≤ f a) → md_desc (md_rl f i k) := by
  intro k
  induction k with
  | zero => intro i _; trivial
  | succ k ih =>
    intro i h
    refine ⟨fun x hx => ?_, ih (i + 1) (fun a b h1 h2 => h a b h1 (by omega))⟩
    obtain ⟨j, h1, h2, h3⟩ := md_rl_mem f k (i + 1) x hx
    rw [h3]; exact h i j (by omega) (by omega)
theorem md_ls_rl (f : Nat → Nat) : ∀ (k i : Nat), md_ls (md_rl f i k) = md_sum (fun j => f (i + j)) k := by
  intro k
  induction k with
  | zero => intro i; rfl
  | succ k ih =>
    intro i
    show f i + md_ls (md_rl f (i + 1) k) = _
    rw [ih, md_sum_S]
    congr 1
    exact md_sum_ext (fun j _ => by rw [show i + 1 + j = i + (j + 1) by omega])
theorem md_pf_rl (f : Nat → Nat) : ∀ (n k i : Nat), k ≤ n → md_pf k (md_rl f i n) = md_sum (fun j => f (i + j)) k := by
  intro n
  induction n with
  | zero => intro k i h; have : k = 0 := by omega
            subst this; rfl
  | succ n ih =>
    intro k i h
    cases k with
    | zero => rfl
    | succ k =>
      show f i + md_pf k (md_rl f (i + 1) n) = _
      rw [ih k (i + 1) (by omega), md_sum_S]
      congr 1
      exact md_sum_ext (fun j _ => by rw [show i + 1 + j = i + (j + 1) by omega])
theorem md_mn_rl (f : Nat → Nat) (q : Nat) : ∀ (k i : Nat), md_mn q (md_rl f i k) = md_sum (fun j => min (f (i + j)) q) k := by
  intro k
  induction k with
  | zero => intro i; rfl
  | succ k ih =>
    intro i
    show min (f i) q + md_mn q (md_rl f (i + 1) k) = _
    rw [ih, md_sum_S]
    congr 1
    exact md_sum_ext (fun j _ => by rw [show i + 1 + j = i + (j + 1) by omega])
/-- WHETHER THERE IS ONE -/
theorem md_any {n m : Nat} {row col srt : Nat → Nat} (hn : n ≤ 5) (hc : ∀ j, j < m → col j ≤ 5) : md_GR n m row col (md_sort row n srt) ↔ 0 < md_W m row n (md_code (md_rl col 0 m)) := by
  rw [md_W_N m row n hn _ (md_rl_len col m 0) (md_rl_B hc), md_N_perm (md_rr_perm row n) _]
  obtain ⟨hp, hd⟩ := md_sort_all row srt n
  have hN : md_N (md_rl row 0 n) (md_rl col 0 m) = md_N (md_rl (md_sort row n srt) 0 n) (md_rl col 0 m) := (md_N_perm hp _).symm
  have s1 : md_sum row n = md_ls (md_rl row 0 n) := by rw [md_ls_rl]; exact md_sum_ext (fun j _ => by rw [Nat.zero_add])
  have s2 : md_sum col m = md_ls (md_rl col 0 m) := by rw [md_ls_rl]; exact md_sum_ext (fun j _ => by rw [Nat.zero_add])
  have s3 : md_ls (md_rl (md_sort row n srt) 0 n) = md_ls (md_rl row 0 n) := by
    have key : ∀ {a b : List Nat}, a.Perm b → md_ls a = md_ls b := by
      intro a b h
      induction h with
      | nil => rfl
      | cons x _ ih => show x + _ = x + _; rw [ih]
      | swap x y l => show y + (x + _) = x + (y + _); omega
      | trans _ _ h1 h2 => rw [h1, h2]
    exact key hp
  have s4 : ∀ k, k < n → (md_sum (md_sort row n srt) (k + 1) ≤ md_sum (fun j => min (col j) (k + 1)) m ↔ md_pf (k + 1) (md_rl (md_sort row n srt) 0 n) ≤ md_mn (k + 1) (md_rl col 0 m)) := by
    intro k hk
    rw [md_pf_rl _ n (k + 1) 0 (by omega), md_mn_rl]
    rw [md_sum_ext (f := fun j => md_sort row n srt (0 + j)) (g := md_sort row n srt) (fun j _ => by rw [Nat.zero_add]), md_sum_ext (f := fun j => min (col (0 + j)) (k + 1)) (g := fun j => min (col j) (k + 1)) (fun j _ => by rw [Nat.zero_add])]
  constructor
  · rintro ⟨g1, g2, g3⟩
    rw [hN]
    refine md_suf _ _ (md_rl_B hc) (md_rl_desc _ n 0 (fun a b h1 h2 => hd a b h1 (by omega))) (by rw [s3, ← s1, g1, s2]) (fun k hk => ?_)
    rw [md_rl_len] at hk
    cases k with
    | zero => exact Nat.zero_le _
    | succ k => exact (s4 k (by omega)).mp (g3 k (by omega))
  · intro h
    have h0 := md_N_top _ _ h
    rw [hN] at h
    obtain ⟨g1, g2⟩ := md_nec _ _ h
    refine ⟨by rw [s1, ← s3, g1, s2], fun j hj => ?_, fun k hk => (s4 k hk).mpr (g2 (k + 1))⟩
    have hmem : ∀ (k i j : Nat), i ≤ j → j < i + k → col j ∈ md_rl col i k := by
      intro k
      induction k with
      | zero => intro i j a b; omega
      | succ k ih =>
        intro i j a b
        by_cases e : i = j
        · subst e; exact List.mem_cons_self
        · exact List.mem_cons_of_mem _ (ih (i + 1) j (by omega) (by omega))
    have := h0 (col j) (hmem m 0 j (by omega) (by omega))
    rw [md_rl_len] at this
    exact this
end
section
-- ===== PART A: goes FIRST, ahead of the names: the tables' words, and 'selects' of the private methods out of them =====
/-- a private method of a class that the tables say can be made, by its rows of tables_1 -/
def lw_okq (q : MethodName × Nat) : Prop := (q.1.cls ≠ "java/lang/invoke/MethodHandle" ∧ q.1.cls ≠ "java/lang/invoke/VarHandle") ∧ Cond.instantiable q.1.cls q.2 ∈ tables_1 ∧ Cond.privateMethod q.1 ∈ tables_1 ∧ Cond.instanceMethod q.1 ∈ tables_1
set_option maxRecDepth 100000
theorem lw_p0 : lw_okq (⟨"MarginDesk$Needs", "from", "(I)J"⟩, 3) := ⟨⟨by decide +kernel, by decide +kernel⟩, List.mem_of_getElem? (i := 14) rfl, List.mem_of_getElem? (i := 71) rfl, List.mem_of_getElem? (i := 72) rfl⟩
theorem lw_p1 : lw_okq (⟨"MarginDesk$Needs", "take", "(III)J"⟩, 3) := ⟨⟨by decide +kernel, by decide +kernel⟩, List.mem_of_getElem? (i := 14) rfl, List.mem_of_getElem? (i := 75) rfl, List.mem_of_getElem? (i := 76) rfl⟩
theorem lw_p2 : lw_okq (⟨"MarginDeskModel", "all", "()I"⟩, 6) := ⟨⟨by decide +kernel, by decide +kernel⟩, List.mem_of_getElem? (i := 103) rfl, List.mem_of_getElem? (i := 146) rfl, List.mem_of_getElem? (i := 147) rfl⟩
def lw_privs_1 : List (MethodName × Nat) := [(⟨"MarginDesk$Needs", "from", "(I)J"⟩, 3), (⟨"MarginDesk$Needs", "take", "(III)J"⟩, 3), (⟨"MarginDeskModel", "all", "()I"⟩, 6)]
theorem lw_r1 : ∀ q ∈ lw_privs_1, lw_okq q := List.forall_mem_cons.mpr ⟨lw_p0, List.forall_mem_cons.mpr ⟨lw_p1, List.forall_mem_cons.mpr ⟨lw_p2, fun _ h => absurd h List.not_mem_nil⟩⟩⟩
def lw_privs : List (MethodName × Nat) := lw_privs_1
def lw_tbl : List Cond := k2_sels lw_privs ++ tables_1
theorem lw_privs_ok : ∀ q ∈ lw_privs, lw_okq q := lw_r1
-- ===== ONE list of words for every method: the tables' words that hold all through a run =====
def lw_all : List Cond := lw_tbl.filter goodWord
/-- a word of the tables by its place: claim/WORDS.tsv -/
theorem lw_w {w : Cond} (i : Nat) (h : lw_tbl[i]? = some w) (g : goodWord w = true) : w ∈ lw_all := List.mem_filter.mpr ⟨List.mem_of_getElem? h, g⟩
theorem lw_all_tbl {w : Cond} (h : w ∈ lw_all) : w ∈ lw_tbl := (List.mem_filter.mp h).1
theorem lw_self : GoodIn lw_all lw_all := fun w h => ⟨h, good_of_word (List.mem_filter.mp h).2⟩
/-- a class's field words, by their places -/
theorem lw_in (ws : List Cond) (ps : List Nat) (hp : ws = ps.filterMap (fun i => lw_tbl[i]?)) (hg : ws.all goodWord = true) : ∀ w ∈ ws, w ∈ lw_all := by
  intro w h
  have h1 := List.all_eq_true.mp hg w h
  rw [hp] at h
  obtain ⟨i, -, hi⟩ := List.mem_filterMap.mp h
  exact lw_w i hi h1
/-- the words of a contract for the method y with code b, L locals, answer r -/
abbrev ws_ (y : MethodName) (b : ByteArray) (L : Nat) (r : Option FieldType) : List Cond := Cond.code y b L r :: lw_all
theorem lw_meth {y : MethodName} {b : ByteArray} {L : Nat} {r : Option FieldType} (h : Cond.code y b L r ∈ lw_all) : GoodIn lw_all (ws_ y b L r) := by
  intro w hw
  rcases List.mem_cons.mp hw with e | e
  · rw [e]
    exact lw_self _ h
  · exact lw_self _ e
theorem lw_app {a c : List Cond} (ha : ∀ w ∈ a, w ∈ lw_all) (hc : GoodIn lw_all c) : GoodIn lw_all (a ++ c) := by
  intro w hw
  rcases List.mem_append.mp hw with e | e
  · exact lw_self w (ha w e)
  · exact hc w e
/-- what a call through an object asks: cwV n hts (lw_V ..) -/
theorem lw_V {own : String} {idx : Nat} {C : String} {y : MethodName} {b : ByteArray} {L : Nat} {r : Option FieldType} (h1 : Cond.methodLink own idx y ∈ lw_all) (h2 : Cond.instanceMethod y ∈ lw_all) (h3 : Cond.selects C y y ∈ lw_all) (h4 : Cond.initialized C ∈ lw_all) (h5 : Cond.code y b L r ∈ lw_all) : GoodIn lw_all (wsV own idx C y (ws_ y b L r)) := by
  refine lw_app ?_ (lw_meth h5)
  intro w hw
  simp only [List.mem_cons, List.not_mem_nil, or_false] at hw
  rcases hw with e | e | e | e
  · rw [e]; exact h1
  · rw [e]; exact h2
  · rw [e]; exact h3
  · rw [e]; exact h4
/-- what a static call asks: va_cwS n hts (lw_S ..) -/
theorem lw_S {own : String} {idx : Nat} {y : MethodName} {b : ByteArray} {L : Nat} {r : Option FieldType} (h1 : Cond.methodLink own idx y ∈ lw_all) (h2 : Cond.static y ∈ lw_all) (h3 : Cond.initialized y.cls ∈ lw_all) (h4 : Cond.code y b L r ∈ lw_all) : GoodIn lw_all (va_wsS own idx y (ws_ y b L r)) := by
  refine lw_app ?_ (lw_meth h4)
  intro w hw
  simp only [List.mem_cons, List.not_mem_nil, or_false] at hw
  rcases hw with e | e | e
  · rw [e]; exact h1
  · rw [e]; exact h2
  · rw [e]; exact h3
/-- the words of a contract for a method WITH HANDLERS (hh: its table) -/
abbrev wsW_ (y : MethodName) (b : ByteArray) (L : Nat) (r : Option FieldType) (hh : List (Nat × Nat × Nat × Nat)) : List Cond := Cond.codeWith y b L r hh :: lw_all
theorem lw_methW {y : MethodName} {b : ByteArray} {L : Nat} {r : Option FieldType} {hh : List (Nat × Nat × Nat × Nat)} (h : Cond.codeWith y b L r hh ∈ lw_all) : GoodIn lw_all (wsW_ y b L r hh) := by
  intro w hw
  rcases List.mem_cons.mp hw with e | e
  · rw [e]
    exact lw_self _ h
  · exact lw_self _ e
/-- any list of words by their places (lw_in), good -/
theorem lw_good {ws : List Cond} (h : ∀ w ∈ ws, w ∈ lw_all) : GoodIn lw_all ws := fun w hw => lw_self w (h w hw)
/-- what a call of a method with handlers asks: vx_cwVW n hts (lw_VW ..), vx_cwSW n hts (lw_SW ..) -/
theorem lw_VW {own : String} {idx : Nat} {C : String} {y : MethodName} {b : ByteArray} {L : Nat} {r : Option FieldType} {hh : List (Nat × Nat × Nat × Nat)} (h1 : Cond.methodLink own idx y ∈ lw_all) (h2 : Cond.instanceMethod y ∈ lw_all) (h3 : Cond.selects C y y ∈ lw_all) (h4 : Cond.initialized C ∈ lw_all) (h5 : Cond.codeWith y b L r hh ∈ lw_all) : GoodIn lw_all (wsV own idx C y (wsW_ y b L r hh)) := by
  refine lw_app ?_ (lw_methW h5)
  intro w hw
  simp only [List.mem_cons, List.not_mem_nil, or_false] at hw
  rcases hw with e | e | e | e
  · rw [e]; exact h1
  · rw [e]; exact h2
  · rw [e]; exact h3
  · rw [e]; exact h4
theorem lw_SW {own : String} {idx : Nat} {y : MethodName} {b : ByteArray} {L : Nat} {r : Option FieldType} {hh : List (Nat × Nat × Nat × Nat)} (h1 : Cond.methodLink own idx y ∈ lw_all) (h2 : Cond.static y ∈ lw_all) (h3 : Cond.initialized y.cls ∈ lw_all) (h4 : Cond.codeWith y b L r hh ∈ lw_all) : GoodIn lw_all (va_wsS own idx y (wsW_ y b L r hh)) := by
  refine lw_app ?_ (lw_methW h4)
  intro w hw
  simp only [List.mem_cons, List.not_mem_nil, or_false] at hw
  rcases hw with e | e | e
  · rw [e]; exact h1
  · rw [e]; exact h2
  · rw [e]; exact h3
/-- a word by its place in its run of the tables -/
theorem lw_at {r : List Cond} (hr : ∀ w ∈ r, w ∈ lw_tbl) {w : Cond} (i : Nat) (h : r[i]? = some w) : w ∈ lw_tbl := hr w (List.mem_of_getElem? h)
theorem lw_g {w : Cond} (h : w ∈ lw_tbl) (g : goodWord w = true) : w ∈ lw_all := List.mem_filter.mpr ⟨h, g⟩
theorem lw_ms : ∀ w ∈ k2_sels lw_privs, w ∈ lw_tbl := fun w h => show w ∈ k2_sels lw_privs ++ tables_1 from List.mem_append_left _ h
theorem lw_m0 : ∀ w ∈ tables_1, w ∈ lw_tbl := fun w h => show w ∈ k2_sels lw_privs ++ tables_1 from List.mem_append_right (k2_sels lw_privs) h
theorem qs0 : (Cond.selects "MarginDesk$Needs" ⟨"MarginDesk$Needs", "from", "(I)J"⟩ ⟨"MarginDesk$Needs", "from", "(I)J"⟩) ∈ lw_all := lw_g (lw_at lw_ms 0 rfl) rfl
theorem qs1 : (Cond.selects "MarginDesk$Needs" ⟨"MarginDesk$Needs", "take", "(III)J"⟩ ⟨"MarginDesk$Needs", "take", "(III)J"⟩) ∈ lw_all := lw_g (lw_at lw_ms 1 rfl) rfl
theorem qs2 : (Cond.selects "MarginDeskModel" ⟨"MarginDeskModel", "all", "()I"⟩ ⟨"MarginDeskModel", "all", "()I"⟩) ∈ lw_all := lw_g (lw_at lw_ms 2 rfl) rfl
end
section
/-! java/lang/Object -/
set_option maxRecDepth 100000
def RJ1 : String := "java/lang/Object"
abbrev cJ1_init : ByteArray := object_method_1_code
def yJ1_init : MethodName := ⟨RJ1, "<init>", "()V"⟩
theorem dJ1_init_0 : decode cJ1_init 0 = .ok (.return_, 1) := by decide +kernel
theorem q14 : (Jvm.Cond.instanceMethod ({ cls := "java/lang/Object", name := "<init>", desc := "()V" } : Jvm.MethodName)) ∈ lw_all := lw_g (lw_at lw_m0 11 rfl) rfl
theorem q15 : (Jvm.Cond.code ({ cls := "java/lang/Object", name := "<init>", desc := "()V" } : Jvm.MethodName) object_method_1_code (1 : Nat) (Option.none : Option Jvm.ClassFile.FieldType)) ∈ lw_all := lw_g (lw_at lw_m0 12 rfl) rfl
/-! java/lang/Math -/
set_option maxRecDepth 100000
def RJ0 : String := "java/lang/Math"
abbrev cJ0_min : ByteArray := prog_5_method_69_code
def yJ0_min : MethodName := ⟨RJ0, "min", "(II)I"⟩
theorem dJ0_min_0 : decode cJ0_min 0 = .ok (.iload_n 0, 1) := by decide +kernel
theorem dJ0_min_1 : decode cJ0_min 1 = .ok (.iload_n 1, 1) := by decide +kernel
theorem dJ0_min_2 : decode cJ0_min 2 = .ok (.if_icmp .gt 7, 3) := by decide +kernel
theorem dJ0_min_5 : decode cJ0_min 5 = .ok (.iload_n 0, 1) := by decide +kernel
theorem dJ0_min_6 : decode cJ0_min 6 = .ok (.goto 4, 3) := by decide +kernel
theorem dJ0_min_9 : decode cJ0_min 9 = .ok (.iload_n 1, 1) := by decide +kernel
theorem dJ0_min_10 : decode cJ0_min 10 = .ok (.ireturn, 1) := by decide +kernel
theorem q7 : (Jvm.Cond.initialized "java/lang/Math") ∈ lw_all := lw_g (lw_at lw_m0 4 rfl) rfl
theorem q101 : (Jvm.Cond.static ({ cls := "java/lang/Math", name := "min", desc := "(II)I" } : Jvm.MethodName)) ∈ lw_all := lw_g (lw_at lw_m0 98 rfl) rfl
theorem q102 : (Jvm.Cond.code ({ cls := "java/lang/Math", name := "min", desc := "(II)I" } : Jvm.MethodName) prog_5_method_69_code (2 : Nat) (Option.some Jvm.ClassFile.FieldType.int)) ∈ lw_all := lw_g (lw_at lw_m0 99 rfl) rfl
theorem q32 : (Jvm.Cond.arrayClass Jvm.ClassFile.FieldType.int) ∈ lw_all := lw_g (lw_at lw_m0 29 rfl) rfl
set_option maxRecDepth 100000
theorem q130 : (Jvm.Cond.arrayClass Jvm.ClassFile.FieldType.long) ∈ lw_all := lw_g (lw_at lw_m0 127 rfl) rfl
end
section
/-! MarginDesk$Needs -/
set_option maxRecDepth 100000
def RX1 : String := "MarginDesk$Needs"
def TX1 : u_T := fun k => match k with
  | 0 => ("MarginDesk$Needs", "have", "[I", true)
  | 1 => ("MarginDesk$Needs", "rows", "[I", true)
  | _ => ("MarginDesk$Needs", "n", "I", false)
def tyX1 : Nat → FieldType := fun k => match k with
  | 0 => .array .int
  | 1 => .array .int
  | _ => .int
abbrev wsX10 : List Cond := u_ws RX1 TX1 3
theorem nmX1 : ∀ a, a < 3 → ∀ b, b < 3 → a ≠ b → (TX1 a).2.1 ≠ (TX1 b).2.1 := by decide +kernel
theorem tyX1_ok : ∀ k, k < 3 → parseFieldDescriptor (TX1 k).2.2.1 = some (tyX1 k) := by decide +kernel
abbrev cX1_init : ByteArray := prog_2_method_1_code
def yX1_init : MethodName := ⟨RX1, "<init>", "()V"⟩
theorem dX1_init_0 : decode cX1_init 0 = .ok (.aload_n 0, 1) := by decide +kernel
theorem dX1_init_1 : decode cX1_init 1 = .ok (.invokespecial 3, 3) := by decide +kernel
theorem dX1_init_4 : decode cX1_init 4 = .ok (.aload_n 0, 1) := by decide +kernel
theorem dX1_init_5 : decode cX1_init 5 = .ok (.bipush 36, 2) := by decide +kernel
theorem dX1_init_7 : decode cX1_init 7 = .ok (.newarray .int, 2) := by decide +kernel
theorem dX1_init_9 : decode cX1_init 9 = .ok (.putfield 9, 3) := by decide +kernel
theorem dX1_init_12 : decode cX1_init 12 = .ok (.aload_n 0, 1) := by decide +kernel
theorem dX1_init_13 : decode cX1_init 13 = .ok (.iconst 5, 1) := by decide +kernel
theorem dX1_init_14 : decode cX1_init 14 = .ok (.newarray .int, 2) := by decide +kernel
theorem dX1_init_16 : decode cX1_init 16 = .ok (.putfield 15, 3) := by decide +kernel
theorem dX1_init_19 : decode cX1_init 19 = .ok (.return_, 1) := by decide +kernel
abbrev cX1_count : ByteArray := prog_2_method_5_code
def yX1_count : MethodName := ⟨RX1, "count", "([II[II)J"⟩
theorem dX1_count_0 : decode cX1_count 0 = .ok (.aload_n 0, 1) := by decide +kernel
theorem dX1_count_1 : decode cX1_count 1 = .ok (.iload_n 2, 1) := by decide +kernel
theorem dX1_count_2 : decode cX1_count 2 = .ok (.putfield 18, 3) := by decide +kernel
theorem dX1_count_5 : decode cX1_count 5 = .ok (.iconst 0, 1) := by decide +kernel
theorem dX1_count_6 : decode cX1_count 6 = .ok (.istore 5, 2) := by decide +kernel
theorem dX1_count_8 : decode cX1_count 8 = .ok (.iload 5, 2) := by decide +kernel
theorem dX1_count_10 : decode cX1_count 10 = .ok (.bipush 6, 2) := by decide +kernel
theorem dX1_count_12 : decode cX1_count 12 = .ok (.if_icmp .ge 17, 3) := by decide +kernel
theorem dX1_count_15 : decode cX1_count 15 = .ok (.aload_n 0, 1) := by decide +kernel
theorem dX1_count_16 : decode cX1_count 16 = .ok (.getfield 9, 3) := by decide +kernel
theorem dX1_count_19 : decode cX1_count 19 = .ok (.iload 5, 2) := by decide +kernel
theorem dX1_count_21 : decode cX1_count 21 = .ok (.iconst 0, 1) := by decide +kernel
theorem dX1_count_22 : decode cX1_count 22 = .ok (.iastore, 1) := by decide +kernel
theorem dX1_count_23 : decode cX1_count 23 = .ok (.iinc 5 1, 3) := by decide +kernel
theorem dX1_count_26 : decode cX1_count 26 = .ok (.goto (-18), 3) := by decide +kernel
theorem dX1_count_29 : decode cX1_count 29 = .ok (.iconst 0, 1) := by decide +kernel
theorem dX1_count_30 : decode cX1_count 30 = .ok (.istore 5, 2) := by decide +kernel
theorem dX1_count_32 : decode cX1_count 32 = .ok (.iload 5, 2) := by decide +kernel
theorem dX1_count_34 : decode cX1_count 34 = .ok (.iload 4, 2) := by decide +kernel
theorem dX1_count_36 : decode cX1_count 36 = .ok (.if_icmp .ge 22, 3) := by decide +kernel
theorem dX1_count_39 : decode cX1_count 39 = .ok (.aload_n 0, 1) := by decide +kernel
theorem dX1_count_40 : decode cX1_count 40 = .ok (.getfield 9, 3) := by decide +kernel
theorem dX1_count_43 : decode cX1_count 43 = .ok (.aload_n 3, 1) := by decide +kernel
theorem dX1_count_44 : decode cX1_count 44 = .ok (.iload 5, 2) := by decide +kernel
theorem dX1_count_46 : decode cX1_count 46 = .ok (.iaload, 1) := by decide +kernel
theorem dX1_count_47 : decode cX1_count 47 = .ok (.dup2, 1) := by decide +kernel
theorem dX1_count_48 : decode cX1_count 48 = .ok (.iaload, 1) := by decide +kernel
theorem dX1_count_49 : decode cX1_count 49 = .ok (.iconst 1, 1) := by decide +kernel
theorem dX1_count_50 : decode cX1_count 50 = .ok (.iadd, 1) := by decide +kernel
theorem dX1_count_51 : decode cX1_count 51 = .ok (.iastore, 1) := by decide +kernel
theorem dX1_count_52 : decode cX1_count 52 = .ok (.iinc 5 1, 3) := by decide +kernel
theorem dX1_count_55 : decode cX1_count 55 = .ok (.goto (-23), 3) := by decide +kernel
theorem dX1_count_58 : decode cX1_count 58 = .ok (.iconst 0, 1) := by decide +kernel
theorem dX1_count_59 : decode cX1_count 59 = .ok (.istore 5, 2) := by decide +kernel
theorem dX1_count_61 : decode cX1_count 61 = .ok (.iload 5, 2) := by decide +kernel
theorem dX1_count_63 : decode cX1_count 63 = .ok (.iload_n 2, 1) := by decide +kernel
theorem dX1_count_64 : decode cX1_count 64 = .ok (.if_icmp .ge 20, 3) := by decide +kernel
theorem dX1_count_67 : decode cX1_count 67 = .ok (.aload_n 0, 1) := by decide +kernel
theorem dX1_count_68 : decode cX1_count 68 = .ok (.getfield 15, 3) := by decide +kernel
theorem dX1_count_71 : decode cX1_count 71 = .ok (.iload 5, 2) := by decide +kernel
theorem dX1_count_73 : decode cX1_count 73 = .ok (.aload_n 1, 1) := by decide +kernel
theorem dX1_count_74 : decode cX1_count 74 = .ok (.iload 5, 2) := by decide +kernel
theorem dX1_count_76 : decode cX1_count 76 = .ok (.iaload, 1) := by decide +kernel
theorem dX1_count_77 : decode cX1_count 77 = .ok (.iastore, 1) := by decide +kernel
theorem dX1_count_78 : decode cX1_count 78 = .ok (.iinc 5 1, 3) := by decide +kernel
theorem dX1_count_81 : decode cX1_count 81 = .ok (.goto (-20), 3) := by decide +kernel
theorem dX1_count_84 : decode cX1_count 84 = .ok (.aload_n 0, 1) := by decide +kernel
theorem dX1_count_85 : decode cX1_count 85 = .ok (.iconst 0, 1) := by decide +kernel
theorem dX1_count_86 : decode cX1_count 86 = .ok (.invokevirtual 26, 3) := by decide +kernel
theorem dX1_count_89 : decode cX1_count 89 = .ok (.lreturn, 1) := by decide +kernel
abbrev cX1_from : ByteArray := prog_2_method_3_code
def yX1_from : MethodName := ⟨RX1, "from", "(I)J"⟩
theorem dX1_from_0 : decode cX1_from 0 = .ok (.iload_n 1, 1) := by decide +kernel
theorem dX1_from_1 : decode cX1_from 1 = .ok (.aload_n 0, 1) := by decide +kernel
theorem dX1_from_2 : decode cX1_from 2 = .ok (.getfield 18, 3) := by decide +kernel
theorem dX1_from_5 : decode cX1_from 5 = .ok (.if_icmp .ne 49, 3) := by decide +kernel
theorem dX1_from_8 : decode cX1_from 8 = .ok (.lconst 0, 1) := by decide +kernel
theorem dX1_from_9 : decode cX1_from 9 = .ok (.lstore_n 2, 1) := by decide +kernel
theorem dX1_from_10 : decode cX1_from 10 = .ok (.iconst 1, 1) := by decide +kernel
theorem dX1_from_11 : decode cX1_from 11 = .ok (.istore 4, 2) := by decide +kernel
theorem dX1_from_13 : decode cX1_from 13 = .ok (.iload 4, 2) := by decide +kernel
theorem dX1_from_15 : decode cX1_from 15 = .ok (.bipush 6, 2) := by decide +kernel
theorem dX1_from_17 : decode cX1_from 17 = .ok (.if_icmp .ge 25, 3) := by decide +kernel
theorem dX1_from_20 : decode cX1_from 20 = .ok (.lload_n 2, 1) := by decide +kernel
theorem dX1_from_21 : decode cX1_from 21 = .ok (.aload_n 0, 1) := by decide +kernel
theorem dX1_from_22 : decode cX1_from 22 = .ok (.getfield 9, 3) := by decide +kernel
theorem dX1_from_25 : decode cX1_from 25 = .ok (.bipush 6, 2) := by decide +kernel
theorem dX1_from_27 : decode cX1_from 27 = .ok (.iload_n 1, 1) := by decide +kernel
theorem dX1_from_28 : decode cX1_from 28 = .ok (.imul, 1) := by decide +kernel
theorem dX1_from_29 : decode cX1_from 29 = .ok (.iload 4, 2) := by decide +kernel
theorem dX1_from_31 : decode cX1_from 31 = .ok (.iadd, 1) := by decide +kernel
theorem dX1_from_32 : decode cX1_from 32 = .ok (.iaload, 1) := by decide +kernel
theorem dX1_from_33 : decode cX1_from 33 = .ok (.i2l, 1) := by decide +kernel
theorem dX1_from_34 : decode cX1_from 34 = .ok (.ladd, 1) := by decide +kernel
theorem dX1_from_35 : decode cX1_from 35 = .ok (.lstore_n 2, 1) := by decide +kernel
theorem dX1_from_36 : decode cX1_from 36 = .ok (.iinc 4 1, 3) := by decide +kernel
theorem dX1_from_39 : decode cX1_from 39 = .ok (.goto (-26), 3) := by decide +kernel
theorem dX1_from_42 : decode cX1_from 42 = .ok (.lload_n 2, 1) := by decide +kernel
theorem dX1_from_43 : decode cX1_from 43 = .ok (.lconst 0, 1) := by decide +kernel
theorem dX1_from_44 : decode cX1_from 44 = .ok (.lcmp, 1) := by decide +kernel
theorem dX1_from_45 : decode cX1_from 45 = .ok (.ifCond .ne 7, 3) := by decide +kernel
theorem dX1_from_48 : decode cX1_from 48 = .ok (.lconst 1, 1) := by decide +kernel
theorem dX1_from_49 : decode cX1_from 49 = .ok (.goto 4, 3) := by decide +kernel
theorem dX1_from_52 : decode cX1_from 52 = .ok (.lconst 0, 1) := by decide +kernel
theorem dX1_from_53 : decode cX1_from 53 = .ok (.lreturn, 1) := by decide +kernel
theorem dX1_from_54 : decode cX1_from 54 = .ok (.iconst 0, 1) := by decide +kernel
theorem dX1_from_55 : decode cX1_from 55 = .ok (.istore_n 2, 1) := by decide +kernel
theorem dX1_from_56 : decode cX1_from 56 = .ok (.iload_n 2, 1) := by decide +kernel
theorem dX1_from_57 : decode cX1_from 57 = .ok (.bipush 6, 2) := by decide +kernel
theorem dX1_from_59 : decode cX1_from 59 = .ok (.if_icmp .ge 33, 3) := by decide +kernel
theorem dX1_from_62 : decode cX1_from 62 = .ok (.aload_n 0, 1) := by decide +kernel
theorem dX1_from_63 : decode cX1_from 63 = .ok (.getfield 9, 3) := by decide +kernel
theorem dX1_from_66 : decode cX1_from 66 = .ok (.bipush 6, 2) := by decide +kernel
theorem dX1_from_68 : decode cX1_from 68 = .ok (.iload_n 1, 1) := by decide +kernel
theorem dX1_from_69 : decode cX1_from 69 = .ok (.iconst 1, 1) := by decide +kernel
theorem dX1_from_70 : decode cX1_from 70 = .ok (.iadd, 1) := by decide +kernel
theorem dX1_from_71 : decode cX1_from 71 = .ok (.imul, 1) := by decide +kernel
theorem dX1_from_72 : decode cX1_from 72 = .ok (.iload_n 2, 1) := by decide +kernel
theorem dX1_from_73 : decode cX1_from 73 = .ok (.iadd, 1) := by decide +kernel
theorem dX1_from_74 : decode cX1_from 74 = .ok (.aload_n 0, 1) := by decide +kernel
theorem dX1_from_75 : decode cX1_from 75 = .ok (.getfield 9, 3) := by decide +kernel
theorem dX1_from_78 : decode cX1_from 78 = .ok (.bipush 6, 2) := by decide +kernel
theorem dX1_from_80 : decode cX1_from 80 = .ok (.iload_n 1, 1) := by decide +kernel
theorem dX1_from_81 : decode cX1_from 81 = .ok (.imul, 1) := by decide +kernel
theorem dX1_from_82 : decode cX1_from 82 = .ok (.iload_n 2, 1) := by decide +kernel
theorem dX1_from_83 : decode cX1_from 83 = .ok (.iadd, 1) := by decide +kernel
theorem dX1_from_84 : decode cX1_from 84 = .ok (.iaload, 1) := by decide +kernel
theorem dX1_from_85 : decode cX1_from 85 = .ok (.iastore, 1) := by decide +kernel
theorem dX1_from_86 : decode cX1_from 86 = .ok (.iinc 2 1, 3) := by decide +kernel
theorem dX1_from_89 : decode cX1_from 89 = .ok (.goto (-33), 3) := by decide +kernel
theorem dX1_from_92 : decode cX1_from 92 = .ok (.aload_n 0, 1) := by decide +kernel
theorem dX1_from_93 : decode cX1_from 93 = .ok (.iload_n 1, 1) := by decide +kernel
theorem dX1_from_94 : decode cX1_from 94 = .ok (.iconst 5, 1) := by decide +kernel
theorem dX1_from_95 : decode cX1_from 95 = .ok (.aload_n 0, 1) := by decide +kernel
theorem dX1_from_96 : decode cX1_from 96 = .ok (.getfield 15, 3) := by decide +kernel
theorem dX1_from_99 : decode cX1_from 99 = .ok (.iload_n 1, 1) := by decide +kernel
theorem dX1_from_100 : decode cX1_from 100 = .ok (.iaload, 1) := by decide +kernel
theorem dX1_from_101 : decode cX1_from 101 = .ok (.invokevirtual 22, 3) := by decide +kernel
theorem dX1_from_104 : decode cX1_from 104 = .ok (.lreturn, 1) := by decide +kernel
abbrev cX1_take : ByteArray := prog_2_method_4_code
def yX1_take : MethodName := ⟨RX1, "take", "(III)J"⟩
theorem dX1_take_0 : decode cX1_take 0 = .ok (.iload_n 2, 1) := by decide +kernel
theorem dX1_take_1 : decode cX1_take 1 = .ok (.ifCond .ne 19, 3) := by decide +kernel
theorem dX1_take_4 : decode cX1_take 4 = .ok (.iload_n 3, 1) := by decide +kernel
theorem dX1_take_5 : decode cX1_take 5 = .ok (.ifCond .ne 13, 3) := by decide +kernel
theorem dX1_take_8 : decode cX1_take 8 = .ok (.aload_n 0, 1) := by decide +kernel
theorem dX1_take_9 : decode cX1_take 9 = .ok (.iload_n 1, 1) := by decide +kernel
theorem dX1_take_10 : decode cX1_take 10 = .ok (.iconst 1, 1) := by decide +kernel
theorem dX1_take_11 : decode cX1_take 11 = .ok (.iadd, 1) := by decide +kernel
theorem dX1_take_12 : decode cX1_take 12 = .ok (.invokevirtual 26, 3) := by decide +kernel
theorem dX1_take_15 : decode cX1_take 15 = .ok (.goto 4, 3) := by decide +kernel
theorem dX1_take_18 : decode cX1_take 18 = .ok (.lconst 0, 1) := by decide +kernel
theorem dX1_take_19 : decode cX1_take 19 = .ok (.lreturn, 1) := by decide +kernel
theorem dX1_take_20 : decode cX1_take 20 = .ok (.lconst 0, 1) := by decide +kernel
theorem dX1_take_21 : decode cX1_take 21 = .ok (.lstore 4, 2) := by decide +kernel
theorem dX1_take_23 : decode cX1_take 23 = .ok (.bipush 6, 2) := by decide +kernel
theorem dX1_take_25 : decode cX1_take 25 = .ok (.iload_n 1, 1) := by decide +kernel
theorem dX1_take_26 : decode cX1_take 26 = .ok (.iconst 1, 1) := by decide +kernel
theorem dX1_take_27 : decode cX1_take 27 = .ok (.iadd, 1) := by decide +kernel
theorem dX1_take_28 : decode cX1_take 28 = .ok (.imul, 1) := by decide +kernel
theorem dX1_take_29 : decode cX1_take 29 = .ok (.iload_n 2, 1) := by decide +kernel
theorem dX1_take_30 : decode cX1_take 30 = .ok (.iadd, 1) := by decide +kernel
theorem dX1_take_31 : decode cX1_take 31 = .ok (.istore 6, 2) := by decide +kernel
theorem dX1_take_33 : decode cX1_take 33 = .ok (.aload_n 0, 1) := by decide +kernel
theorem dX1_take_34 : decode cX1_take 34 = .ok (.getfield 9, 3) := by decide +kernel
theorem dX1_take_37 : decode cX1_take 37 = .ok (.bipush 6, 2) := by decide +kernel
theorem dX1_take_39 : decode cX1_take 39 = .ok (.iload_n 1, 1) := by decide +kernel
theorem dX1_take_40 : decode cX1_take 40 = .ok (.imul, 1) := by decide +kernel
theorem dX1_take_41 : decode cX1_take 41 = .ok (.iload_n 2, 1) := by decide +kernel
theorem dX1_take_42 : decode cX1_take 42 = .ok (.iadd, 1) := by decide +kernel
theorem dX1_take_43 : decode cX1_take 43 = .ok (.iaload, 1) := by decide +kernel
theorem dX1_take_44 : decode cX1_take 44 = .ok (.istore 7, 2) := by decide +kernel
theorem dX1_take_46 : decode cX1_take 46 = .ok (.iconst 0, 1) := by decide +kernel
theorem dX1_take_47 : decode cX1_take 47 = .ok (.istore 8, 2) := by decide +kernel
theorem dX1_take_49 : decode cX1_take 49 = .ok (.iload 8, 2) := by decide +kernel
theorem dX1_take_51 : decode cX1_take 51 = .ok (.iload 7, 2) := by decide +kernel
theorem dX1_take_53 : decode cX1_take 53 = .ok (.if_icmp .gt 174, 3) := by decide +kernel
theorem dX1_take_56 : decode cX1_take 56 = .ok (.iload 8, 2) := by decide +kernel
theorem dX1_take_58 : decode cX1_take 58 = .ok (.iload_n 3, 1) := by decide +kernel
theorem dX1_take_59 : decode cX1_take 59 = .ok (.if_icmp .gt 168, 3) := by decide +kernel
theorem dX1_take_62 : decode cX1_take 62 = .ok (.aload_n 0, 1) := by decide +kernel
theorem dX1_take_63 : decode cX1_take 63 = .ok (.getfield 9, 3) := by decide +kernel
theorem dX1_take_66 : decode cX1_take 66 = .ok (.iload 6, 2) := by decide +kernel
theorem dX1_take_68 : decode cX1_take 68 = .ok (.dup2, 1) := by decide +kernel
theorem dX1_take_69 : decode cX1_take 69 = .ok (.iaload, 1) := by decide +kernel
theorem dX1_take_70 : decode cX1_take 70 = .ok (.iload 8, 2) := by decide +kernel
theorem dX1_take_72 : decode cX1_take 72 = .ok (.isub, 1) := by decide +kernel
theorem dX1_take_73 : decode cX1_take 73 = .ok (.iastore, 1) := by decide +kernel
theorem dX1_take_74 : decode cX1_take 74 = .ok (.aload_n 0, 1) := by decide +kernel
theorem dX1_take_75 : decode cX1_take 75 = .ok (.getfield 9, 3) := by decide +kernel
theorem dX1_take_78 : decode cX1_take 78 = .ok (.iload 6, 2) := by decide +kernel
theorem dX1_take_80 : decode cX1_take 80 = .ok (.iconst 1, 1) := by decide +kernel
theorem dX1_take_81 : decode cX1_take 81 = .ok (.isub, 1) := by decide +kernel
theorem dX1_take_82 : decode cX1_take 82 = .ok (.dup2, 1) := by decide +kernel
theorem dX1_take_83 : decode cX1_take 83 = .ok (.iaload, 1) := by decide +kernel
theorem dX1_take_84 : decode cX1_take 84 = .ok (.iload 8, 2) := by decide +kernel
theorem dX1_take_86 : decode cX1_take 86 = .ok (.iadd, 1) := by decide +kernel
theorem dX1_take_87 : decode cX1_take 87 = .ok (.iastore, 1) := by decide +kernel
theorem dX1_take_88 : decode cX1_take 88 = .ok (.bipush 6, 2) := by decide +kernel
theorem dX1_take_90 : decode cX1_take 90 = .ok (.iload_n 1, 1) := by decide +kernel
theorem dX1_take_91 : decode cX1_take 91 = .ok (.iconst 1, 1) := by decide +kernel
theorem dX1_take_92 : decode cX1_take 92 = .ok (.iadd, 1) := by decide +kernel
theorem dX1_take_93 : decode cX1_take 93 = .ok (.imul, 1) := by decide +kernel
theorem dX1_take_94 : decode cX1_take 94 = .ok (.istore 9, 2) := by decide +kernel
theorem dX1_take_96 : decode cX1_take 96 = .ok (.lconst 0, 1) := by decide +kernel
theorem dX1_take_97 : decode cX1_take 97 = .ok (.lstore 10, 2) := by decide +kernel
theorem dX1_take_99 : decode cX1_take 99 = .ok (.iconst 0, 1) := by decide +kernel
theorem dX1_take_100 : decode cX1_take 100 = .ok (.istore 12, 2) := by decide +kernel
theorem dX1_take_102 : decode cX1_take 102 = .ok (.iload 12, 2) := by decide +kernel
theorem dX1_take_104 : decode cX1_take 104 = .ok (.bipush 6, 2) := by decide +kernel
theorem dX1_take_106 : decode cX1_take 106 = .ok (.if_icmp .ge 27, 3) := by decide +kernel
theorem dX1_take_109 : decode cX1_take 109 = .ok (.lload 10, 2) := by decide +kernel
theorem dX1_take_111 : decode cX1_take 111 = .ok (.iconst 4, 1) := by decide +kernel
theorem dX1_take_112 : decode cX1_take 112 = .ok (.lshl, 1) := by decide +kernel
theorem dX1_take_113 : decode cX1_take 113 = .ok (.aload_n 0, 1) := by decide +kernel
theorem dX1_take_114 : decode cX1_take 114 = .ok (.getfield 9, 3) := by decide +kernel
theorem dX1_take_117 : decode cX1_take 117 = .ok (.iload 9, 2) := by decide +kernel
theorem dX1_take_119 : decode cX1_take 119 = .ok (.iload 12, 2) := by decide +kernel
theorem dX1_take_121 : decode cX1_take 121 = .ok (.iadd, 1) := by decide +kernel
theorem dX1_take_122 : decode cX1_take 122 = .ok (.iaload, 1) := by decide +kernel
theorem dX1_take_123 : decode cX1_take 123 = .ok (.i2l, 1) := by decide +kernel
theorem dX1_take_124 : decode cX1_take 124 = .ok (.lor, 1) := by decide +kernel
theorem dX1_take_125 : decode cX1_take 125 = .ok (.lstore 10, 2) := by decide +kernel
theorem dX1_take_127 : decode cX1_take 127 = .ok (.iinc 12 1, 3) := by decide +kernel
theorem dX1_take_130 : decode cX1_take 130 = .ok (.goto (-28), 3) := by decide +kernel
theorem dX1_take_133 : decode cX1_take 133 = .ok (.lload 4, 2) := by decide +kernel
theorem dX1_take_135 : decode cX1_take 135 = .ok (.iload 7, 2) := by decide +kernel
theorem dX1_take_137 : decode cX1_take 137 = .ok (.iload 8, 2) := by decide +kernel
theorem dX1_take_139 : decode cX1_take 139 = .ok (.invokestatic 30, 3) := by decide +kernel
theorem dX1_take_142 : decode cX1_take 142 = .ok (.aload_n 0, 1) := by decide +kernel
theorem dX1_take_143 : decode cX1_take 143 = .ok (.iload_n 1, 1) := by decide +kernel
theorem dX1_take_144 : decode cX1_take 144 = .ok (.iload_n 2, 1) := by decide +kernel
theorem dX1_take_145 : decode cX1_take 145 = .ok (.iconst 1, 1) := by decide +kernel
theorem dX1_take_146 : decode cX1_take 146 = .ok (.isub, 1) := by decide +kernel
theorem dX1_take_147 : decode cX1_take 147 = .ok (.iload_n 3, 1) := by decide +kernel
theorem dX1_take_148 : decode cX1_take 148 = .ok (.iload 8, 2) := by decide +kernel
theorem dX1_take_150 : decode cX1_take 150 = .ok (.isub, 1) := by decide +kernel
theorem dX1_take_151 : decode cX1_take 151 = .ok (.invokevirtual 22, 3) := by decide +kernel
theorem dX1_take_154 : decode cX1_take 154 = .ok (.lmul, 1) := by decide +kernel
theorem dX1_take_155 : decode cX1_take 155 = .ok (.ladd, 1) := by decide +kernel
theorem dX1_take_156 : decode cX1_take 156 = .ok (.lstore 4, 2) := by decide +kernel
theorem dX1_take_158 : decode cX1_take 158 = .ok (.iconst 5, 1) := by decide +kernel
theorem dX1_take_159 : decode cX1_take 159 = .ok (.istore 12, 2) := by decide +kernel
theorem dX1_take_161 : decode cX1_take 161 = .ok (.iload 12, 2) := by decide +kernel
theorem dX1_take_163 : decode cX1_take 163 = .ok (.ifCond .lt 32, 3) := by decide +kernel
theorem dX1_take_166 : decode cX1_take 166 = .ok (.aload_n 0, 1) := by decide +kernel
theorem dX1_take_167 : decode cX1_take 167 = .ok (.getfield 9, 3) := by decide +kernel
theorem dX1_take_170 : decode cX1_take 170 = .ok (.iload 9, 2) := by decide +kernel
theorem dX1_take_172 : decode cX1_take 172 = .ok (.iload 12, 2) := by decide +kernel
theorem dX1_take_174 : decode cX1_take 174 = .ok (.iadd, 1) := by decide +kernel
theorem dX1_take_175 : decode cX1_take 175 = .ok (.lload 10, 2) := by decide +kernel
theorem dX1_take_177 : decode cX1_take 177 = .ok (.ldc2_w 34, 3) := by decide +kernel
theorem dX1_take_180 : decode cX1_take 180 = .ok (.land, 1) := by decide +kernel
theorem dX1_take_181 : decode cX1_take 181 = .ok (.l2i, 1) := by decide +kernel
theorem dX1_take_182 : decode cX1_take 182 = .ok (.iastore, 1) := by decide +kernel
theorem dX1_take_183 : decode cX1_take 183 = .ok (.lload 10, 2) := by decide +kernel
theorem dX1_take_185 : decode cX1_take 185 = .ok (.iconst 4, 1) := by decide +kernel
theorem dX1_take_186 : decode cX1_take 186 = .ok (.lshr, 1) := by decide +kernel
theorem dX1_take_187 : decode cX1_take 187 = .ok (.lstore 10, 2) := by decide +kernel
theorem dX1_take_189 : decode cX1_take 189 = .ok (.iinc 12 (-1), 3) := by decide +kernel
theorem dX1_take_192 : decode cX1_take 192 = .ok (.goto (-31), 3) := by decide +kernel
theorem dX1_take_195 : decode cX1_take 195 = .ok (.aload_n 0, 1) := by decide +kernel
theorem dX1_take_196 : decode cX1_take 196 = .ok (.getfield 9, 3) := by decide +kernel
theorem dX1_take_199 : decode cX1_take 199 = .ok (.iload 6, 2) := by decide +kernel
theorem dX1_take_201 : decode cX1_take 201 = .ok (.dup2, 1) := by decide +kernel
theorem dX1_take_202 : decode cX1_take 202 = .ok (.iaload, 1) := by decide +kernel
theorem dX1_take_203 : decode cX1_take 203 = .ok (.iload 8, 2) := by decide +kernel
theorem dX1_take_205 : decode cX1_take 205 = .ok (.iadd, 1) := by decide +kernel
theorem dX1_take_206 : decode cX1_take 206 = .ok (.iastore, 1) := by decide +kernel
theorem dX1_take_207 : decode cX1_take 207 = .ok (.aload_n 0, 1) := by decide +kernel
theorem dX1_take_208 : decode cX1_take 208 = .ok (.getfield 9, 3) := by decide +kernel
theorem dX1_take_211 : decode cX1_take 211 = .ok (.iload 6, 2) := by decide +kernel
theorem dX1_take_213 : decode cX1_take 213 = .ok (.iconst 1, 1) := by decide +kernel
theorem dX1_take_214 : decode cX1_take 214 = .ok (.isub, 1) := by decide +kernel
theorem dX1_take_215 : decode cX1_take 215 = .ok (.dup2, 1) := by decide +kernel
theorem dX1_take_216 : decode cX1_take 216 = .ok (.iaload, 1) := by decide +kernel
theorem dX1_take_217 : decode cX1_take 217 = .ok (.iload 8, 2) := by decide +kernel
theorem dX1_take_219 : decode cX1_take 219 = .ok (.isub, 1) := by decide +kernel
theorem dX1_take_220 : decode cX1_take 220 = .ok (.iastore, 1) := by decide +kernel
theorem dX1_take_221 : decode cX1_take 221 = .ok (.iinc 8 1, 3) := by decide +kernel
theorem dX1_take_224 : decode cX1_take 224 = .ok (.goto (-175), 3) := by decide +kernel
theorem dX1_take_227 : decode cX1_take 227 = .ok (.lload 4, 2) := by decide +kernel
theorem dX1_take_229 : decode cX1_take 229 = .ok (.lreturn, 1) := by decide +kernel
abbrev cX1_ways : ByteArray := prog_2_method_2_code
def yX1_ways : MethodName := ⟨RX1, "ways", "(II)J"⟩
theorem dX1_ways_0 : decode cX1_ways 0 = .ok (.lconst 1, 1) := by decide +kernel
theorem dX1_ways_1 : decode cX1_ways 1 = .ok (.lstore_n 2, 1) := by decide +kernel
theorem dX1_ways_2 : decode cX1_ways 2 = .ok (.iconst 1, 1) := by decide +kernel
theorem dX1_ways_3 : decode cX1_ways 3 = .ok (.istore 4, 2) := by decide +kernel
theorem dX1_ways_5 : decode cX1_ways 5 = .ok (.iload 4, 2) := by decide +kernel
theorem dX1_ways_7 : decode cX1_ways 7 = .ok (.iload_n 1, 1) := by decide +kernel
theorem dX1_ways_8 : decode cX1_ways 8 = .ok (.if_icmp .gt 23, 3) := by decide +kernel
theorem dX1_ways_11 : decode cX1_ways 11 = .ok (.lload_n 2, 1) := by decide +kernel
theorem dX1_ways_12 : decode cX1_ways 12 = .ok (.iload_n 0, 1) := by decide +kernel
theorem dX1_ways_13 : decode cX1_ways 13 = .ok (.iload_n 1, 1) := by decide +kernel
theorem dX1_ways_14 : decode cX1_ways 14 = .ok (.isub, 1) := by decide +kernel
theorem dX1_ways_15 : decode cX1_ways 15 = .ok (.iload 4, 2) := by decide +kernel
theorem dX1_ways_17 : decode cX1_ways 17 = .ok (.iadd, 1) := by decide +kernel
theorem dX1_ways_18 : decode cX1_ways 18 = .ok (.i2l, 1) := by decide +kernel
theorem dX1_ways_19 : decode cX1_ways 19 = .ok (.lmul, 1) := by decide +kernel
theorem dX1_ways_20 : decode cX1_ways 20 = .ok (.iload 4, 2) := by decide +kernel
theorem dX1_ways_22 : decode cX1_ways 22 = .ok (.i2l, 1) := by decide +kernel
theorem dX1_ways_23 : decode cX1_ways 23 = .ok (.ldiv, 1) := by decide +kernel
theorem dX1_ways_24 : decode cX1_ways 24 = .ok (.lstore_n 2, 1) := by decide +kernel
theorem dX1_ways_25 : decode cX1_ways 25 = .ok (.iinc 4 1, 3) := by decide +kernel
theorem dX1_ways_28 : decode cX1_ways 28 = .ok (.goto (-23), 3) := by decide +kernel
theorem dX1_ways_31 : decode cX1_ways 31 = .ok (.lload_n 2, 1) := by decide +kernel
theorem dX1_ways_32 : decode cX1_ways 32 = .ok (.lreturn, 1) := by decide +kernel
theorem q5 : (Jvm.Cond.initialized "MarginDesk$Needs") ∈ lw_all := lw_g (lw_at lw_m0 2 rfl) rfl
theorem q17 : (Jvm.Cond.instantiable "MarginDesk$Needs" (3 : Nat)) ∈ lw_all := lw_g (lw_at lw_m0 14 rfl) rfl
theorem q19 : (Jvm.Cond.instanceMethod ({ cls := "MarginDesk$Needs", name := "<init>", desc := "()V" } : Jvm.MethodName)) ∈ lw_all := lw_g (lw_at lw_m0 16 rfl) rfl
theorem q20 : (Jvm.Cond.code ({ cls := "MarginDesk$Needs", name := "<init>", desc := "()V" } : Jvm.MethodName) prog_2_method_1_code (1 : Nat) (Option.none : Option Jvm.ClassFile.FieldType)) ∈ lw_all := lw_g (lw_at lw_m0 17 rfl) rfl
theorem q21 : (Jvm.Cond.methodLink "MarginDesk$Needs" (3 : Nat) ({ cls := "java/lang/Object", name := "<init>", desc := "()V" } : Jvm.MethodName)) ∈ lw_all := lw_g (lw_at lw_m0 18 rfl) rfl
theorem q22 : (Jvm.Cond.fieldLink "MarginDesk$Needs" (9 : Nat) "MarginDesk$Needs" "have" "[I") ∈ lw_all := lw_g (lw_at lw_m0 19 rfl) rfl
theorem q23 : (Jvm.Cond.fieldLink "MarginDesk$Needs" (15 : Nat) "MarginDesk$Needs" "rows" "[I") ∈ lw_all := lw_g (lw_at lw_m0 20 rfl) rfl
theorem q24 : (Jvm.Cond.fieldLink "MarginDesk$Needs" (18 : Nat) "MarginDesk$Needs" "n" "I") ∈ lw_all := lw_g (lw_at lw_m0 21 rfl) rfl
theorem q25 : (Jvm.Cond.laysFinal "MarginDesk$Needs" "MarginDesk$Needs" "have" "[I") ∈ lw_all := lw_g (lw_at lw_m0 22 rfl) rfl
theorem q26 : (Jvm.Cond.soleField "MarginDesk$Needs" "have") ∈ lw_all := lw_g (lw_at lw_m0 23 rfl) rfl
theorem q27 : (Jvm.Cond.laysFinal "MarginDesk$Needs" "MarginDesk$Needs" "rows" "[I") ∈ lw_all := lw_g (lw_at lw_m0 24 rfl) rfl
theorem q28 : (Jvm.Cond.soleField "MarginDesk$Needs" "rows") ∈ lw_all := lw_g (lw_at lw_m0 25 rfl) rfl
theorem q29 : (Jvm.Cond.lays "MarginDesk$Needs" "MarginDesk$Needs" "n" "I") ∈ lw_all := lw_g (lw_at lw_m0 26 rfl) rfl
theorem q30 : (Jvm.Cond.soleField "MarginDesk$Needs" "n") ∈ lw_all := lw_g (lw_at lw_m0 27 rfl) rfl
theorem q31 : (Jvm.Cond.superclass "MarginDesk$Needs" "java/lang/Object") ∈ lw_all := lw_g (lw_at lw_m0 28 rfl) rfl
theorem q70 : (Jvm.Cond.instanceMethod ({ cls := "MarginDesk$Needs", name := "count", desc := "([II[II)J" } : Jvm.MethodName)) ∈ lw_all := lw_g (lw_at lw_m0 67 rfl) rfl
theorem q71 : (Jvm.Cond.selects "MarginDesk$Needs" ({ cls := "MarginDesk$Needs", name := "count", desc := "([II[II)J" } : Jvm.MethodName) ({ cls := "MarginDesk$Needs", name := "count", desc := "([II[II)J" } : Jvm.MethodName)) ∈ lw_all := lw_g (lw_at lw_m0 68 rfl) rfl
theorem q72 : (Jvm.Cond.code ({ cls := "MarginDesk$Needs", name := "count", desc := "([II[II)J" } : Jvm.MethodName) prog_2_method_5_code (6 : Nat) (Option.some Jvm.ClassFile.FieldType.long)) ∈ lw_all := lw_g (lw_at lw_m0 69 rfl) rfl
theorem q73 : (Jvm.Cond.methodLink "MarginDesk$Needs" (26 : Nat) ({ cls := "MarginDesk$Needs", name := "from", desc := "(I)J" } : Jvm.MethodName)) ∈ lw_all := lw_g (lw_at lw_m0 70 rfl) rfl
theorem q74 : (Jvm.Cond.privateMethod ({ cls := "MarginDesk$Needs", name := "from", desc := "(I)J" } : Jvm.MethodName)) ∈ lw_tbl := lw_at lw_m0 71 rfl
theorem q75 : (Jvm.Cond.instanceMethod ({ cls := "MarginDesk$Needs", name := "from", desc := "(I)J" } : Jvm.MethodName)) ∈ lw_all := lw_g (lw_at lw_m0 72 rfl) rfl
theorem q76 : (Jvm.Cond.code ({ cls := "MarginDesk$Needs", name := "from", desc := "(I)J" } : Jvm.MethodName) prog_2_method_3_code (5 : Nat) (Option.some Jvm.ClassFile.FieldType.long)) ∈ lw_all := lw_g (lw_at lw_m0 73 rfl) rfl
theorem q77 : (Jvm.Cond.methodLink "MarginDesk$Needs" (22 : Nat) ({ cls := "MarginDesk$Needs", name := "take", desc := "(III)J" } : Jvm.MethodName)) ∈ lw_all := lw_g (lw_at lw_m0 74 rfl) rfl
theorem q78 : (Jvm.Cond.privateMethod ({ cls := "MarginDesk$Needs", name := "take", desc := "(III)J" } : Jvm.MethodName)) ∈ lw_tbl := lw_at lw_m0 75 rfl
theorem q79 : (Jvm.Cond.instanceMethod ({ cls := "MarginDesk$Needs", name := "take", desc := "(III)J" } : Jvm.MethodName)) ∈ lw_all := lw_g (lw_at lw_m0 76 rfl) rfl
theorem q80 : (Jvm.Cond.code ({ cls := "MarginDesk$Needs", name := "take", desc := "(III)J" } : Jvm.MethodName) prog_2_method_4_code (13 : Nat) (Option.some Jvm.ClassFile.FieldType.long)) ∈ lw_all := lw_g (lw_at lw_m0 77 rfl) rfl
theorem q81 : (Jvm.Cond.methodLink "MarginDesk$Needs" (30 : Nat) ({ cls := "MarginDesk$Needs", name := "ways", desc := "(II)J" } : Jvm.MethodName)) ∈ lw_all := lw_g (lw_at lw_m0 78 rfl) rfl
theorem q82 : (Jvm.Cond.static ({ cls := "MarginDesk$Needs", name := "ways", desc := "(II)J" } : Jvm.MethodName)) ∈ lw_all := lw_g (lw_at lw_m0 79 rfl) rfl
theorem q83 : (Jvm.Cond.code ({ cls := "MarginDesk$Needs", name := "ways", desc := "(II)J" } : Jvm.MethodName) prog_2_method_2_code (5 : Nat) (Option.some Jvm.ClassFile.FieldType.long)) ∈ lw_all := lw_g (lw_at lw_m0 80 rfl) rfl
theorem q84 : (Jvm.Cond.constantLong "MarginDesk$Needs" (34 : Nat) (15 : Int64)) ∈ lw_all := lw_g (lw_at lw_m0 81 rfl) rfl
theorem in_X1 : ∀ w ∈ wsX10, w ∈ lw_all := lw_in wsX10 [25, 27, 29] (by decide +kernel) (by decide +kernel)
end
section
/-! MarginDesk -/
set_option maxRecDepth 100000
def RX0 : String := "MarginDesk"
def TX0 : u_T := fun k => match k with
  | 0 => ("MarginDesk", "row", "[I", true)
  | 1 => ("MarginDesk", "column", "[I", true)
  | 2 => ("MarginDesk", "sorted", "[I", true)
  | 3 => ("MarginDesk", "needs", "LMarginDesk$Needs;", true)
  | 4 => ("MarginDesk", "n", "I", false)
  | _ => ("MarginDesk", "m", "I", false)
def tyX0 : Nat → FieldType := fun k => match k with
  | 0 => .array .int
  | 1 => .array .int
  | 2 => .array .int
  | 3 => .object "MarginDesk$Needs"
  | 4 => .int
  | _ => .int
abbrev wsX00 : List Cond := u_ws RX0 TX0 6
theorem nmX0 : ∀ a, a < 6 → ∀ b, b < 6 → a ≠ b → (TX0 a).2.1 ≠ (TX0 b).2.1 := by decide +kernel
theorem tyX0_ok : ∀ k, k < 6 → parseFieldDescriptor (TX0 k).2.2.1 = some (tyX0 k) := by decide +kernel
abbrev cX0_init : ByteArray := prog_1_method_1_code
def yX0_init : MethodName := ⟨RX0, "<init>", "()V"⟩
theorem dX0_init_0 : decode cX0_init 0 = .ok (.aload_n 0, 1) := by decide +kernel
theorem dX0_init_1 : decode cX0_init 1 = .ok (.invokespecial 1, 3) := by decide +kernel
theorem dX0_init_4 : decode cX0_init 4 = .ok (.aload_n 0, 1) := by decide +kernel
theorem dX0_init_5 : decode cX0_init 5 = .ok (.iconst 5, 1) := by decide +kernel
theorem dX0_init_6 : decode cX0_init 6 = .ok (.newarray .int, 2) := by decide +kernel
theorem dX0_init_8 : decode cX0_init 8 = .ok (.putfield 9, 3) := by decide +kernel
theorem dX0_init_11 : decode cX0_init 11 = .ok (.aload_n 0, 1) := by decide +kernel
theorem dX0_init_12 : decode cX0_init 12 = .ok (.iconst 5, 1) := by decide +kernel
theorem dX0_init_13 : decode cX0_init 13 = .ok (.newarray .int, 2) := by decide +kernel
theorem dX0_init_15 : decode cX0_init 15 = .ok (.putfield 13, 3) := by decide +kernel
theorem dX0_init_18 : decode cX0_init 18 = .ok (.aload_n 0, 1) := by decide +kernel
theorem dX0_init_19 : decode cX0_init 19 = .ok (.iconst 5, 1) := by decide +kernel
theorem dX0_init_20 : decode cX0_init 20 = .ok (.newarray .int, 2) := by decide +kernel
theorem dX0_init_22 : decode cX0_init 22 = .ok (.putfield 16, 3) := by decide +kernel
theorem dX0_init_25 : decode cX0_init 25 = .ok (.aload_n 0, 1) := by decide +kernel
theorem dX0_init_26 : decode cX0_init 26 = .ok (.new 19, 3) := by decide +kernel
theorem dX0_init_29 : decode cX0_init 29 = .ok (.dup, 1) := by decide +kernel
theorem dX0_init_30 : decode cX0_init 30 = .ok (.invokespecial 21, 3) := by decide +kernel
theorem dX0_init_33 : decode cX0_init 33 = .ok (.putfield 22, 3) := by decide +kernel
theorem dX0_init_36 : decode cX0_init 36 = .ok (.aload_n 0, 1) := by decide +kernel
theorem dX0_init_37 : decode cX0_init 37 = .ok (.iconst 3, 1) := by decide +kernel
theorem dX0_init_38 : decode cX0_init 38 = .ok (.putfield 26, 3) := by decide +kernel
theorem dX0_init_41 : decode cX0_init 41 = .ok (.aload_n 0, 1) := by decide +kernel
theorem dX0_init_42 : decode cX0_init 42 = .ok (.iconst 3, 1) := by decide +kernel
theorem dX0_init_43 : decode cX0_init 43 = .ok (.putfield 30, 3) := by decide +kernel
theorem dX0_init_46 : decode cX0_init 46 = .ok (.return_, 1) := by decide +kernel
abbrev cX0_size : ByteArray := prog_1_method_2_code
def yX0_size : MethodName := ⟨RX0, "size", "(II)V"⟩
theorem dX0_size_0 : decode cX0_size 0 = .ok (.aload_n 0, 1) := by decide +kernel
theorem dX0_size_1 : decode cX0_size 1 = .ok (.iconst 1, 1) := by decide +kernel
theorem dX0_size_2 : decode cX0_size 2 = .ok (.iload_n 1, 1) := by decide +kernel
theorem dX0_size_3 : decode cX0_size 3 = .ok (.ldc 33, 2) := by decide +kernel
theorem dX0_size_5 : decode cX0_size 5 = .ok (.iand, 1) := by decide +kernel
theorem dX0_size_6 : decode cX0_size 6 = .ok (.iconst 5, 1) := by decide +kernel
theorem dX0_size_7 : decode cX0_size 7 = .ok (.irem, 1) := by decide +kernel
theorem dX0_size_8 : decode cX0_size 8 = .ok (.iadd, 1) := by decide +kernel
theorem dX0_size_9 : decode cX0_size 9 = .ok (.putfield 26, 3) := by decide +kernel
theorem dX0_size_12 : decode cX0_size 12 = .ok (.aload_n 0, 1) := by decide +kernel
theorem dX0_size_13 : decode cX0_size 13 = .ok (.iconst 1, 1) := by decide +kernel
theorem dX0_size_14 : decode cX0_size 14 = .ok (.iload_n 2, 1) := by decide +kernel
theorem dX0_size_15 : decode cX0_size 15 = .ok (.ldc 33, 2) := by decide +kernel
theorem dX0_size_17 : decode cX0_size 17 = .ok (.iand, 1) := by decide +kernel
theorem dX0_size_18 : decode cX0_size 18 = .ok (.iconst 5, 1) := by decide +kernel
theorem dX0_size_19 : decode cX0_size 19 = .ok (.irem, 1) := by decide +kernel
theorem dX0_size_20 : decode cX0_size 20 = .ok (.iadd, 1) := by decide +kernel
theorem dX0_size_21 : decode cX0_size 21 = .ok (.putfield 30, 3) := by decide +kernel
theorem dX0_size_24 : decode cX0_size 24 = .ok (.iconst 0, 1) := by decide +kernel
theorem dX0_size_25 : decode cX0_size 25 = .ok (.istore_n 3, 1) := by decide +kernel
theorem dX0_size_26 : decode cX0_size 26 = .ok (.iload_n 3, 1) := by decide +kernel
theorem dX0_size_27 : decode cX0_size 27 = .ok (.iconst 5, 1) := by decide +kernel
theorem dX0_size_28 : decode cX0_size 28 = .ok (.if_icmp .ge 23, 3) := by decide +kernel
theorem dX0_size_31 : decode cX0_size 31 = .ok (.aload_n 0, 1) := by decide +kernel
theorem dX0_size_32 : decode cX0_size 32 = .ok (.getfield 9, 3) := by decide +kernel
theorem dX0_size_35 : decode cX0_size 35 = .ok (.iload_n 3, 1) := by decide +kernel
theorem dX0_size_36 : decode cX0_size 36 = .ok (.iconst 0, 1) := by decide +kernel
theorem dX0_size_37 : decode cX0_size 37 = .ok (.iastore, 1) := by decide +kernel
theorem dX0_size_38 : decode cX0_size 38 = .ok (.aload_n 0, 1) := by decide +kernel
theorem dX0_size_39 : decode cX0_size 39 = .ok (.getfield 13, 3) := by decide +kernel
theorem dX0_size_42 : decode cX0_size 42 = .ok (.iload_n 3, 1) := by decide +kernel
theorem dX0_size_43 : decode cX0_size 43 = .ok (.iconst 0, 1) := by decide +kernel
theorem dX0_size_44 : decode cX0_size 44 = .ok (.iastore, 1) := by decide +kernel
theorem dX0_size_45 : decode cX0_size 45 = .ok (.iinc 3 1, 3) := by decide +kernel
theorem dX0_size_48 : decode cX0_size 48 = .ok (.goto (-22), 3) := by decide +kernel
theorem dX0_size_51 : decode cX0_size 51 = .ok (.return_, 1) := by decide +kernel
abbrev cX0_row : ByteArray := prog_1_method_3_code
def yX0_row : MethodName := ⟨RX0, "row", "(II)V"⟩
theorem dX0_row_0 : decode cX0_row 0 = .ok (.aload_n 0, 1) := by decide +kernel
theorem dX0_row_1 : decode cX0_row 1 = .ok (.getfield 9, 3) := by decide +kernel
theorem dX0_row_4 : decode cX0_row 4 = .ok (.iload_n 1, 1) := by decide +kernel
theorem dX0_row_5 : decode cX0_row 5 = .ok (.ldc 33, 2) := by decide +kernel
theorem dX0_row_7 : decode cX0_row 7 = .ok (.iand, 1) := by decide +kernel
theorem dX0_row_8 : decode cX0_row 8 = .ok (.aload_n 0, 1) := by decide +kernel
theorem dX0_row_9 : decode cX0_row 9 = .ok (.getfield 26, 3) := by decide +kernel
theorem dX0_row_12 : decode cX0_row 12 = .ok (.irem, 1) := by decide +kernel
theorem dX0_row_13 : decode cX0_row 13 = .ok (.iload_n 2, 1) := by decide +kernel
theorem dX0_row_14 : decode cX0_row 14 = .ok (.ldc 33, 2) := by decide +kernel
theorem dX0_row_16 : decode cX0_row 16 = .ok (.iand, 1) := by decide +kernel
theorem dX0_row_17 : decode cX0_row 17 = .ok (.bipush 6, 2) := by decide +kernel
theorem dX0_row_19 : decode cX0_row 19 = .ok (.irem, 1) := by decide +kernel
theorem dX0_row_20 : decode cX0_row 20 = .ok (.iastore, 1) := by decide +kernel
theorem dX0_row_21 : decode cX0_row 21 = .ok (.return_, 1) := by decide +kernel
abbrev cX0_column : ByteArray := prog_1_method_4_code
def yX0_column : MethodName := ⟨RX0, "column", "(II)V"⟩
theorem dX0_column_0 : decode cX0_column 0 = .ok (.aload_n 0, 1) := by decide +kernel
theorem dX0_column_1 : decode cX0_column 1 = .ok (.getfield 13, 3) := by decide +kernel
theorem dX0_column_4 : decode cX0_column 4 = .ok (.iload_n 1, 1) := by decide +kernel
theorem dX0_column_5 : decode cX0_column 5 = .ok (.ldc 33, 2) := by decide +kernel
theorem dX0_column_7 : decode cX0_column 7 = .ok (.iand, 1) := by decide +kernel
theorem dX0_column_8 : decode cX0_column 8 = .ok (.aload_n 0, 1) := by decide +kernel
theorem dX0_column_9 : decode cX0_column 9 = .ok (.getfield 30, 3) := by decide +kernel
theorem dX0_column_12 : decode cX0_column 12 = .ok (.irem, 1) := by decide +kernel
theorem dX0_column_13 : decode cX0_column 13 = .ok (.iload_n 2, 1) := by decide +kernel
theorem dX0_column_14 : decode cX0_column 14 = .ok (.ldc 33, 2) := by decide +kernel
theorem dX0_column_16 : decode cX0_column 16 = .ok (.iand, 1) := by decide +kernel
theorem dX0_column_17 : decode cX0_column 17 = .ok (.bipush 6, 2) := by decide +kernel
theorem dX0_column_19 : decode cX0_column 19 = .ok (.irem, 1) := by decide +kernel
theorem dX0_column_20 : decode cX0_column 20 = .ok (.iastore, 1) := by decide +kernel
theorem dX0_column_21 : decode cX0_column 21 = .ok (.return_, 1) := by decide +kernel
abbrev cX0_count : ByteArray := prog_1_method_5_code
def yX0_count : MethodName := ⟨RX0, "count", "()J"⟩
theorem dX0_count_0 : decode cX0_count 0 = .ok (.aload_n 0, 1) := by decide +kernel
theorem dX0_count_1 : decode cX0_count 1 = .ok (.getfield 22, 3) := by decide +kernel
theorem dX0_count_4 : decode cX0_count 4 = .ok (.aload_n 0, 1) := by decide +kernel
theorem dX0_count_5 : decode cX0_count 5 = .ok (.getfield 9, 3) := by decide +kernel
theorem dX0_count_8 : decode cX0_count 8 = .ok (.aload_n 0, 1) := by decide +kernel
theorem dX0_count_9 : decode cX0_count 9 = .ok (.getfield 26, 3) := by decide +kernel
theorem dX0_count_12 : decode cX0_count 12 = .ok (.aload_n 0, 1) := by decide +kernel
theorem dX0_count_13 : decode cX0_count 13 = .ok (.getfield 13, 3) := by decide +kernel
theorem dX0_count_16 : decode cX0_count 16 = .ok (.aload_n 0, 1) := by decide +kernel
theorem dX0_count_17 : decode cX0_count 17 = .ok (.getfield 30, 3) := by decide +kernel
theorem dX0_count_20 : decode cX0_count 20 = .ok (.invokevirtual 34, 3) := by decide +kernel
theorem dX0_count_23 : decode cX0_count 23 = .ok (.lreturn, 1) := by decide +kernel
abbrev cX0_any : ByteArray := prog_1_method_6_code
def yX0_any : MethodName := ⟨RX0, "any", "()Z"⟩
theorem dX0_any_0 : decode cX0_any 0 = .ok (.aload_n 0, 1) := by decide +kernel
theorem dX0_any_1 : decode cX0_any 1 = .ok (.invokevirtual 38, 3) := by decide +kernel
theorem dX0_any_4 : decode cX0_any 4 = .ok (.aload_n 0, 1) := by decide +kernel
theorem dX0_any_5 : decode cX0_any 5 = .ok (.invokevirtual 42, 3) := by decide +kernel
theorem dX0_any_8 : decode cX0_any 8 = .ok (.if_icmp .eq 5, 3) := by decide +kernel
theorem dX0_any_11 : decode cX0_any 11 = .ok (.iconst 0, 1) := by decide +kernel
theorem dX0_any_12 : decode cX0_any 12 = .ok (.ireturn, 1) := by decide +kernel
theorem dX0_any_13 : decode cX0_any 13 = .ok (.iconst 0, 1) := by decide +kernel
theorem dX0_any_14 : decode cX0_any 14 = .ok (.istore_n 1, 1) := by decide +kernel
theorem dX0_any_15 : decode cX0_any 15 = .ok (.iload_n 1, 1) := by decide +kernel
theorem dX0_any_16 : decode cX0_any 16 = .ok (.aload_n 0, 1) := by decide +kernel
theorem dX0_any_17 : decode cX0_any 17 = .ok (.getfield 30, 3) := by decide +kernel
theorem dX0_any_20 : decode cX0_any 20 = .ok (.if_icmp .ge 24, 3) := by decide +kernel
theorem dX0_any_23 : decode cX0_any 23 = .ok (.aload_n 0, 1) := by decide +kernel
theorem dX0_any_24 : decode cX0_any 24 = .ok (.getfield 13, 3) := by decide +kernel
theorem dX0_any_27 : decode cX0_any 27 = .ok (.iload_n 1, 1) := by decide +kernel
theorem dX0_any_28 : decode cX0_any 28 = .ok (.iaload, 1) := by decide +kernel
theorem dX0_any_29 : decode cX0_any 29 = .ok (.aload_n 0, 1) := by decide +kernel
theorem dX0_any_30 : decode cX0_any 30 = .ok (.getfield 26, 3) := by decide +kernel
theorem dX0_any_33 : decode cX0_any 33 = .ok (.if_icmp .le 5, 3) := by decide +kernel
theorem dX0_any_36 : decode cX0_any 36 = .ok (.iconst 0, 1) := by decide +kernel
theorem dX0_any_37 : decode cX0_any 37 = .ok (.ireturn, 1) := by decide +kernel
theorem dX0_any_38 : decode cX0_any 38 = .ok (.iinc 1 1, 3) := by decide +kernel
theorem dX0_any_41 : decode cX0_any 41 = .ok (.goto (-26), 3) := by decide +kernel
theorem dX0_any_44 : decode cX0_any 44 = .ok (.iconst 0, 1) := by decide +kernel
theorem dX0_any_45 : decode cX0_any 45 = .ok (.istore_n 1, 1) := by decide +kernel
theorem dX0_any_46 : decode cX0_any 46 = .ok (.iload_n 1, 1) := by decide +kernel
theorem dX0_any_47 : decode cX0_any 47 = .ok (.aload_n 0, 1) := by decide +kernel
theorem dX0_any_48 : decode cX0_any 48 = .ok (.getfield 26, 3) := by decide +kernel
theorem dX0_any_51 : decode cX0_any 51 = .ok (.if_icmp .ge 64, 3) := by decide +kernel
theorem dX0_any_54 : decode cX0_any 54 = .ok (.iload_n 1, 1) := by decide +kernel
theorem dX0_any_55 : decode cX0_any 55 = .ok (.istore_n 2, 1) := by decide +kernel
theorem dX0_any_56 : decode cX0_any 56 = .ok (.iload_n 2, 1) := by decide +kernel
theorem dX0_any_57 : decode cX0_any 57 = .ok (.ifCond .le 40, 3) := by decide +kernel
theorem dX0_any_60 : decode cX0_any 60 = .ok (.aload_n 0, 1) := by decide +kernel
theorem dX0_any_61 : decode cX0_any 61 = .ok (.getfield 16, 3) := by decide +kernel
theorem dX0_any_64 : decode cX0_any 64 = .ok (.iload_n 2, 1) := by decide +kernel
theorem dX0_any_65 : decode cX0_any 65 = .ok (.iconst 1, 1) := by decide +kernel
theorem dX0_any_66 : decode cX0_any 66 = .ok (.isub, 1) := by decide +kernel
theorem dX0_any_67 : decode cX0_any 67 = .ok (.iaload, 1) := by decide +kernel
theorem dX0_any_68 : decode cX0_any 68 = .ok (.aload_n 0, 1) := by decide +kernel
theorem dX0_any_69 : decode cX0_any 69 = .ok (.getfield 9, 3) := by decide +kernel
theorem dX0_any_72 : decode cX0_any 72 = .ok (.iload_n 1, 1) := by decide +kernel
theorem dX0_any_73 : decode cX0_any 73 = .ok (.iaload, 1) := by decide +kernel
theorem dX0_any_74 : decode cX0_any 74 = .ok (.if_icmp .ge 23, 3) := by decide +kernel
theorem dX0_any_77 : decode cX0_any 77 = .ok (.aload_n 0, 1) := by decide +kernel
theorem dX0_any_78 : decode cX0_any 78 = .ok (.getfield 16, 3) := by decide +kernel
theorem dX0_any_81 : decode cX0_any 81 = .ok (.iload_n 2, 1) := by decide +kernel
theorem dX0_any_82 : decode cX0_any 82 = .ok (.aload_n 0, 1) := by decide +kernel
theorem dX0_any_83 : decode cX0_any 83 = .ok (.getfield 16, 3) := by decide +kernel
theorem dX0_any_86 : decode cX0_any 86 = .ok (.iload_n 2, 1) := by decide +kernel
theorem dX0_any_87 : decode cX0_any 87 = .ok (.iconst 1, 1) := by decide +kernel
theorem dX0_any_88 : decode cX0_any 88 = .ok (.isub, 1) := by decide +kernel
theorem dX0_any_89 : decode cX0_any 89 = .ok (.iaload, 1) := by decide +kernel
theorem dX0_any_90 : decode cX0_any 90 = .ok (.iastore, 1) := by decide +kernel
theorem dX0_any_91 : decode cX0_any 91 = .ok (.iinc 2 (-1), 3) := by decide +kernel
theorem dX0_any_94 : decode cX0_any 94 = .ok (.goto (-38), 3) := by decide +kernel
theorem dX0_any_97 : decode cX0_any 97 = .ok (.aload_n 0, 1) := by decide +kernel
theorem dX0_any_98 : decode cX0_any 98 = .ok (.getfield 16, 3) := by decide +kernel
theorem dX0_any_101 : decode cX0_any 101 = .ok (.iload_n 2, 1) := by decide +kernel
theorem dX0_any_102 : decode cX0_any 102 = .ok (.aload_n 0, 1) := by decide +kernel
theorem dX0_any_103 : decode cX0_any 103 = .ok (.getfield 9, 3) := by decide +kernel
theorem dX0_any_106 : decode cX0_any 106 = .ok (.iload_n 1, 1) := by decide +kernel
theorem dX0_any_107 : decode cX0_any 107 = .ok (.iaload, 1) := by decide +kernel
theorem dX0_any_108 : decode cX0_any 108 = .ok (.iastore, 1) := by decide +kernel
theorem dX0_any_109 : decode cX0_any 109 = .ok (.iinc 1 1, 3) := by decide +kernel
theorem dX0_any_112 : decode cX0_any 112 = .ok (.goto (-66), 3) := by decide +kernel
theorem dX0_any_115 : decode cX0_any 115 = .ok (.iconst 0, 1) := by decide +kernel
theorem dX0_any_116 : decode cX0_any 116 = .ok (.istore_n 1, 1) := by decide +kernel
theorem dX0_any_117 : decode cX0_any 117 = .ok (.iconst 1, 1) := by decide +kernel
theorem dX0_any_118 : decode cX0_any 118 = .ok (.istore_n 2, 1) := by decide +kernel
theorem dX0_any_119 : decode cX0_any 119 = .ok (.iload_n 2, 1) := by decide +kernel
theorem dX0_any_120 : decode cX0_any 120 = .ok (.aload_n 0, 1) := by decide +kernel
theorem dX0_any_121 : decode cX0_any 121 = .ok (.getfield 26, 3) := by decide +kernel
theorem dX0_any_124 : decode cX0_any 124 = .ok (.if_icmp .gt 61, 3) := by decide +kernel
theorem dX0_any_127 : decode cX0_any 127 = .ok (.iload_n 1, 1) := by decide +kernel
theorem dX0_any_128 : decode cX0_any 128 = .ok (.aload_n 0, 1) := by decide +kernel
theorem dX0_any_129 : decode cX0_any 129 = .ok (.getfield 16, 3) := by decide +kernel
theorem dX0_any_132 : decode cX0_any 132 = .ok (.iload_n 2, 1) := by decide +kernel
theorem dX0_any_133 : decode cX0_any 133 = .ok (.iconst 1, 1) := by decide +kernel
theorem dX0_any_134 : decode cX0_any 134 = .ok (.isub, 1) := by decide +kernel
theorem dX0_any_135 : decode cX0_any 135 = .ok (.iaload, 1) := by decide +kernel
theorem dX0_any_136 : decode cX0_any 136 = .ok (.iadd, 1) := by decide +kernel
theorem dX0_any_137 : decode cX0_any 137 = .ok (.istore_n 1, 1) := by decide +kernel
theorem dX0_any_138 : decode cX0_any 138 = .ok (.iconst 0, 1) := by decide +kernel
theorem dX0_any_139 : decode cX0_any 139 = .ok (.istore_n 3, 1) := by decide +kernel
theorem dX0_any_140 : decode cX0_any 140 = .ok (.iconst 0, 1) := by decide +kernel
theorem dX0_any_141 : decode cX0_any 141 = .ok (.istore 4, 2) := by decide +kernel
theorem dX0_any_143 : decode cX0_any 143 = .ok (.iload 4, 2) := by decide +kernel
theorem dX0_any_145 : decode cX0_any 145 = .ok (.aload_n 0, 1) := by decide +kernel
theorem dX0_any_146 : decode cX0_any 146 = .ok (.getfield 30, 3) := by decide +kernel
theorem dX0_any_149 : decode cX0_any 149 = .ok (.if_icmp .ge 23, 3) := by decide +kernel
theorem dX0_any_152 : decode cX0_any 152 = .ok (.iload_n 3, 1) := by decide +kernel
theorem dX0_any_153 : decode cX0_any 153 = .ok (.aload_n 0, 1) := by decide +kernel
theorem dX0_any_154 : decode cX0_any 154 = .ok (.getfield 13, 3) := by decide +kernel
theorem dX0_any_157 : decode cX0_any 157 = .ok (.iload 4, 2) := by decide +kernel
theorem dX0_any_159 : decode cX0_any 159 = .ok (.iaload, 1) := by decide +kernel
theorem dX0_any_160 : decode cX0_any 160 = .ok (.iload_n 2, 1) := by decide +kernel
theorem dX0_any_161 : decode cX0_any 161 = .ok (.invokestatic 45, 3) := by decide +kernel
theorem dX0_any_164 : decode cX0_any 164 = .ok (.iadd, 1) := by decide +kernel
theorem dX0_any_165 : decode cX0_any 165 = .ok (.istore_n 3, 1) := by decide +kernel
theorem dX0_any_166 : decode cX0_any 166 = .ok (.iinc 4 1, 3) := by decide +kernel
theorem dX0_any_169 : decode cX0_any 169 = .ok (.goto (-26), 3) := by decide +kernel
theorem dX0_any_172 : decode cX0_any 172 = .ok (.iload_n 1, 1) := by decide +kernel
theorem dX0_any_173 : decode cX0_any 173 = .ok (.iload_n 3, 1) := by decide +kernel
theorem dX0_any_174 : decode cX0_any 174 = .ok (.if_icmp .le 5, 3) := by decide +kernel
theorem dX0_any_177 : decode cX0_any 177 = .ok (.iconst 0, 1) := by decide +kernel
theorem dX0_any_178 : decode cX0_any 178 = .ok (.ireturn, 1) := by decide +kernel
theorem dX0_any_179 : decode cX0_any 179 = .ok (.iinc 2 1, 3) := by decide +kernel
theorem dX0_any_182 : decode cX0_any 182 = .ok (.goto (-63), 3) := by decide +kernel
theorem dX0_any_185 : decode cX0_any 185 = .ok (.iconst 1, 1) := by decide +kernel
theorem dX0_any_186 : decode cX0_any 186 = .ok (.ireturn, 1) := by decide +kernel
abbrev cX0_rows : ByteArray := prog_1_method_8_code
def yX0_rows : MethodName := ⟨RX0, "rows", "()I"⟩
theorem dX0_rows_0 : decode cX0_rows 0 = .ok (.aload_n 0, 1) := by decide +kernel
theorem dX0_rows_1 : decode cX0_rows 1 = .ok (.getfield 9, 3) := by decide +kernel
theorem dX0_rows_4 : decode cX0_rows 4 = .ok (.aload_n 0, 1) := by decide +kernel
theorem dX0_rows_5 : decode cX0_rows 5 = .ok (.getfield 26, 3) := by decide +kernel
theorem dX0_rows_8 : decode cX0_rows 8 = .ok (.invokestatic 51, 3) := by decide +kernel
theorem dX0_rows_11 : decode cX0_rows 11 = .ok (.ireturn, 1) := by decide +kernel
abbrev cX0_sum : ByteArray := prog_1_method_7_code
def yX0_sum : MethodName := ⟨RX0, "sum", "([II)I"⟩
theorem dX0_sum_0 : decode cX0_sum 0 = .ok (.iconst 0, 1) := by decide +kernel
theorem dX0_sum_1 : decode cX0_sum 1 = .ok (.istore_n 2, 1) := by decide +kernel
theorem dX0_sum_2 : decode cX0_sum 2 = .ok (.iconst 0, 1) := by decide +kernel
theorem dX0_sum_3 : decode cX0_sum 3 = .ok (.istore_n 3, 1) := by decide +kernel
theorem dX0_sum_4 : decode cX0_sum 4 = .ok (.iload_n 3, 1) := by decide +kernel
theorem dX0_sum_5 : decode cX0_sum 5 = .ok (.iload_n 1, 1) := by decide +kernel
theorem dX0_sum_6 : decode cX0_sum 6 = .ok (.if_icmp .ge 15, 3) := by decide +kernel
theorem dX0_sum_9 : decode cX0_sum 9 = .ok (.iload_n 2, 1) := by decide +kernel
theorem dX0_sum_10 : decode cX0_sum 10 = .ok (.aload_n 0, 1) := by decide +kernel
theorem dX0_sum_11 : decode cX0_sum 11 = .ok (.iload_n 3, 1) := by decide +kernel
theorem dX0_sum_12 : decode cX0_sum 12 = .ok (.iaload, 1) := by decide +kernel
theorem dX0_sum_13 : decode cX0_sum 13 = .ok (.iadd, 1) := by decide +kernel
theorem dX0_sum_14 : decode cX0_sum 14 = .ok (.istore_n 2, 1) := by decide +kernel
theorem dX0_sum_15 : decode cX0_sum 15 = .ok (.iinc 3 1, 3) := by decide +kernel
theorem dX0_sum_18 : decode cX0_sum 18 = .ok (.goto (-14), 3) := by decide +kernel
theorem dX0_sum_21 : decode cX0_sum 21 = .ok (.iload_n 2, 1) := by decide +kernel
theorem dX0_sum_22 : decode cX0_sum 22 = .ok (.ireturn, 1) := by decide +kernel
abbrev cX0_columns : ByteArray := prog_1_method_9_code
def yX0_columns : MethodName := ⟨RX0, "columns", "()I"⟩
theorem dX0_columns_0 : decode cX0_columns 0 = .ok (.aload_n 0, 1) := by decide +kernel
theorem dX0_columns_1 : decode cX0_columns 1 = .ok (.getfield 13, 3) := by decide +kernel
theorem dX0_columns_4 : decode cX0_columns 4 = .ok (.aload_n 0, 1) := by decide +kernel
theorem dX0_columns_5 : decode cX0_columns 5 = .ok (.getfield 30, 3) := by decide +kernel
theorem dX0_columns_8 : decode cX0_columns 8 = .ok (.invokestatic 51, 3) := by decide +kernel
theorem dX0_columns_11 : decode cX0_columns 11 = .ok (.ireturn, 1) := by decide +kernel
theorem q4 : (Jvm.Cond.initialized "MarginDesk") ∈ lw_all := lw_g (lw_at lw_m0 1 rfl) rfl
theorem q9 : (Jvm.Cond.instantiable "MarginDesk" (6 : Nat)) ∈ lw_all := lw_g (lw_at lw_m0 6 rfl) rfl
theorem q11 : (Jvm.Cond.instanceMethod ({ cls := "MarginDesk", name := "<init>", desc := "()V" } : Jvm.MethodName)) ∈ lw_all := lw_g (lw_at lw_m0 8 rfl) rfl
theorem q12 : (Jvm.Cond.code ({ cls := "MarginDesk", name := "<init>", desc := "()V" } : Jvm.MethodName) prog_1_method_1_code (1 : Nat) (Option.none : Option Jvm.ClassFile.FieldType)) ∈ lw_all := lw_g (lw_at lw_m0 9 rfl) rfl
theorem q13 : (Jvm.Cond.methodLink "MarginDesk" (1 : Nat) ({ cls := "java/lang/Object", name := "<init>", desc := "()V" } : Jvm.MethodName)) ∈ lw_all := lw_g (lw_at lw_m0 10 rfl) rfl
theorem q16 : (Jvm.Cond.classLink "MarginDesk" (19 : Nat) "MarginDesk$Needs") ∈ lw_all := lw_g (lw_at lw_m0 13 rfl) rfl
theorem q18 : (Jvm.Cond.methodLinkNest "MarginDesk" (21 : Nat) ({ cls := "MarginDesk$Needs", name := "<init>", desc := "()V" } : Jvm.MethodName) "MarginDesk") ∈ lw_tbl := lw_at lw_m0 15 rfl
theorem q33 : (Jvm.Cond.fieldLink "MarginDesk" (9 : Nat) "MarginDesk" "row" "[I") ∈ lw_all := lw_g (lw_at lw_m0 30 rfl) rfl
theorem q34 : (Jvm.Cond.fieldLink "MarginDesk" (13 : Nat) "MarginDesk" "column" "[I") ∈ lw_all := lw_g (lw_at lw_m0 31 rfl) rfl
theorem q35 : (Jvm.Cond.fieldLink "MarginDesk" (16 : Nat) "MarginDesk" "sorted" "[I") ∈ lw_all := lw_g (lw_at lw_m0 32 rfl) rfl
theorem q36 : (Jvm.Cond.fieldLink "MarginDesk" (22 : Nat) "MarginDesk" "needs" "LMarginDesk$Needs;") ∈ lw_all := lw_g (lw_at lw_m0 33 rfl) rfl
theorem q37 : (Jvm.Cond.fieldLink "MarginDesk" (26 : Nat) "MarginDesk" "n" "I") ∈ lw_all := lw_g (lw_at lw_m0 34 rfl) rfl
theorem q38 : (Jvm.Cond.fieldLink "MarginDesk" (30 : Nat) "MarginDesk" "m" "I") ∈ lw_all := lw_g (lw_at lw_m0 35 rfl) rfl
theorem q39 : (Jvm.Cond.laysFinal "MarginDesk" "MarginDesk" "row" "[I") ∈ lw_all := lw_g (lw_at lw_m0 36 rfl) rfl
theorem q40 : (Jvm.Cond.soleField "MarginDesk" "row") ∈ lw_all := lw_g (lw_at lw_m0 37 rfl) rfl
theorem q41 : (Jvm.Cond.laysFinal "MarginDesk" "MarginDesk" "column" "[I") ∈ lw_all := lw_g (lw_at lw_m0 38 rfl) rfl
theorem q42 : (Jvm.Cond.soleField "MarginDesk" "column") ∈ lw_all := lw_g (lw_at lw_m0 39 rfl) rfl
theorem q43 : (Jvm.Cond.laysFinal "MarginDesk" "MarginDesk" "sorted" "[I") ∈ lw_all := lw_g (lw_at lw_m0 40 rfl) rfl
theorem q44 : (Jvm.Cond.soleField "MarginDesk" "sorted") ∈ lw_all := lw_g (lw_at lw_m0 41 rfl) rfl
theorem q45 : (Jvm.Cond.laysFinal "MarginDesk" "MarginDesk" "needs" "LMarginDesk$Needs;") ∈ lw_all := lw_g (lw_at lw_m0 42 rfl) rfl
theorem q46 : (Jvm.Cond.soleField "MarginDesk" "needs") ∈ lw_all := lw_g (lw_at lw_m0 43 rfl) rfl
theorem q47 : (Jvm.Cond.lays "MarginDesk" "MarginDesk" "n" "I") ∈ lw_all := lw_g (lw_at lw_m0 44 rfl) rfl
theorem q48 : (Jvm.Cond.soleField "MarginDesk" "n") ∈ lw_all := lw_g (lw_at lw_m0 45 rfl) rfl
theorem q49 : (Jvm.Cond.lays "MarginDesk" "MarginDesk" "m" "I") ∈ lw_all := lw_g (lw_at lw_m0 46 rfl) rfl
theorem q50 : (Jvm.Cond.soleField "MarginDesk" "m") ∈ lw_all := lw_g (lw_at lw_m0 47 rfl) rfl
theorem q51 : (Jvm.Cond.superclass "MarginDesk" "java/lang/Object") ∈ lw_all := lw_g (lw_at lw_m0 48 rfl) rfl
theorem q53 : (Jvm.Cond.instanceMethod ({ cls := "MarginDesk", name := "size", desc := "(II)V" } : Jvm.MethodName)) ∈ lw_all := lw_g (lw_at lw_m0 50 rfl) rfl
theorem q54 : (Jvm.Cond.selects "MarginDesk" ({ cls := "MarginDesk", name := "size", desc := "(II)V" } : Jvm.MethodName) ({ cls := "MarginDesk", name := "size", desc := "(II)V" } : Jvm.MethodName)) ∈ lw_all := lw_g (lw_at lw_m0 51 rfl) rfl
theorem q55 : (Jvm.Cond.code ({ cls := "MarginDesk", name := "size", desc := "(II)V" } : Jvm.MethodName) prog_1_method_2_code (4 : Nat) (Option.none : Option Jvm.ClassFile.FieldType)) ∈ lw_all := lw_g (lw_at lw_m0 52 rfl) rfl
theorem q56 : (Jvm.Cond.constant "MarginDesk" (33 : Nat) (2147483647 : Int32)) ∈ lw_all := lw_g (lw_at lw_m0 53 rfl) rfl
theorem q58 : (Jvm.Cond.instanceMethod ({ cls := "MarginDesk", name := "row", desc := "(II)V" } : Jvm.MethodName)) ∈ lw_all := lw_g (lw_at lw_m0 55 rfl) rfl
theorem q59 : (Jvm.Cond.selects "MarginDesk" ({ cls := "MarginDesk", name := "row", desc := "(II)V" } : Jvm.MethodName) ({ cls := "MarginDesk", name := "row", desc := "(II)V" } : Jvm.MethodName)) ∈ lw_all := lw_g (lw_at lw_m0 56 rfl) rfl
theorem q60 : (Jvm.Cond.code ({ cls := "MarginDesk", name := "row", desc := "(II)V" } : Jvm.MethodName) prog_1_method_3_code (3 : Nat) (Option.none : Option Jvm.ClassFile.FieldType)) ∈ lw_all := lw_g (lw_at lw_m0 57 rfl) rfl
theorem q62 : (Jvm.Cond.instanceMethod ({ cls := "MarginDesk", name := "column", desc := "(II)V" } : Jvm.MethodName)) ∈ lw_all := lw_g (lw_at lw_m0 59 rfl) rfl
theorem q63 : (Jvm.Cond.selects "MarginDesk" ({ cls := "MarginDesk", name := "column", desc := "(II)V" } : Jvm.MethodName) ({ cls := "MarginDesk", name := "column", desc := "(II)V" } : Jvm.MethodName)) ∈ lw_all := lw_g (lw_at lw_m0 60 rfl) rfl
theorem q64 : (Jvm.Cond.code ({ cls := "MarginDesk", name := "column", desc := "(II)V" } : Jvm.MethodName) prog_1_method_4_code (3 : Nat) (Option.none : Option Jvm.ClassFile.FieldType)) ∈ lw_all := lw_g (lw_at lw_m0 61 rfl) rfl
theorem q66 : (Jvm.Cond.instanceMethod ({ cls := "MarginDesk", name := "count", desc := "()J" } : Jvm.MethodName)) ∈ lw_all := lw_g (lw_at lw_m0 63 rfl) rfl
theorem q67 : (Jvm.Cond.selects "MarginDesk" ({ cls := "MarginDesk", name := "count", desc := "()J" } : Jvm.MethodName) ({ cls := "MarginDesk", name := "count", desc := "()J" } : Jvm.MethodName)) ∈ lw_all := lw_g (lw_at lw_m0 64 rfl) rfl
theorem q68 : (Jvm.Cond.code ({ cls := "MarginDesk", name := "count", desc := "()J" } : Jvm.MethodName) prog_1_method_5_code (1 : Nat) (Option.some Jvm.ClassFile.FieldType.long)) ∈ lw_all := lw_g (lw_at lw_m0 65 rfl) rfl
theorem q69 : (Jvm.Cond.methodLink "MarginDesk" (34 : Nat) ({ cls := "MarginDesk$Needs", name := "count", desc := "([II[II)J" } : Jvm.MethodName)) ∈ lw_all := lw_g (lw_at lw_m0 66 rfl) rfl
theorem q86 : (Jvm.Cond.instanceMethod ({ cls := "MarginDesk", name := "any", desc := "()Z" } : Jvm.MethodName)) ∈ lw_all := lw_g (lw_at lw_m0 83 rfl) rfl
theorem q87 : (Jvm.Cond.selects "MarginDesk" ({ cls := "MarginDesk", name := "any", desc := "()Z" } : Jvm.MethodName) ({ cls := "MarginDesk", name := "any", desc := "()Z" } : Jvm.MethodName)) ∈ lw_all := lw_g (lw_at lw_m0 84 rfl) rfl
theorem q88 : (Jvm.Cond.code ({ cls := "MarginDesk", name := "any", desc := "()Z" } : Jvm.MethodName) prog_1_method_6_code (5 : Nat) (Option.some Jvm.ClassFile.FieldType.boolean)) ∈ lw_all := lw_g (lw_at lw_m0 85 rfl) rfl
theorem q89 : (Jvm.Cond.methodLink "MarginDesk" (38 : Nat) ({ cls := "MarginDesk", name := "rows", desc := "()I" } : Jvm.MethodName)) ∈ lw_all := lw_g (lw_at lw_m0 86 rfl) rfl
theorem q90 : (Jvm.Cond.instanceMethod ({ cls := "MarginDesk", name := "rows", desc := "()I" } : Jvm.MethodName)) ∈ lw_all := lw_g (lw_at lw_m0 87 rfl) rfl
theorem q91 : (Jvm.Cond.selects "MarginDesk" ({ cls := "MarginDesk", name := "rows", desc := "()I" } : Jvm.MethodName) ({ cls := "MarginDesk", name := "rows", desc := "()I" } : Jvm.MethodName)) ∈ lw_all := lw_g (lw_at lw_m0 88 rfl) rfl
theorem q92 : (Jvm.Cond.code ({ cls := "MarginDesk", name := "rows", desc := "()I" } : Jvm.MethodName) prog_1_method_8_code (1 : Nat) (Option.some Jvm.ClassFile.FieldType.int)) ∈ lw_all := lw_g (lw_at lw_m0 89 rfl) rfl
theorem q93 : (Jvm.Cond.methodLink "MarginDesk" (51 : Nat) ({ cls := "MarginDesk", name := "sum", desc := "([II)I" } : Jvm.MethodName)) ∈ lw_all := lw_g (lw_at lw_m0 90 rfl) rfl
theorem q94 : (Jvm.Cond.static ({ cls := "MarginDesk", name := "sum", desc := "([II)I" } : Jvm.MethodName)) ∈ lw_all := lw_g (lw_at lw_m0 91 rfl) rfl
theorem q95 : (Jvm.Cond.code ({ cls := "MarginDesk", name := "sum", desc := "([II)I" } : Jvm.MethodName) prog_1_method_7_code (4 : Nat) (Option.some Jvm.ClassFile.FieldType.int)) ∈ lw_all := lw_g (lw_at lw_m0 92 rfl) rfl
theorem q96 : (Jvm.Cond.methodLink "MarginDesk" (42 : Nat) ({ cls := "MarginDesk", name := "columns", desc := "()I" } : Jvm.MethodName)) ∈ lw_all := lw_g (lw_at lw_m0 93 rfl) rfl
theorem q97 : (Jvm.Cond.instanceMethod ({ cls := "MarginDesk", name := "columns", desc := "()I" } : Jvm.MethodName)) ∈ lw_all := lw_g (lw_at lw_m0 94 rfl) rfl
theorem q98 : (Jvm.Cond.selects "MarginDesk" ({ cls := "MarginDesk", name := "columns", desc := "()I" } : Jvm.MethodName) ({ cls := "MarginDesk", name := "columns", desc := "()I" } : Jvm.MethodName)) ∈ lw_all := lw_g (lw_at lw_m0 95 rfl) rfl
theorem q99 : (Jvm.Cond.code ({ cls := "MarginDesk", name := "columns", desc := "()I" } : Jvm.MethodName) prog_1_method_9_code (1 : Nat) (Option.some Jvm.ClassFile.FieldType.int)) ∈ lw_all := lw_g (lw_at lw_m0 96 rfl) rfl
theorem q100 : (Jvm.Cond.methodLink "MarginDesk" (45 : Nat) ({ cls := "java/lang/Math", name := "min", desc := "(II)I" } : Jvm.MethodName)) ∈ lw_all := lw_g (lw_at lw_m0 97 rfl) rfl
theorem in_X0 : ∀ w ∈ wsX00, w ∈ lw_all := lw_in wsX00 [39, 41, 43, 45, 47, 49] (by decide +kernel) (by decide +kernel)
end
section
/-! MarginDeskModel -/
set_option maxRecDepth 100000
def RX2 : String := "MarginDeskModel"
def TX2 : u_T := fun k => match k with
  | 0 => ("MarginDeskModel", "row", "[I", true)
  | 1 => ("MarginDeskModel", "column", "[I", true)
  | 2 => ("MarginDeskModel", "n", "I", false)
  | 3 => ("MarginDeskModel", "m", "I", false)
  | 4 => ("MarginDeskModel", "ways", "[J", true)
  | _ => ("MarginDeskModel", "next", "[J", true)
def tyX2 : Nat → FieldType := fun k => match k with
  | 0 => .array .int
  | 1 => .array .int
  | 2 => .int
  | 3 => .int
  | 4 => .array .long
  | _ => .array .long
abbrev wsX20 : List Cond := u_ws RX2 TX2 6
theorem nmX2 : ∀ a, a < 6 → ∀ b, b < 6 → a ≠ b → (TX2 a).2.1 ≠ (TX2 b).2.1 := by decide +kernel
theorem tyX2_ok : ∀ k, k < 6 → parseFieldDescriptor (TX2 k).2.2.1 = some (tyX2 k) := by decide +kernel
abbrev cX2_init : ByteArray := prog_4_method_1_code
def yX2_init : MethodName := ⟨RX2, "<init>", "()V"⟩
theorem dX2_init_0 : decode cX2_init 0 = .ok (.aload_n 0, 1) := by decide +kernel
theorem dX2_init_1 : decode cX2_init 1 = .ok (.invokespecial 1, 3) := by decide +kernel
theorem dX2_init_4 : decode cX2_init 4 = .ok (.aload_n 0, 1) := by decide +kernel
theorem dX2_init_5 : decode cX2_init 5 = .ok (.iconst 5, 1) := by decide +kernel
theorem dX2_init_6 : decode cX2_init 6 = .ok (.newarray .int, 2) := by decide +kernel
theorem dX2_init_8 : decode cX2_init 8 = .ok (.putfield 7, 3) := by decide +kernel
theorem dX2_init_11 : decode cX2_init 11 = .ok (.aload_n 0, 1) := by decide +kernel
theorem dX2_init_12 : decode cX2_init 12 = .ok (.iconst 5, 1) := by decide +kernel
theorem dX2_init_13 : decode cX2_init 13 = .ok (.newarray .int, 2) := by decide +kernel
theorem dX2_init_15 : decode cX2_init 15 = .ok (.putfield 13, 3) := by decide +kernel
theorem dX2_init_18 : decode cX2_init 18 = .ok (.aload_n 0, 1) := by decide +kernel
theorem dX2_init_19 : decode cX2_init 19 = .ok (.iconst 3, 1) := by decide +kernel
theorem dX2_init_20 : decode cX2_init 20 = .ok (.putfield 16, 3) := by decide +kernel
theorem dX2_init_23 : decode cX2_init 23 = .ok (.aload_n 0, 1) := by decide +kernel
theorem dX2_init_24 : decode cX2_init 24 = .ok (.iconst 3, 1) := by decide +kernel
theorem dX2_init_25 : decode cX2_init 25 = .ok (.putfield 20, 3) := by decide +kernel
theorem dX2_init_28 : decode cX2_init 28 = .ok (.aload_n 0, 1) := by decide +kernel
theorem dX2_init_29 : decode cX2_init 29 = .ok (.sipush 7776, 3) := by decide +kernel
theorem dX2_init_32 : decode cX2_init 32 = .ok (.newarray .long, 2) := by decide +kernel
theorem dX2_init_34 : decode cX2_init 34 = .ok (.putfield 23, 3) := by decide +kernel
theorem dX2_init_37 : decode cX2_init 37 = .ok (.aload_n 0, 1) := by decide +kernel
theorem dX2_init_38 : decode cX2_init 38 = .ok (.sipush 7776, 3) := by decide +kernel
theorem dX2_init_41 : decode cX2_init 41 = .ok (.newarray .long, 2) := by decide +kernel
theorem dX2_init_43 : decode cX2_init 43 = .ok (.putfield 27, 3) := by decide +kernel
theorem dX2_init_46 : decode cX2_init 46 = .ok (.return_, 1) := by decide +kernel
abbrev cX2_size : ByteArray := prog_4_method_2_code
def yX2_size : MethodName := ⟨RX2, "size", "(II)V"⟩
theorem dX2_size_0 : decode cX2_size 0 = .ok (.aload_n 0, 1) := by decide +kernel
theorem dX2_size_1 : decode cX2_size 1 = .ok (.iconst 1, 1) := by decide +kernel
theorem dX2_size_2 : decode cX2_size 2 = .ok (.iload_n 1, 1) := by decide +kernel
theorem dX2_size_3 : decode cX2_size 3 = .ok (.ldc 30, 2) := by decide +kernel
theorem dX2_size_5 : decode cX2_size 5 = .ok (.iand, 1) := by decide +kernel
theorem dX2_size_6 : decode cX2_size 6 = .ok (.iconst 5, 1) := by decide +kernel
theorem dX2_size_7 : decode cX2_size 7 = .ok (.irem, 1) := by decide +kernel
theorem dX2_size_8 : decode cX2_size 8 = .ok (.iadd, 1) := by decide +kernel
theorem dX2_size_9 : decode cX2_size 9 = .ok (.putfield 16, 3) := by decide +kernel
theorem dX2_size_12 : decode cX2_size 12 = .ok (.aload_n 0, 1) := by decide +kernel
theorem dX2_size_13 : decode cX2_size 13 = .ok (.iconst 1, 1) := by decide +kernel
theorem dX2_size_14 : decode cX2_size 14 = .ok (.iload_n 2, 1) := by decide +kernel
theorem dX2_size_15 : decode cX2_size 15 = .ok (.ldc 30, 2) := by decide +kernel
theorem dX2_size_17 : decode cX2_size 17 = .ok (.iand, 1) := by decide +kernel
theorem dX2_size_18 : decode cX2_size 18 = .ok (.iconst 5, 1) := by decide +kernel
theorem dX2_size_19 : decode cX2_size 19 = .ok (.irem, 1) := by decide +kernel
theorem dX2_size_20 : decode cX2_size 20 = .ok (.iadd, 1) := by decide +kernel
theorem dX2_size_21 : decode cX2_size 21 = .ok (.putfield 20, 3) := by decide +kernel
theorem dX2_size_24 : decode cX2_size 24 = .ok (.iconst 0, 1) := by decide +kernel
theorem dX2_size_25 : decode cX2_size 25 = .ok (.istore_n 3, 1) := by decide +kernel
theorem dX2_size_26 : decode cX2_size 26 = .ok (.iload_n 3, 1) := by decide +kernel
theorem dX2_size_27 : decode cX2_size 27 = .ok (.iconst 5, 1) := by decide +kernel
theorem dX2_size_28 : decode cX2_size 28 = .ok (.if_icmp .ge 23, 3) := by decide +kernel
theorem dX2_size_31 : decode cX2_size 31 = .ok (.aload_n 0, 1) := by decide +kernel
theorem dX2_size_32 : decode cX2_size 32 = .ok (.getfield 7, 3) := by decide +kernel
theorem dX2_size_35 : decode cX2_size 35 = .ok (.iload_n 3, 1) := by decide +kernel
theorem dX2_size_36 : decode cX2_size 36 = .ok (.iconst 0, 1) := by decide +kernel
theorem dX2_size_37 : decode cX2_size 37 = .ok (.iastore, 1) := by decide +kernel
theorem dX2_size_38 : decode cX2_size 38 = .ok (.aload_n 0, 1) := by decide +kernel
theorem dX2_size_39 : decode cX2_size 39 = .ok (.getfield 13, 3) := by decide +kernel
theorem dX2_size_42 : decode cX2_size 42 = .ok (.iload_n 3, 1) := by decide +kernel
theorem dX2_size_43 : decode cX2_size 43 = .ok (.iconst 0, 1) := by decide +kernel
theorem dX2_size_44 : decode cX2_size 44 = .ok (.iastore, 1) := by decide +kernel
theorem dX2_size_45 : decode cX2_size 45 = .ok (.iinc 3 1, 3) := by decide +kernel
theorem dX2_size_48 : decode cX2_size 48 = .ok (.goto (-22), 3) := by decide +kernel
theorem dX2_size_51 : decode cX2_size 51 = .ok (.return_, 1) := by decide +kernel
abbrev cX2_row : ByteArray := prog_4_method_3_code
def yX2_row : MethodName := ⟨RX2, "row", "(II)V"⟩
theorem dX2_row_0 : decode cX2_row 0 = .ok (.aload_n 0, 1) := by decide +kernel
theorem dX2_row_1 : decode cX2_row 1 = .ok (.getfield 7, 3) := by decide +kernel
theorem dX2_row_4 : decode cX2_row 4 = .ok (.iload_n 1, 1) := by decide +kernel
theorem dX2_row_5 : decode cX2_row 5 = .ok (.ldc 30, 2) := by decide +kernel
theorem dX2_row_7 : decode cX2_row 7 = .ok (.iand, 1) := by decide +kernel
theorem dX2_row_8 : decode cX2_row 8 = .ok (.aload_n 0, 1) := by decide +kernel
theorem dX2_row_9 : decode cX2_row 9 = .ok (.getfield 16, 3) := by decide +kernel
theorem dX2_row_12 : decode cX2_row 12 = .ok (.irem, 1) := by decide +kernel
theorem dX2_row_13 : decode cX2_row 13 = .ok (.iload_n 2, 1) := by decide +kernel
theorem dX2_row_14 : decode cX2_row 14 = .ok (.ldc 30, 2) := by decide +kernel
theorem dX2_row_16 : decode cX2_row 16 = .ok (.iand, 1) := by decide +kernel
theorem dX2_row_17 : decode cX2_row 17 = .ok (.bipush 6, 2) := by decide +kernel
theorem dX2_row_19 : decode cX2_row 19 = .ok (.irem, 1) := by decide +kernel
theorem dX2_row_20 : decode cX2_row 20 = .ok (.iastore, 1) := by decide +kernel
theorem dX2_row_21 : decode cX2_row 21 = .ok (.return_, 1) := by decide +kernel
abbrev cX2_column : ByteArray := prog_4_method_4_code
def yX2_column : MethodName := ⟨RX2, "column", "(II)V"⟩
theorem dX2_column_0 : decode cX2_column 0 = .ok (.aload_n 0, 1) := by decide +kernel
theorem dX2_column_1 : decode cX2_column 1 = .ok (.getfield 13, 3) := by decide +kernel
theorem dX2_column_4 : decode cX2_column 4 = .ok (.iload_n 1, 1) := by decide +kernel
theorem dX2_column_5 : decode cX2_column 5 = .ok (.ldc 30, 2) := by decide +kernel
theorem dX2_column_7 : decode cX2_column 7 = .ok (.iand, 1) := by decide +kernel
theorem dX2_column_8 : decode cX2_column 8 = .ok (.aload_n 0, 1) := by decide +kernel
theorem dX2_column_9 : decode cX2_column 9 = .ok (.getfield 20, 3) := by decide +kernel
theorem dX2_column_12 : decode cX2_column 12 = .ok (.irem, 1) := by decide +kernel
theorem dX2_column_13 : decode cX2_column 13 = .ok (.iload_n 2, 1) := by decide +kernel
theorem dX2_column_14 : decode cX2_column 14 = .ok (.ldc 30, 2) := by decide +kernel
theorem dX2_column_16 : decode cX2_column 16 = .ok (.iand, 1) := by decide +kernel
theorem dX2_column_17 : decode cX2_column 17 = .ok (.bipush 6, 2) := by decide +kernel
theorem dX2_column_19 : decode cX2_column 19 = .ok (.irem, 1) := by decide +kernel
theorem dX2_column_20 : decode cX2_column 20 = .ok (.iastore, 1) := by decide +kernel
theorem dX2_column_21 : decode cX2_column 21 = .ok (.return_, 1) := by decide +kernel
abbrev cX2_count : ByteArray := prog_4_method_6_code
def yX2_count : MethodName := ⟨RX2, "count", "()J"⟩
theorem dX2_count_0 : decode cX2_count 0 = .ok (.aload_n 0, 1) := by decide +kernel
theorem dX2_count_1 : decode cX2_count 1 = .ok (.invokevirtual 31, 3) := by decide +kernel
theorem dX2_count_4 : decode cX2_count 4 = .ok (.istore_n 1, 1) := by decide +kernel
theorem dX2_count_5 : decode cX2_count 5 = .ok (.iconst 0, 1) := by decide +kernel
theorem dX2_count_6 : decode cX2_count 6 = .ok (.istore_n 2, 1) := by decide +kernel
theorem dX2_count_7 : decode cX2_count 7 = .ok (.iload_n 2, 1) := by decide +kernel
theorem dX2_count_8 : decode cX2_count 8 = .ok (.iload_n 1, 1) := by decide +kernel
theorem dX2_count_9 : decode cX2_count 9 = .ok (.if_icmp .ge 24, 3) := by decide +kernel
theorem dX2_count_12 : decode cX2_count 12 = .ok (.aload_n 0, 1) := by decide +kernel
theorem dX2_count_13 : decode cX2_count 13 = .ok (.getfield 23, 3) := by decide +kernel
theorem dX2_count_16 : decode cX2_count 16 = .ok (.iload_n 2, 1) := by decide +kernel
theorem dX2_count_17 : decode cX2_count 17 = .ok (.iload_n 2, 1) := by decide +kernel
theorem dX2_count_18 : decode cX2_count 18 = .ok (.ifCond .ne 7, 3) := by decide +kernel
theorem dX2_count_21 : decode cX2_count 21 = .ok (.lconst 1, 1) := by decide +kernel
theorem dX2_count_22 : decode cX2_count 22 = .ok (.goto 4, 3) := by decide +kernel
theorem dX2_count_25 : decode cX2_count 25 = .ok (.lconst 0, 1) := by decide +kernel
theorem dX2_count_26 : decode cX2_count 26 = .ok (.lastore, 1) := by decide +kernel
theorem dX2_count_27 : decode cX2_count 27 = .ok (.iinc 2 1, 3) := by decide +kernel
theorem dX2_count_30 : decode cX2_count 30 = .ok (.goto (-23), 3) := by decide +kernel
theorem dX2_count_33 : decode cX2_count 33 = .ok (.iconst 0, 1) := by decide +kernel
theorem dX2_count_34 : decode cX2_count 34 = .ok (.istore_n 2, 1) := by decide +kernel
theorem dX2_count_35 : decode cX2_count 35 = .ok (.iload_n 2, 1) := by decide +kernel
theorem dX2_count_36 : decode cX2_count 36 = .ok (.aload_n 0, 1) := by decide +kernel
theorem dX2_count_37 : decode cX2_count 37 = .ok (.getfield 16, 3) := by decide +kernel
theorem dX2_count_40 : decode cX2_count 40 = .ok (.if_icmp .ge 197, 3) := by decide +kernel
theorem dX2_count_43 : decode cX2_count 43 = .ok (.iconst 0, 1) := by decide +kernel
theorem dX2_count_44 : decode cX2_count 44 = .ok (.istore_n 3, 1) := by decide +kernel
theorem dX2_count_45 : decode cX2_count 45 = .ok (.iload_n 3, 1) := by decide +kernel
theorem dX2_count_46 : decode cX2_count 46 = .ok (.iload_n 1, 1) := by decide +kernel
theorem dX2_count_47 : decode cX2_count 47 = .ok (.if_icmp .ge 16, 3) := by decide +kernel
theorem dX2_count_50 : decode cX2_count 50 = .ok (.aload_n 0, 1) := by decide +kernel
theorem dX2_count_51 : decode cX2_count 51 = .ok (.getfield 27, 3) := by decide +kernel
theorem dX2_count_54 : decode cX2_count 54 = .ok (.iload_n 3, 1) := by decide +kernel
theorem dX2_count_55 : decode cX2_count 55 = .ok (.lconst 0, 1) := by decide +kernel
theorem dX2_count_56 : decode cX2_count 56 = .ok (.lastore, 1) := by decide +kernel
theorem dX2_count_57 : decode cX2_count 57 = .ok (.iinc 3 1, 3) := by decide +kernel
theorem dX2_count_60 : decode cX2_count 60 = .ok (.goto (-15), 3) := by decide +kernel
theorem dX2_count_63 : decode cX2_count 63 = .ok (.iconst 0, 1) := by decide +kernel
theorem dX2_count_64 : decode cX2_count 64 = .ok (.istore_n 3, 1) := by decide +kernel
theorem dX2_count_65 : decode cX2_count 65 = .ok (.iload_n 3, 1) := by decide +kernel
theorem dX2_count_66 : decode cX2_count 66 = .ok (.iconst 1, 1) := by decide +kernel
theorem dX2_count_67 : decode cX2_count 67 = .ok (.aload_n 0, 1) := by decide +kernel
theorem dX2_count_68 : decode cX2_count 68 = .ok (.getfield 20, 3) := by decide +kernel
theorem dX2_count_71 : decode cX2_count 71 = .ok (.ishl, 1) := by decide +kernel
theorem dX2_count_72 : decode cX2_count 72 = .ok (.if_icmp .ge 134, 3) := by decide +kernel
theorem dX2_count_75 : decode cX2_count 75 = .ok (.iconst 0, 1) := by decide +kernel
theorem dX2_count_76 : decode cX2_count 76 = .ok (.istore 4, 2) := by decide +kernel
theorem dX2_count_78 : decode cX2_count 78 = .ok (.iconst 0, 1) := by decide +kernel
theorem dX2_count_79 : decode cX2_count 79 = .ok (.istore 5, 2) := by decide +kernel
theorem dX2_count_81 : decode cX2_count 81 = .ok (.iconst 1, 1) := by decide +kernel
theorem dX2_count_82 : decode cX2_count 82 = .ok (.istore 6, 2) := by decide +kernel
theorem dX2_count_84 : decode cX2_count 84 = .ok (.iconst 0, 1) := by decide +kernel
theorem dX2_count_85 : decode cX2_count 85 = .ok (.istore 7, 2) := by decide +kernel
theorem dX2_count_87 : decode cX2_count 87 = .ok (.iload 7, 2) := by decide +kernel
theorem dX2_count_89 : decode cX2_count 89 = .ok (.aload_n 0, 1) := by decide +kernel
theorem dX2_count_90 : decode cX2_count 90 = .ok (.getfield 20, 3) := by decide +kernel
theorem dX2_count_93 : decode cX2_count 93 = .ok (.if_icmp .ge 38, 3) := by decide +kernel
theorem dX2_count_96 : decode cX2_count 96 = .ok (.iload_n 3, 1) := by decide +kernel
theorem dX2_count_97 : decode cX2_count 97 = .ok (.iload 7, 2) := by decide +kernel
theorem dX2_count_99 : decode cX2_count 99 = .ok (.ishr, 1) := by decide +kernel
theorem dX2_count_100 : decode cX2_count 100 = .ok (.iconst 1, 1) := by decide +kernel
theorem dX2_count_101 : decode cX2_count 101 = .ok (.iand, 1) := by decide +kernel
theorem dX2_count_102 : decode cX2_count 102 = .ok (.ifCond .eq 16, 3) := by decide +kernel
theorem dX2_count_105 : decode cX2_count 105 = .ok (.iload 4, 2) := by decide +kernel
theorem dX2_count_107 : decode cX2_count 107 = .ok (.iconst 1, 1) := by decide +kernel
theorem dX2_count_108 : decode cX2_count 108 = .ok (.iadd, 1) := by decide +kernel
theorem dX2_count_109 : decode cX2_count 109 = .ok (.istore 4, 2) := by decide +kernel
theorem dX2_count_111 : decode cX2_count 111 = .ok (.iload 5, 2) := by decide +kernel
theorem dX2_count_113 : decode cX2_count 113 = .ok (.iload 6, 2) := by decide +kernel
theorem dX2_count_115 : decode cX2_count 115 = .ok (.iadd, 1) := by decide +kernel
theorem dX2_count_116 : decode cX2_count 116 = .ok (.istore 5, 2) := by decide +kernel
theorem dX2_count_118 : decode cX2_count 118 = .ok (.iload 6, 2) := by decide +kernel
theorem dX2_count_120 : decode cX2_count 120 = .ok (.bipush 6, 2) := by decide +kernel
theorem dX2_count_122 : decode cX2_count 122 = .ok (.imul, 1) := by decide +kernel
theorem dX2_count_123 : decode cX2_count 123 = .ok (.istore 6, 2) := by decide +kernel
theorem dX2_count_125 : decode cX2_count 125 = .ok (.iinc 7 1, 3) := by decide +kernel
theorem dX2_count_128 : decode cX2_count 128 = .ok (.goto (-41), 3) := by decide +kernel
theorem dX2_count_131 : decode cX2_count 131 = .ok (.iload 4, 2) := by decide +kernel
theorem dX2_count_133 : decode cX2_count 133 = .ok (.aload_n 0, 1) := by decide +kernel
theorem dX2_count_134 : decode cX2_count 134 = .ok (.getfield 7, 3) := by decide +kernel
theorem dX2_count_137 : decode cX2_count 137 = .ok (.iload_n 2, 1) := by decide +kernel
theorem dX2_count_138 : decode cX2_count 138 = .ok (.iaload, 1) := by decide +kernel
theorem dX2_count_139 : decode cX2_count 139 = .ok (.if_icmp .ne 61, 3) := by decide +kernel
theorem dX2_count_142 : decode cX2_count 142 = .ok (.iconst 0, 1) := by decide +kernel
theorem dX2_count_143 : decode cX2_count 143 = .ok (.istore 7, 2) := by decide +kernel
theorem dX2_count_145 : decode cX2_count 145 = .ok (.iload 7, 2) := by decide +kernel
theorem dX2_count_147 : decode cX2_count 147 = .ok (.iload 5, 2) := by decide +kernel
theorem dX2_count_149 : decode cX2_count 149 = .ok (.iadd, 1) := by decide +kernel
theorem dX2_count_150 : decode cX2_count 150 = .ok (.iload_n 1, 1) := by decide +kernel
theorem dX2_count_151 : decode cX2_count 151 = .ok (.if_icmp .ge 49, 3) := by decide +kernel
theorem dX2_count_154 : decode cX2_count 154 = .ok (.aload_n 0, 1) := by decide +kernel
theorem dX2_count_155 : decode cX2_count 155 = .ok (.getfield 23, 3) := by decide +kernel
theorem dX2_count_158 : decode cX2_count 158 = .ok (.iload 7, 2) := by decide +kernel
theorem dX2_count_160 : decode cX2_count 160 = .ok (.laload, 1) := by decide +kernel
theorem dX2_count_161 : decode cX2_count 161 = .ok (.lconst 0, 1) := by decide +kernel
theorem dX2_count_162 : decode cX2_count 162 = .ok (.lcmp, 1) := by decide +kernel
theorem dX2_count_163 : decode cX2_count 163 = .ok (.ifCond .le 31, 3) := by decide +kernel
theorem dX2_count_166 : decode cX2_count 166 = .ok (.aload_n 0, 1) := by decide +kernel
theorem dX2_count_167 : decode cX2_count 167 = .ok (.getfield 27, 3) := by decide +kernel
theorem dX2_count_170 : decode cX2_count 170 = .ok (.iload 7, 2) := by decide +kernel
theorem dX2_count_172 : decode cX2_count 172 = .ok (.iload 5, 2) := by decide +kernel
theorem dX2_count_174 : decode cX2_count 174 = .ok (.iadd, 1) := by decide +kernel
theorem dX2_count_175 : decode cX2_count 175 = .ok (.aload_n 0, 1) := by decide +kernel
theorem dX2_count_176 : decode cX2_count 176 = .ok (.getfield 27, 3) := by decide +kernel
theorem dX2_count_179 : decode cX2_count 179 = .ok (.iload 7, 2) := by decide +kernel
theorem dX2_count_181 : decode cX2_count 181 = .ok (.iload 5, 2) := by decide +kernel
theorem dX2_count_183 : decode cX2_count 183 = .ok (.iadd, 1) := by decide +kernel
theorem dX2_count_184 : decode cX2_count 184 = .ok (.laload, 1) := by decide +kernel
theorem dX2_count_185 : decode cX2_count 185 = .ok (.aload_n 0, 1) := by decide +kernel
theorem dX2_count_186 : decode cX2_count 186 = .ok (.getfield 23, 3) := by decide +kernel
theorem dX2_count_189 : decode cX2_count 189 = .ok (.iload 7, 2) := by decide +kernel
theorem dX2_count_191 : decode cX2_count 191 = .ok (.laload, 1) := by decide +kernel
theorem dX2_count_192 : decode cX2_count 192 = .ok (.ladd, 1) := by decide +kernel
theorem dX2_count_193 : decode cX2_count 193 = .ok (.lastore, 1) := by decide +kernel
theorem dX2_count_194 : decode cX2_count 194 = .ok (.iinc 7 1, 3) := by decide +kernel
theorem dX2_count_197 : decode cX2_count 197 = .ok (.goto (-52), 3) := by decide +kernel
theorem dX2_count_200 : decode cX2_count 200 = .ok (.iinc 3 1, 3) := by decide +kernel
theorem dX2_count_203 : decode cX2_count 203 = .ok (.goto (-138), 3) := by decide +kernel
theorem dX2_count_206 : decode cX2_count 206 = .ok (.iconst 0, 1) := by decide +kernel
theorem dX2_count_207 : decode cX2_count 207 = .ok (.istore_n 3, 1) := by decide +kernel
theorem dX2_count_208 : decode cX2_count 208 = .ok (.iload_n 3, 1) := by decide +kernel
theorem dX2_count_209 : decode cX2_count 209 = .ok (.iload_n 1, 1) := by decide +kernel
theorem dX2_count_210 : decode cX2_count 210 = .ok (.if_icmp .ge 21, 3) := by decide +kernel
theorem dX2_count_213 : decode cX2_count 213 = .ok (.aload_n 0, 1) := by decide +kernel
theorem dX2_count_214 : decode cX2_count 214 = .ok (.getfield 23, 3) := by decide +kernel
theorem dX2_count_217 : decode cX2_count 217 = .ok (.iload_n 3, 1) := by decide +kernel
theorem dX2_count_218 : decode cX2_count 218 = .ok (.aload_n 0, 1) := by decide +kernel
theorem dX2_count_219 : decode cX2_count 219 = .ok (.getfield 27, 3) := by decide +kernel
theorem dX2_count_222 : decode cX2_count 222 = .ok (.iload_n 3, 1) := by decide +kernel
theorem dX2_count_223 : decode cX2_count 223 = .ok (.laload, 1) := by decide +kernel
theorem dX2_count_224 : decode cX2_count 224 = .ok (.lastore, 1) := by decide +kernel
theorem dX2_count_225 : decode cX2_count 225 = .ok (.iinc 3 1, 3) := by decide +kernel
theorem dX2_count_228 : decode cX2_count 228 = .ok (.goto (-20), 3) := by decide +kernel
theorem dX2_count_231 : decode cX2_count 231 = .ok (.iinc 2 1, 3) := by decide +kernel
theorem dX2_count_234 : decode cX2_count 234 = .ok (.goto (-199), 3) := by decide +kernel
theorem dX2_count_237 : decode cX2_count 237 = .ok (.iconst 0, 1) := by decide +kernel
theorem dX2_count_238 : decode cX2_count 238 = .ok (.istore_n 2, 1) := by decide +kernel
theorem dX2_count_239 : decode cX2_count 239 = .ok (.aload_n 0, 1) := by decide +kernel
theorem dX2_count_240 : decode cX2_count 240 = .ok (.getfield 20, 3) := by decide +kernel
theorem dX2_count_243 : decode cX2_count 243 = .ok (.iconst 1, 1) := by decide +kernel
theorem dX2_count_244 : decode cX2_count 244 = .ok (.isub, 1) := by decide +kernel
theorem dX2_count_245 : decode cX2_count 245 = .ok (.istore_n 3, 1) := by decide +kernel
theorem dX2_count_246 : decode cX2_count 246 = .ok (.iload_n 3, 1) := by decide +kernel
theorem dX2_count_247 : decode cX2_count 247 = .ok (.ifCond .lt 21, 3) := by decide +kernel
theorem dX2_count_250 : decode cX2_count 250 = .ok (.bipush 6, 2) := by decide +kernel
theorem dX2_count_252 : decode cX2_count 252 = .ok (.iload_n 2, 1) := by decide +kernel
theorem dX2_count_253 : decode cX2_count 253 = .ok (.imul, 1) := by decide +kernel
theorem dX2_count_254 : decode cX2_count 254 = .ok (.aload_n 0, 1) := by decide +kernel
theorem dX2_count_255 : decode cX2_count 255 = .ok (.getfield 13, 3) := by decide +kernel
theorem dX2_count_258 : decode cX2_count 258 = .ok (.iload_n 3, 1) := by decide +kernel
theorem dX2_count_259 : decode cX2_count 259 = .ok (.iaload, 1) := by decide +kernel
theorem dX2_count_260 : decode cX2_count 260 = .ok (.iadd, 1) := by decide +kernel
theorem dX2_count_261 : decode cX2_count 261 = .ok (.istore_n 2, 1) := by decide +kernel
theorem dX2_count_262 : decode cX2_count 262 = .ok (.iinc 3 (-1), 3) := by decide +kernel
theorem dX2_count_265 : decode cX2_count 265 = .ok (.goto (-19), 3) := by decide +kernel
theorem dX2_count_268 : decode cX2_count 268 = .ok (.aload_n 0, 1) := by decide +kernel
theorem dX2_count_269 : decode cX2_count 269 = .ok (.getfield 23, 3) := by decide +kernel
theorem dX2_count_272 : decode cX2_count 272 = .ok (.iload_n 2, 1) := by decide +kernel
theorem dX2_count_273 : decode cX2_count 273 = .ok (.laload, 1) := by decide +kernel
theorem dX2_count_274 : decode cX2_count 274 = .ok (.lreturn, 1) := by decide +kernel
abbrev cX2_all : ByteArray := prog_4_method_5_code
def yX2_all : MethodName := ⟨RX2, "all", "()I"⟩
theorem dX2_all_0 : decode cX2_all 0 = .ok (.iconst 1, 1) := by decide +kernel
theorem dX2_all_1 : decode cX2_all 1 = .ok (.istore_n 1, 1) := by decide +kernel
theorem dX2_all_2 : decode cX2_all 2 = .ok (.iconst 0, 1) := by decide +kernel
theorem dX2_all_3 : decode cX2_all 3 = .ok (.istore_n 2, 1) := by decide +kernel
theorem dX2_all_4 : decode cX2_all 4 = .ok (.iload_n 2, 1) := by decide +kernel
theorem dX2_all_5 : decode cX2_all 5 = .ok (.aload_n 0, 1) := by decide +kernel
theorem dX2_all_6 : decode cX2_all 6 = .ok (.getfield 20, 3) := by decide +kernel
theorem dX2_all_9 : decode cX2_all 9 = .ok (.if_icmp .ge 14, 3) := by decide +kernel
theorem dX2_all_12 : decode cX2_all 12 = .ok (.iload_n 1, 1) := by decide +kernel
theorem dX2_all_13 : decode cX2_all 13 = .ok (.bipush 6, 2) := by decide +kernel
theorem dX2_all_15 : decode cX2_all 15 = .ok (.imul, 1) := by decide +kernel
theorem dX2_all_16 : decode cX2_all 16 = .ok (.istore_n 1, 1) := by decide +kernel
theorem dX2_all_17 : decode cX2_all 17 = .ok (.iinc 2 1, 3) := by decide +kernel
theorem dX2_all_20 : decode cX2_all 20 = .ok (.goto (-16), 3) := by decide +kernel
theorem dX2_all_23 : decode cX2_all 23 = .ok (.iload_n 1, 1) := by decide +kernel
theorem dX2_all_24 : decode cX2_all 24 = .ok (.ireturn, 1) := by decide +kernel
abbrev cX2_any : ByteArray := prog_4_method_7_code
def yX2_any : MethodName := ⟨RX2, "any", "()Z"⟩
theorem dX2_any_0 : decode cX2_any 0 = .ok (.aload_n 0, 1) := by decide +kernel
theorem dX2_any_1 : decode cX2_any 1 = .ok (.invokevirtual 35, 3) := by decide +kernel
theorem dX2_any_4 : decode cX2_any 4 = .ok (.lconst 0, 1) := by decide +kernel
theorem dX2_any_5 : decode cX2_any 5 = .ok (.lcmp, 1) := by decide +kernel
theorem dX2_any_6 : decode cX2_any 6 = .ok (.ifCond .le 7, 3) := by decide +kernel
theorem dX2_any_9 : decode cX2_any 9 = .ok (.iconst 1, 1) := by decide +kernel
theorem dX2_any_10 : decode cX2_any 10 = .ok (.goto 4, 3) := by decide +kernel
theorem dX2_any_13 : decode cX2_any 13 = .ok (.iconst 0, 1) := by decide +kernel
theorem dX2_any_14 : decode cX2_any 14 = .ok (.ireturn, 1) := by decide +kernel
abbrev cX2_rows : ByteArray := prog_4_method_8_code
def yX2_rows : MethodName := ⟨RX2, "rows", "()I"⟩
theorem dX2_rows_0 : decode cX2_rows 0 = .ok (.iconst 0, 1) := by decide +kernel
theorem dX2_rows_1 : decode cX2_rows 1 = .ok (.istore_n 1, 1) := by decide +kernel
theorem dX2_rows_2 : decode cX2_rows 2 = .ok (.iconst 0, 1) := by decide +kernel
theorem dX2_rows_3 : decode cX2_rows 3 = .ok (.istore_n 2, 1) := by decide +kernel
theorem dX2_rows_4 : decode cX2_rows 4 = .ok (.iload_n 2, 1) := by decide +kernel
theorem dX2_rows_5 : decode cX2_rows 5 = .ok (.aload_n 0, 1) := by decide +kernel
theorem dX2_rows_6 : decode cX2_rows 6 = .ok (.getfield 16, 3) := by decide +kernel
theorem dX2_rows_9 : decode cX2_rows 9 = .ok (.if_icmp .ge 18, 3) := by decide +kernel
theorem dX2_rows_12 : decode cX2_rows 12 = .ok (.iload_n 1, 1) := by decide +kernel
theorem dX2_rows_13 : decode cX2_rows 13 = .ok (.aload_n 0, 1) := by decide +kernel
theorem dX2_rows_14 : decode cX2_rows 14 = .ok (.getfield 7, 3) := by decide +kernel
theorem dX2_rows_17 : decode cX2_rows 17 = .ok (.iload_n 2, 1) := by decide +kernel
theorem dX2_rows_18 : decode cX2_rows 18 = .ok (.iaload, 1) := by decide +kernel
theorem dX2_rows_19 : decode cX2_rows 19 = .ok (.iadd, 1) := by decide +kernel
theorem dX2_rows_20 : decode cX2_rows 20 = .ok (.istore_n 1, 1) := by decide +kernel
theorem dX2_rows_21 : decode cX2_rows 21 = .ok (.iinc 2 1, 3) := by decide +kernel
theorem dX2_rows_24 : decode cX2_rows 24 = .ok (.goto (-20), 3) := by decide +kernel
theorem dX2_rows_27 : decode cX2_rows 27 = .ok (.iload_n 1, 1) := by decide +kernel
theorem dX2_rows_28 : decode cX2_rows 28 = .ok (.ireturn, 1) := by decide +kernel
abbrev cX2_columns : ByteArray := prog_4_method_9_code
def yX2_columns : MethodName := ⟨RX2, "columns", "()I"⟩
theorem dX2_columns_0 : decode cX2_columns 0 = .ok (.iconst 0, 1) := by decide +kernel
theorem dX2_columns_1 : decode cX2_columns 1 = .ok (.istore_n 1, 1) := by decide +kernel
theorem dX2_columns_2 : decode cX2_columns 2 = .ok (.iconst 0, 1) := by decide +kernel
theorem dX2_columns_3 : decode cX2_columns 3 = .ok (.istore_n 2, 1) := by decide +kernel
theorem dX2_columns_4 : decode cX2_columns 4 = .ok (.iload_n 2, 1) := by decide +kernel
theorem dX2_columns_5 : decode cX2_columns 5 = .ok (.aload_n 0, 1) := by decide +kernel
theorem dX2_columns_6 : decode cX2_columns 6 = .ok (.getfield 20, 3) := by decide +kernel
theorem dX2_columns_9 : decode cX2_columns 9 = .ok (.if_icmp .ge 18, 3) := by decide +kernel
theorem dX2_columns_12 : decode cX2_columns 12 = .ok (.iload_n 1, 1) := by decide +kernel
theorem dX2_columns_13 : decode cX2_columns 13 = .ok (.aload_n 0, 1) := by decide +kernel
theorem dX2_columns_14 : decode cX2_columns 14 = .ok (.getfield 13, 3) := by decide +kernel
theorem dX2_columns_17 : decode cX2_columns 17 = .ok (.iload_n 2, 1) := by decide +kernel
theorem dX2_columns_18 : decode cX2_columns 18 = .ok (.iaload, 1) := by decide +kernel
theorem dX2_columns_19 : decode cX2_columns 19 = .ok (.iadd, 1) := by decide +kernel
theorem dX2_columns_20 : decode cX2_columns 20 = .ok (.istore_n 1, 1) := by decide +kernel
theorem dX2_columns_21 : decode cX2_columns 21 = .ok (.iinc 2 1, 3) := by decide +kernel
theorem dX2_columns_24 : decode cX2_columns 24 = .ok (.goto (-20), 3) := by decide +kernel
theorem dX2_columns_27 : decode cX2_columns 27 = .ok (.iload_n 1, 1) := by decide +kernel
theorem dX2_columns_28 : decode cX2_columns 28 = .ok (.ireturn, 1) := by decide +kernel
theorem q6 : (Jvm.Cond.initialized "MarginDeskModel") ∈ lw_all := lw_g (lw_at lw_m0 3 rfl) rfl
theorem q106 : (Jvm.Cond.instantiable "MarginDeskModel" (6 : Nat)) ∈ lw_all := lw_g (lw_at lw_m0 103 rfl) rfl
theorem q108 : (Jvm.Cond.instanceMethod ({ cls := "MarginDeskModel", name := "<init>", desc := "()V" } : Jvm.MethodName)) ∈ lw_all := lw_g (lw_at lw_m0 105 rfl) rfl
theorem q109 : (Jvm.Cond.code ({ cls := "MarginDeskModel", name := "<init>", desc := "()V" } : Jvm.MethodName) prog_4_method_1_code (1 : Nat) (Option.none : Option Jvm.ClassFile.FieldType)) ∈ lw_all := lw_g (lw_at lw_m0 106 rfl) rfl
theorem q110 : (Jvm.Cond.methodLink "MarginDeskModel" (1 : Nat) ({ cls := "java/lang/Object", name := "<init>", desc := "()V" } : Jvm.MethodName)) ∈ lw_all := lw_g (lw_at lw_m0 107 rfl) rfl
theorem q111 : (Jvm.Cond.fieldLink "MarginDeskModel" (7 : Nat) "MarginDeskModel" "row" "[I") ∈ lw_all := lw_g (lw_at lw_m0 108 rfl) rfl
theorem q112 : (Jvm.Cond.fieldLink "MarginDeskModel" (13 : Nat) "MarginDeskModel" "column" "[I") ∈ lw_all := lw_g (lw_at lw_m0 109 rfl) rfl
theorem q113 : (Jvm.Cond.fieldLink "MarginDeskModel" (16 : Nat) "MarginDeskModel" "n" "I") ∈ lw_all := lw_g (lw_at lw_m0 110 rfl) rfl
theorem q114 : (Jvm.Cond.fieldLink "MarginDeskModel" (20 : Nat) "MarginDeskModel" "m" "I") ∈ lw_all := lw_g (lw_at lw_m0 111 rfl) rfl
theorem q115 : (Jvm.Cond.fieldLink "MarginDeskModel" (23 : Nat) "MarginDeskModel" "ways" "[J") ∈ lw_all := lw_g (lw_at lw_m0 112 rfl) rfl
theorem q116 : (Jvm.Cond.fieldLink "MarginDeskModel" (27 : Nat) "MarginDeskModel" "next" "[J") ∈ lw_all := lw_g (lw_at lw_m0 113 rfl) rfl
theorem q117 : (Jvm.Cond.laysFinal "MarginDeskModel" "MarginDeskModel" "row" "[I") ∈ lw_all := lw_g (lw_at lw_m0 114 rfl) rfl
theorem q118 : (Jvm.Cond.soleField "MarginDeskModel" "row") ∈ lw_all := lw_g (lw_at lw_m0 115 rfl) rfl
theorem q119 : (Jvm.Cond.laysFinal "MarginDeskModel" "MarginDeskModel" "column" "[I") ∈ lw_all := lw_g (lw_at lw_m0 116 rfl) rfl
theorem q120 : (Jvm.Cond.soleField "MarginDeskModel" "column") ∈ lw_all := lw_g (lw_at lw_m0 117 rfl) rfl
theorem q121 : (Jvm.Cond.lays "MarginDeskModel" "MarginDeskModel" "n" "I") ∈ lw_all := lw_g (lw_at lw_m0 118 rfl) rfl
theorem q122 : (Jvm.Cond.soleField "MarginDeskModel" "n") ∈ lw_all := lw_g (lw_at lw_m0 119 rfl) rfl
theorem q123 : (Jvm.Cond.lays "MarginDeskModel" "MarginDeskModel" "m" "I") ∈ lw_all := lw_g (lw_at lw_m0 120 rfl) rfl
theorem q124 : (Jvm.Cond.soleField "MarginDeskModel" "m") ∈ lw_all := lw_g (lw_at lw_m0 121 rfl) rfl
theorem q125 : (Jvm.Cond.laysFinal "MarginDeskModel" "MarginDeskModel" "ways" "[J") ∈ lw_all := lw_g (lw_at lw_m0 122 rfl) rfl
theorem q126 : (Jvm.Cond.soleField "MarginDeskModel" "ways") ∈ lw_all := lw_g (lw_at lw_m0 123 rfl) rfl
theorem q127 : (Jvm.Cond.laysFinal "MarginDeskModel" "MarginDeskModel" "next" "[J") ∈ lw_all := lw_g (lw_at lw_m0 124 rfl) rfl
theorem q128 : (Jvm.Cond.soleField "MarginDeskModel" "next") ∈ lw_all := lw_g (lw_at lw_m0 125 rfl) rfl
theorem q129 : (Jvm.Cond.superclass "MarginDeskModel" "java/lang/Object") ∈ lw_all := lw_g (lw_at lw_m0 126 rfl) rfl
theorem q132 : (Jvm.Cond.instanceMethod ({ cls := "MarginDeskModel", name := "size", desc := "(II)V" } : Jvm.MethodName)) ∈ lw_all := lw_g (lw_at lw_m0 129 rfl) rfl
theorem q133 : (Jvm.Cond.selects "MarginDeskModel" ({ cls := "MarginDeskModel", name := "size", desc := "(II)V" } : Jvm.MethodName) ({ cls := "MarginDeskModel", name := "size", desc := "(II)V" } : Jvm.MethodName)) ∈ lw_all := lw_g (lw_at lw_m0 130 rfl) rfl
theorem q134 : (Jvm.Cond.code ({ cls := "MarginDeskModel", name := "size", desc := "(II)V" } : Jvm.MethodName) prog_4_method_2_code (4 : Nat) (Option.none : Option Jvm.ClassFile.FieldType)) ∈ lw_all := lw_g (lw_at lw_m0 131 rfl) rfl
theorem q135 : (Jvm.Cond.constant "MarginDeskModel" (30 : Nat) (2147483647 : Int32)) ∈ lw_all := lw_g (lw_at lw_m0 132 rfl) rfl
theorem q137 : (Jvm.Cond.instanceMethod ({ cls := "MarginDeskModel", name := "row", desc := "(II)V" } : Jvm.MethodName)) ∈ lw_all := lw_g (lw_at lw_m0 134 rfl) rfl
theorem q138 : (Jvm.Cond.selects "MarginDeskModel" ({ cls := "MarginDeskModel", name := "row", desc := "(II)V" } : Jvm.MethodName) ({ cls := "MarginDeskModel", name := "row", desc := "(II)V" } : Jvm.MethodName)) ∈ lw_all := lw_g (lw_at lw_m0 135 rfl) rfl
theorem q139 : (Jvm.Cond.code ({ cls := "MarginDeskModel", name := "row", desc := "(II)V" } : Jvm.MethodName) prog_4_method_3_code (3 : Nat) (Option.none : Option Jvm.ClassFile.FieldType)) ∈ lw_all := lw_g (lw_at lw_m0 136 rfl) rfl
theorem q141 : (Jvm.Cond.instanceMethod ({ cls := "MarginDeskModel", name := "column", desc := "(II)V" } : Jvm.MethodName)) ∈ lw_all := lw_g (lw_at lw_m0 138 rfl) rfl
theorem q142 : (Jvm.Cond.selects "MarginDeskModel" ({ cls := "MarginDeskModel", name := "column", desc := "(II)V" } : Jvm.MethodName) ({ cls := "MarginDeskModel", name := "column", desc := "(II)V" } : Jvm.MethodName)) ∈ lw_all := lw_g (lw_at lw_m0 139 rfl) rfl
theorem q143 : (Jvm.Cond.code ({ cls := "MarginDeskModel", name := "column", desc := "(II)V" } : Jvm.MethodName) prog_4_method_4_code (3 : Nat) (Option.none : Option Jvm.ClassFile.FieldType)) ∈ lw_all := lw_g (lw_at lw_m0 140 rfl) rfl
theorem q145 : (Jvm.Cond.instanceMethod ({ cls := "MarginDeskModel", name := "count", desc := "()J" } : Jvm.MethodName)) ∈ lw_all := lw_g (lw_at lw_m0 142 rfl) rfl
theorem q146 : (Jvm.Cond.selects "MarginDeskModel" ({ cls := "MarginDeskModel", name := "count", desc := "()J" } : Jvm.MethodName) ({ cls := "MarginDeskModel", name := "count", desc := "()J" } : Jvm.MethodName)) ∈ lw_all := lw_g (lw_at lw_m0 143 rfl) rfl
theorem q147 : (Jvm.Cond.code ({ cls := "MarginDeskModel", name := "count", desc := "()J" } : Jvm.MethodName) prog_4_method_6_code (8 : Nat) (Option.some Jvm.ClassFile.FieldType.long)) ∈ lw_all := lw_g (lw_at lw_m0 144 rfl) rfl
theorem q148 : (Jvm.Cond.methodLink "MarginDeskModel" (31 : Nat) ({ cls := "MarginDeskModel", name := "all", desc := "()I" } : Jvm.MethodName)) ∈ lw_all := lw_g (lw_at lw_m0 145 rfl) rfl
theorem q149 : (Jvm.Cond.privateMethod ({ cls := "MarginDeskModel", name := "all", desc := "()I" } : Jvm.MethodName)) ∈ lw_tbl := lw_at lw_m0 146 rfl
theorem q150 : (Jvm.Cond.instanceMethod ({ cls := "MarginDeskModel", name := "all", desc := "()I" } : Jvm.MethodName)) ∈ lw_all := lw_g (lw_at lw_m0 147 rfl) rfl
theorem q151 : (Jvm.Cond.code ({ cls := "MarginDeskModel", name := "all", desc := "()I" } : Jvm.MethodName) prog_4_method_5_code (3 : Nat) (Option.some Jvm.ClassFile.FieldType.int)) ∈ lw_all := lw_g (lw_at lw_m0 148 rfl) rfl
theorem q153 : (Jvm.Cond.instanceMethod ({ cls := "MarginDeskModel", name := "any", desc := "()Z" } : Jvm.MethodName)) ∈ lw_all := lw_g (lw_at lw_m0 150 rfl) rfl
theorem q154 : (Jvm.Cond.selects "MarginDeskModel" ({ cls := "MarginDeskModel", name := "any", desc := "()Z" } : Jvm.MethodName) ({ cls := "MarginDeskModel", name := "any", desc := "()Z" } : Jvm.MethodName)) ∈ lw_all := lw_g (lw_at lw_m0 151 rfl) rfl
theorem q155 : (Jvm.Cond.code ({ cls := "MarginDeskModel", name := "any", desc := "()Z" } : Jvm.MethodName) prog_4_method_7_code (1 : Nat) (Option.some Jvm.ClassFile.FieldType.boolean)) ∈ lw_all := lw_g (lw_at lw_m0 152 rfl) rfl
theorem q156 : (Jvm.Cond.methodLink "MarginDeskModel" (35 : Nat) ({ cls := "MarginDeskModel", name := "count", desc := "()J" } : Jvm.MethodName)) ∈ lw_all := lw_g (lw_at lw_m0 153 rfl) rfl
theorem q158 : (Jvm.Cond.instanceMethod ({ cls := "MarginDeskModel", name := "rows", desc := "()I" } : Jvm.MethodName)) ∈ lw_all := lw_g (lw_at lw_m0 155 rfl) rfl
theorem q159 : (Jvm.Cond.selects "MarginDeskModel" ({ cls := "MarginDeskModel", name := "rows", desc := "()I" } : Jvm.MethodName) ({ cls := "MarginDeskModel", name := "rows", desc := "()I" } : Jvm.MethodName)) ∈ lw_all := lw_g (lw_at lw_m0 156 rfl) rfl
theorem q160 : (Jvm.Cond.code ({ cls := "MarginDeskModel", name := "rows", desc := "()I" } : Jvm.MethodName) prog_4_method_8_code (3 : Nat) (Option.some Jvm.ClassFile.FieldType.int)) ∈ lw_all := lw_g (lw_at lw_m0 157 rfl) rfl
theorem q162 : (Jvm.Cond.instanceMethod ({ cls := "MarginDeskModel", name := "columns", desc := "()I" } : Jvm.MethodName)) ∈ lw_all := lw_g (lw_at lw_m0 159 rfl) rfl
theorem q163 : (Jvm.Cond.selects "MarginDeskModel" ({ cls := "MarginDeskModel", name := "columns", desc := "()I" } : Jvm.MethodName) ({ cls := "MarginDeskModel", name := "columns", desc := "()I" } : Jvm.MethodName)) ∈ lw_all := lw_g (lw_at lw_m0 160 rfl) rfl
theorem q164 : (Jvm.Cond.code ({ cls := "MarginDeskModel", name := "columns", desc := "()I" } : Jvm.MethodName) prog_4_method_9_code (3 : Nat) (Option.some Jvm.ClassFile.FieldType.int)) ∈ lw_all := lw_g (lw_at lw_m0 161 rfl) rfl
theorem in_X2 : ∀ w ∈ wsX20, w ∈ lw_all := lw_in wsX20 [117, 119, 121, 123, 125, 127] (by decide +kernel) (by decide +kernel)
end
section
/-! the law's own entry -/
set_option maxRecDepth 100000
abbrev cL_law : ByteArray := code
theorem dL_law_0 : decode cL_law 0 = .ok (.new 7, 3) := by decide +kernel
theorem dL_law_3 : decode cL_law 3 = .ok (.dup, 1) := by decide +kernel
theorem dL_law_4 : decode cL_law 4 = .ok (.invokespecial 9, 3) := by decide +kernel
theorem dL_law_7 : decode cL_law 7 = .ok (.astore_n 1, 1) := by decide +kernel
theorem dL_law_8 : decode cL_law 8 = .ok (.new 10, 3) := by decide +kernel
theorem dL_law_11 : decode cL_law 11 = .ok (.dup, 1) := by decide +kernel
theorem dL_law_12 : decode cL_law 12 = .ok (.invokespecial 12, 3) := by decide +kernel
theorem dL_law_15 : decode cL_law 15 = .ok (.astore_n 2, 1) := by decide +kernel
theorem dL_law_16 : decode cL_law 16 = .ok (.iconst 0, 1) := by decide +kernel
theorem dL_law_17 : decode cL_law 17 = .ok (.istore_n 3, 1) := by decide +kernel
theorem dL_law_18 : decode cL_law 18 = .ok (.iload_n 3, 1) := by decide +kernel
theorem dL_law_19 : decode cL_law 19 = .ok (.aload_n 0, 1) := by decide +kernel
theorem dL_law_20 : decode cL_law 20 = .ok (.arraylength, 1) := by decide +kernel
theorem dL_law_21 : decode cL_law 21 = .ok (.iconst 3, 1) := by decide +kernel
theorem dL_law_22 : decode cL_law 22 = .ok (.isub, 1) := by decide +kernel
theorem dL_law_23 : decode cL_law 23 = .ok (.if_icmp .gt 205, 3) := by decide +kernel
theorem dL_law_26 : decode cL_law 26 = .ok (.aload_n 0, 1) := by decide +kernel
theorem dL_law_27 : decode cL_law 27 = .ok (.iload_n 3, 1) := by decide +kernel
theorem dL_law_28 : decode cL_law 28 = .ok (.iaload, 1) := by decide +kernel
theorem dL_law_29 : decode cL_law 29 = .ok (.bipush 7, 2) := by decide +kernel
theorem dL_law_31 : decode cL_law 31 = .ok (.iand, 1) := by decide +kernel
theorem dL_law_32 : decode cL_law 32 = .ok (.tableswitch 190 0 6 #[44, 75, 106, 137, 151, 164, 177], 44) := by decide +kernel
theorem dL_law_76 : decode cL_law 76 = .ok (.aload_n 1, 1) := by decide +kernel
theorem dL_law_77 : decode cL_law 77 = .ok (.aload_n 0, 1) := by decide +kernel
theorem dL_law_78 : decode cL_law 78 = .ok (.iload_n 3, 1) := by decide +kernel
theorem dL_law_79 : decode cL_law 79 = .ok (.iconst 1, 1) := by decide +kernel
theorem dL_law_80 : decode cL_law 80 = .ok (.iadd, 1) := by decide +kernel
theorem dL_law_81 : decode cL_law 81 = .ok (.iaload, 1) := by decide +kernel
theorem dL_law_82 : decode cL_law 82 = .ok (.aload_n 0, 1) := by decide +kernel
theorem dL_law_83 : decode cL_law 83 = .ok (.iload_n 3, 1) := by decide +kernel
theorem dL_law_84 : decode cL_law 84 = .ok (.iconst 2, 1) := by decide +kernel
theorem dL_law_85 : decode cL_law 85 = .ok (.iadd, 1) := by decide +kernel
theorem dL_law_86 : decode cL_law 86 = .ok (.iaload, 1) := by decide +kernel
theorem dL_law_87 : decode cL_law 87 = .ok (.invokevirtual 13, 3) := by decide +kernel
theorem dL_law_90 : decode cL_law 90 = .ok (.aload_n 2, 1) := by decide +kernel
theorem dL_law_91 : decode cL_law 91 = .ok (.aload_n 0, 1) := by decide +kernel
theorem dL_law_92 : decode cL_law 92 = .ok (.iload_n 3, 1) := by decide +kernel
theorem dL_law_93 : decode cL_law 93 = .ok (.iconst 1, 1) := by decide +kernel
theorem dL_law_94 : decode cL_law 94 = .ok (.iadd, 1) := by decide +kernel
theorem dL_law_95 : decode cL_law 95 = .ok (.iaload, 1) := by decide +kernel
theorem dL_law_96 : decode cL_law 96 = .ok (.aload_n 0, 1) := by decide +kernel
theorem dL_law_97 : decode cL_law 97 = .ok (.iload_n 3, 1) := by decide +kernel
theorem dL_law_98 : decode cL_law 98 = .ok (.iconst 2, 1) := by decide +kernel
theorem dL_law_99 : decode cL_law 99 = .ok (.iadd, 1) := by decide +kernel
theorem dL_law_100 : decode cL_law 100 = .ok (.iaload, 1) := by decide +kernel
theorem dL_law_101 : decode cL_law 101 = .ok (.invokevirtual 17, 3) := by decide +kernel
theorem dL_law_104 : decode cL_law 104 = .ok (.goto 118, 3) := by decide +kernel
theorem dL_law_107 : decode cL_law 107 = .ok (.aload_n 1, 1) := by decide +kernel
theorem dL_law_108 : decode cL_law 108 = .ok (.aload_n 0, 1) := by decide +kernel
theorem dL_law_109 : decode cL_law 109 = .ok (.iload_n 3, 1) := by decide +kernel
theorem dL_law_110 : decode cL_law 110 = .ok (.iconst 1, 1) := by decide +kernel
theorem dL_law_111 : decode cL_law 111 = .ok (.iadd, 1) := by decide +kernel
theorem dL_law_112 : decode cL_law 112 = .ok (.iaload, 1) := by decide +kernel
theorem dL_law_113 : decode cL_law 113 = .ok (.aload_n 0, 1) := by decide +kernel
theorem dL_law_114 : decode cL_law 114 = .ok (.iload_n 3, 1) := by decide +kernel
theorem dL_law_115 : decode cL_law 115 = .ok (.iconst 2, 1) := by decide +kernel
theorem dL_law_116 : decode cL_law 116 = .ok (.iadd, 1) := by decide +kernel
theorem dL_law_117 : decode cL_law 117 = .ok (.iaload, 1) := by decide +kernel
theorem dL_law_118 : decode cL_law 118 = .ok (.invokevirtual 18, 3) := by decide +kernel
theorem dL_law_121 : decode cL_law 121 = .ok (.aload_n 2, 1) := by decide +kernel
theorem dL_law_122 : decode cL_law 122 = .ok (.aload_n 0, 1) := by decide +kernel
theorem dL_law_123 : decode cL_law 123 = .ok (.iload_n 3, 1) := by decide +kernel
theorem dL_law_124 : decode cL_law 124 = .ok (.iconst 1, 1) := by decide +kernel
theorem dL_law_125 : decode cL_law 125 = .ok (.iadd, 1) := by decide +kernel
theorem dL_law_126 : decode cL_law 126 = .ok (.iaload, 1) := by decide +kernel
theorem dL_law_127 : decode cL_law 127 = .ok (.aload_n 0, 1) := by decide +kernel
theorem dL_law_128 : decode cL_law 128 = .ok (.iload_n 3, 1) := by decide +kernel
theorem dL_law_129 : decode cL_law 129 = .ok (.iconst 2, 1) := by decide +kernel
theorem dL_law_130 : decode cL_law 130 = .ok (.iadd, 1) := by decide +kernel
theorem dL_law_131 : decode cL_law 131 = .ok (.iaload, 1) := by decide +kernel
theorem dL_law_132 : decode cL_law 132 = .ok (.invokevirtual 21, 3) := by decide +kernel
theorem dL_law_135 : decode cL_law 135 = .ok (.goto 87, 3) := by decide +kernel
theorem dL_law_138 : decode cL_law 138 = .ok (.aload_n 1, 1) := by decide +kernel
theorem dL_law_139 : decode cL_law 139 = .ok (.aload_n 0, 1) := by decide +kernel
theorem dL_law_140 : decode cL_law 140 = .ok (.iload_n 3, 1) := by decide +kernel
theorem dL_law_141 : decode cL_law 141 = .ok (.iconst 1, 1) := by decide +kernel
theorem dL_law_142 : decode cL_law 142 = .ok (.iadd, 1) := by decide +kernel
theorem dL_law_143 : decode cL_law 143 = .ok (.iaload, 1) := by decide +kernel
theorem dL_law_144 : decode cL_law 144 = .ok (.aload_n 0, 1) := by decide +kernel
theorem dL_law_145 : decode cL_law 145 = .ok (.iload_n 3, 1) := by decide +kernel
theorem dL_law_146 : decode cL_law 146 = .ok (.iconst 2, 1) := by decide +kernel
theorem dL_law_147 : decode cL_law 147 = .ok (.iadd, 1) := by decide +kernel
theorem dL_law_148 : decode cL_law 148 = .ok (.iaload, 1) := by decide +kernel
theorem dL_law_149 : decode cL_law 149 = .ok (.invokevirtual 22, 3) := by decide +kernel
theorem dL_law_152 : decode cL_law 152 = .ok (.aload_n 2, 1) := by decide +kernel
theorem dL_law_153 : decode cL_law 153 = .ok (.aload_n 0, 1) := by decide +kernel
theorem dL_law_154 : decode cL_law 154 = .ok (.iload_n 3, 1) := by decide +kernel
theorem dL_law_155 : decode cL_law 155 = .ok (.iconst 1, 1) := by decide +kernel
theorem dL_law_156 : decode cL_law 156 = .ok (.iadd, 1) := by decide +kernel
theorem dL_law_157 : decode cL_law 157 = .ok (.iaload, 1) := by decide +kernel
theorem dL_law_158 : decode cL_law 158 = .ok (.aload_n 0, 1) := by decide +kernel
theorem dL_law_159 : decode cL_law 159 = .ok (.iload_n 3, 1) := by decide +kernel
theorem dL_law_160 : decode cL_law 160 = .ok (.iconst 2, 1) := by decide +kernel
theorem dL_law_161 : decode cL_law 161 = .ok (.iadd, 1) := by decide +kernel
theorem dL_law_162 : decode cL_law 162 = .ok (.iaload, 1) := by decide +kernel
theorem dL_law_163 : decode cL_law 163 = .ok (.invokevirtual 25, 3) := by decide +kernel
theorem dL_law_166 : decode cL_law 166 = .ok (.goto 56, 3) := by decide +kernel
theorem dL_law_169 : decode cL_law 169 = .ok (.aload_n 1, 1) := by decide +kernel
theorem dL_law_170 : decode cL_law 170 = .ok (.invokevirtual 26, 3) := by decide +kernel
theorem dL_law_173 : decode cL_law 173 = .ok (.aload_n 2, 1) := by decide +kernel
theorem dL_law_174 : decode cL_law 174 = .ok (.invokevirtual 30, 3) := by decide +kernel
theorem dL_law_177 : decode cL_law 177 = .ok (.lcmp, 1) := by decide +kernel
theorem dL_law_178 : decode cL_law 178 = .ok (.ifCond .eq 44, 3) := by decide +kernel
theorem dL_law_181 : decode cL_law 181 = .ok (.iconst 0, 1) := by decide +kernel
theorem dL_law_182 : decode cL_law 182 = .ok (.ireturn, 1) := by decide +kernel
theorem dL_law_183 : decode cL_law 183 = .ok (.aload_n 1, 1) := by decide +kernel
theorem dL_law_184 : decode cL_law 184 = .ok (.invokevirtual 31, 3) := by decide +kernel
theorem dL_law_187 : decode cL_law 187 = .ok (.aload_n 2, 1) := by decide +kernel
theorem dL_law_188 : decode cL_law 188 = .ok (.invokevirtual 35, 3) := by decide +kernel
theorem dL_law_191 : decode cL_law 191 = .ok (.if_icmp .eq 31, 3) := by decide +kernel
theorem dL_law_194 : decode cL_law 194 = .ok (.iconst 0, 1) := by decide +kernel
theorem dL_law_195 : decode cL_law 195 = .ok (.ireturn, 1) := by decide +kernel
theorem dL_law_196 : decode cL_law 196 = .ok (.aload_n 1, 1) := by decide +kernel
theorem dL_law_197 : decode cL_law 197 = .ok (.invokevirtual 36, 3) := by decide +kernel
theorem dL_law_200 : decode cL_law 200 = .ok (.aload_n 2, 1) := by decide +kernel
theorem dL_law_201 : decode cL_law 201 = .ok (.invokevirtual 40, 3) := by decide +kernel
theorem dL_law_204 : decode cL_law 204 = .ok (.if_icmp .eq 18, 3) := by decide +kernel
theorem dL_law_207 : decode cL_law 207 = .ok (.iconst 0, 1) := by decide +kernel
theorem dL_law_208 : decode cL_law 208 = .ok (.ireturn, 1) := by decide +kernel
theorem dL_law_209 : decode cL_law 209 = .ok (.aload_n 1, 1) := by decide +kernel
theorem dL_law_210 : decode cL_law 210 = .ok (.invokevirtual 41, 3) := by decide +kernel
theorem dL_law_213 : decode cL_law 213 = .ok (.aload_n 2, 1) := by decide +kernel
theorem dL_law_214 : decode cL_law 214 = .ok (.invokevirtual 44, 3) := by decide +kernel
theorem dL_law_217 : decode cL_law 217 = .ok (.if_icmp .eq 5, 3) := by decide +kernel
theorem dL_law_220 : decode cL_law 220 = .ok (.iconst 0, 1) := by decide +kernel
theorem dL_law_221 : decode cL_law 221 = .ok (.ireturn, 1) := by decide +kernel
theorem dL_law_222 : decode cL_law 222 = .ok (.iinc 3 3, 3) := by decide +kernel
theorem dL_law_225 : decode cL_law 225 = .ok (.goto (-207), 3) := by decide +kernel
theorem dL_law_228 : decode cL_law 228 = .ok (.iconst 1, 1) := by decide +kernel
theorem dL_law_229 : decode cL_law 229 = .ok (.ireturn, 1) := by decide +kernel
theorem q3 : (Jvm.Cond.initialized "MarginDeskLaw") ∈ lw_all := lw_g (lw_at lw_m0 0 rfl) rfl
set_option maxRecDepth 100000
theorem q8 : (Jvm.Cond.classLink "MarginDeskLaw" (7 : Nat) "MarginDesk") ∈ lw_all := lw_g (lw_at lw_m0 5 rfl) rfl
theorem q10 : (Jvm.Cond.methodLink "MarginDeskLaw" (9 : Nat) ({ cls := "MarginDesk", name := "<init>", desc := "()V" } : Jvm.MethodName)) ∈ lw_all := lw_g (lw_at lw_m0 7 rfl) rfl
theorem q52 : (Jvm.Cond.methodLink "MarginDeskLaw" (13 : Nat) ({ cls := "MarginDesk", name := "size", desc := "(II)V" } : Jvm.MethodName)) ∈ lw_all := lw_g (lw_at lw_m0 49 rfl) rfl
theorem q57 : (Jvm.Cond.methodLink "MarginDeskLaw" (18 : Nat) ({ cls := "MarginDesk", name := "row", desc := "(II)V" } : Jvm.MethodName)) ∈ lw_all := lw_g (lw_at lw_m0 54 rfl) rfl
theorem q61 : (Jvm.Cond.methodLink "MarginDeskLaw" (22 : Nat) ({ cls := "MarginDesk", name := "column", desc := "(II)V" } : Jvm.MethodName)) ∈ lw_all := lw_g (lw_at lw_m0 58 rfl) rfl
theorem q65 : (Jvm.Cond.methodLink "MarginDeskLaw" (26 : Nat) ({ cls := "MarginDesk", name := "count", desc := "()J" } : Jvm.MethodName)) ∈ lw_all := lw_g (lw_at lw_m0 62 rfl) rfl
theorem q85 : (Jvm.Cond.methodLink "MarginDeskLaw" (31 : Nat) ({ cls := "MarginDesk", name := "any", desc := "()Z" } : Jvm.MethodName)) ∈ lw_all := lw_g (lw_at lw_m0 82 rfl) rfl
theorem q103 : (Jvm.Cond.methodLink "MarginDeskLaw" (36 : Nat) ({ cls := "MarginDesk", name := "rows", desc := "()I" } : Jvm.MethodName)) ∈ lw_all := lw_g (lw_at lw_m0 100 rfl) rfl
theorem q104 : (Jvm.Cond.methodLink "MarginDeskLaw" (41 : Nat) ({ cls := "MarginDesk", name := "columns", desc := "()I" } : Jvm.MethodName)) ∈ lw_all := lw_g (lw_at lw_m0 101 rfl) rfl
theorem q105 : (Jvm.Cond.classLink "MarginDeskLaw" (10 : Nat) "MarginDeskModel") ∈ lw_all := lw_g (lw_at lw_m0 102 rfl) rfl
theorem q107 : (Jvm.Cond.methodLink "MarginDeskLaw" (12 : Nat) ({ cls := "MarginDeskModel", name := "<init>", desc := "()V" } : Jvm.MethodName)) ∈ lw_all := lw_g (lw_at lw_m0 104 rfl) rfl
theorem q131 : (Jvm.Cond.methodLink "MarginDeskLaw" (17 : Nat) ({ cls := "MarginDeskModel", name := "size", desc := "(II)V" } : Jvm.MethodName)) ∈ lw_all := lw_g (lw_at lw_m0 128 rfl) rfl
theorem q136 : (Jvm.Cond.methodLink "MarginDeskLaw" (21 : Nat) ({ cls := "MarginDeskModel", name := "row", desc := "(II)V" } : Jvm.MethodName)) ∈ lw_all := lw_g (lw_at lw_m0 133 rfl) rfl
theorem q140 : (Jvm.Cond.methodLink "MarginDeskLaw" (25 : Nat) ({ cls := "MarginDeskModel", name := "column", desc := "(II)V" } : Jvm.MethodName)) ∈ lw_all := lw_g (lw_at lw_m0 137 rfl) rfl
theorem q144 : (Jvm.Cond.methodLink "MarginDeskLaw" (30 : Nat) ({ cls := "MarginDeskModel", name := "count", desc := "()J" } : Jvm.MethodName)) ∈ lw_all := lw_g (lw_at lw_m0 141 rfl) rfl
theorem q152 : (Jvm.Cond.methodLink "MarginDeskLaw" (35 : Nat) ({ cls := "MarginDeskModel", name := "any", desc := "()Z" } : Jvm.MethodName)) ∈ lw_all := lw_g (lw_at lw_m0 149 rfl) rfl
theorem q157 : (Jvm.Cond.methodLink "MarginDeskLaw" (40 : Nat) ({ cls := "MarginDeskModel", name := "rows", desc := "()I" } : Jvm.MethodName)) ∈ lw_all := lw_g (lw_at lw_m0 154 rfl) rfl
theorem q161 : (Jvm.Cond.methodLink "MarginDeskLaw" (44 : Nat) ({ cls := "MarginDeskModel", name := "columns", desc := "()I" } : Jvm.MethodName)) ∈ lw_all := lw_g (lw_at lw_m0 158 rfl) rfl
end
section
/-! numbers: rows of kit/laws/BITS.to-paste (wb_, g_, pf_), then rows of my own (nv_): instructions over nI and lN of Nats; worlds, contracts and calls in one form (md_Met, md_cV..) -/
theorem wb_tb (n : Nat) : (lN n).toBitVec = BitVec.ofNat 64 n := rfl
theorem wb_inj {a b : Int64} (h : a.toBitVec = b.toBitVec) : a = b := Int64.toBitVec_inj.mp h
theorem wb_tn {n : Nat} (h : n < 2 ^ 64) : (lN n).toBitVec.toNat = n := by rw [wb_tb, BitVec.toNat_ofNat, Nat.mod_eq_of_lt h]
theorem wb_c : ∀ k, k < 64 → ((nI k).toInt64 &&& 63) = lN k := by decide +kernel
theorem wb_sm : ∀ k, k < 64 → (BitVec.ofNat 64 k).smod 64 = BitVec.ofNat 64 k := by decide +kernel
theorem wb_shl (n : Nat) {k : Nat} (hk : k < 64) : lN n <<< ((nI k).toInt64 &&& 63) = lN (n * 2 ^ k) := by
  rw [wb_c k hk]
  apply wb_inj
  rw [Int64.toBitVec_shiftLeft, wb_tb, wb_tb, wb_tb, wb_sm k hk]
  apply BitVec.eq_of_toNat_eq
  rw [BitVec.shiftLeft_eq', BitVec.toNat_shiftLeft, BitVec.toNat_ofNat, BitVec.toNat_ofNat, BitVec.toNat_ofNat, Nat.mod_eq_of_lt (show k < 2 ^ 64 by omega), Nat.shiftLeft_eq, Nat.mul_mod, Nat.mod_mod, ← Nat.mul_mod]
theorem u_tn {n : Nat} (h : n < 2 ^ 64) : (UInt64.ofNat n).toNat = n := Nat.mod_eq_of_lt h
theorem g_and {a b c : Nat} (ha : a < 2 ^ 64) (hb : b < 2 ^ 64) (hc : a &&& b = c) : lN a &&& lN b = lN c := by
  subst hc
  have h : UInt64.ofNat a &&& UInt64.ofNat b = UInt64.ofNat (a &&& b) := UInt64.toNat_inj.mp (by rw [UInt64.toNat_and, u_tn ha, u_tn hb, u_tn (Nat.and_lt_two_pow a hb)])
  have h2 := congrArg UInt64.toInt64 h
  exact h2
theorem g_mask {a s p : Nat} (hp : 2 ^ s = p) (hs : s < 64) (ha : a < 2 ^ 64) : lN a &&& lN (p - 1) = lN (a % p) := by
  subst hp
  have := Nat.pow_lt_pow_right (show 1 < 2 by decide) hs
  exact g_and ha (by omega) (Nat.and_two_pow_sub_one_eq_mod a s)
theorem g_or {k p a b : Nat} (hp : 2 ^ k = p) (ha : a < p) (h : b * p + a < 2 ^ 64) : lN (b * p) ||| lN a = lN (b * p + a) := by
  subst hp
  have h1 : b * 2 ^ k ||| a = b * 2 ^ k + a := by rw [← Nat.shiftLeft_eq, Nat.shiftLeft_add_eq_or_of_lt ha]
  have h3 : UInt64.ofNat (b * 2 ^ k) ||| UInt64.ofNat a = UInt64.ofNat (b * 2 ^ k + a) := UInt64.toNat_inj.mp (by rw [UInt64.toNat_or, u_tn (by omega), u_tn (by omega), u_tn h, h1])
  have h2 := congrArg UInt64.toInt64 h3
  exact h2
theorem pf_lI {a : Nat} (h : a < 2 ^ 63) : (lN a).toInt = (a : Int) := lg_ofNat_toInt h
theorem pf_shr {a d : Nat} {D : Int64} (hD : (D.toBitVec.smod 64).toNat = d) (h : a < 2 ^ 62) : lN a >>> D = lN (a / 2 ^ d) := by
  have hd : a / 2 ^ d ≤ a := Nat.div_le_self _ _
  apply Int64.toInt_inj.mp
  have e : (lN a >>> D).toInt = (lN a).toInt >>> d := by
    rw [← hD]
    exact BitVec.toInt_sshiftRight ..
  rw [e, Int.shiftRight_eq_div_pow, pf_lI (by omega), pf_lI (by omega)]
  rfl
def md_iA (g : Nat → Nat) : Nat → Int32 := fun j => nI (g j)
def md_lA (g : Nat → Nat) : Nat → Int64 := fun j => lN (g j)
theorem md_iA_up (g : Nat → Nat) (k x : Nat) : upd (md_iA g) k (nI x) = md_iA (md_up g k x) := by
  funext j
  by_cases h : j = k
  · subst h; rw [pk_us]; simp [md_iA, md_up]
  · rw [pk_un h]; simp [md_iA, md_up, h]
theorem md_lA_up (g : Nat → Nat) (k x : Nat) : vp_updL (md_lA g) k (lN x) = md_lA (md_up g k x) := by
  funext j
  by_cases h : j = k
  · subst h; rw [pk_uLs]; simp [md_lA, md_up]
  · rw [pk_uLn h]; simp [md_lA, md_up, h]
/-- one less, where 0 goes to -1 -/
def md_p (j : Nat) : Int32 := nI j - 1
theorem md_p_S (j : Nat) : md_p (j + 1) = nI j := nI_pred j
theorem md_p_0 : md_p 0 < 0 := by decide
theorem nv_inc1 (n : Nat) : nI n + Int32.ofInt 1 = nI (n + 1) := nI_1 n
theorem nv_inc3 (n : Nat) : nI n + Int32.ofInt 3 = nI (n + 3) := nI_add n 3
theorem nv_dec (n : Nat) : nI n + Int32.ofInt (-1) = md_p n := by
  show nI n + (-1) = nI n - 1
  grind
theorem nv_dec1 (n : Nat) : nI (n + 1) + Int32.ofInt (-1) = nI n := pk_m1 n
theorem nv_cmp0 {x y : Nat} (hx : x < 2 ^ 63) (hy : y < 2 ^ 63) : lg_cmp (lN x) (lN y) = 0 ↔ x = y := by
  unfold lg_cmp
  by_cases h : y < x
  · rw [if_pos ((pk_lLT hy hx).mpr h)]
    constructor
    · intro q; exact absurd q (by decide)
    · intro q; omega
  · rw [if_neg (fun q => h ((pk_lLT hy hx).mp q))]
    by_cases e : x = y
    · rw [if_pos (by rw [e])]; exact ⟨fun _ => e, fun _ => rfl⟩
    · rw [if_neg (fun q => e ((pk_lEQ hx hy).mp q))]
      constructor
      · intro q; exact absurd q (by decide)
      · intro q; exact absurd q e
theorem nv_cmpE (x : Int64) : lg_cmp x x = 0 := by simp [lg_cmp]
theorem nv_cmpLe {x y : Nat} (hx : x < 2 ^ 63) (hy : y < 2 ^ 63) : lg_cmp (lN x) (lN y) ≤ 0 ↔ x ≤ y := by
  unfold lg_cmp
  by_cases h : y < x
  · rw [if_pos ((pk_lLT hy hx).mpr h)]
    constructor
    · intro q; exact absurd q (by decide)
    · intro q; omega
  · rw [if_neg (fun q => h ((pk_lLT hy hx).mp q))]
    by_cases e : x = y
    · rw [if_pos (by rw [e])]; exact ⟨fun _ => by omega, fun _ => by decide⟩
    · rw [if_neg (fun q => e ((pk_lEQ hx hy).mp q))]
      exact ⟨fun _ => by omega, fun _ => by decide⟩
section NV
variable {p : Program} {l : Launch} {e : Env} {R : Room} {s : State} {m : MethodId} {args : Array Value} {below : List Frame} {meth : Method} {c : Code} {H : Heap} {locs : List Loc} {cells slots : Nat} {Q : State → Prop}
variable {cc : ByteArray} {pc : Nat} {ls : Array Slot} {rest : List Value} {D : va_G} {cl : List vw_C} {A : Nat → Prop} {a : Nat} {tys : List (ClassId × FieldType)} {ws : va_W} {H0 : Heap}
theorem nv_i {x y : Int32} (h : x = y) (k : W p l e R s m args below meth c H locs cells slots Q (F0 m pc ls (.int y :: rest))) : W p l e R s m args below meth c H locs cells slots Q (F0 m pc ls (.int x :: rest)) := h ▸ k
theorem nv_l {x y : Int64} (h : x = y) (k : W p l e R s m args below meth c H locs cells slots Q (F0 m pc ls (.long y :: rest))) : W p l e R s m args below meth c H locs cells slots Q (F0 m pc ls (.long x :: rest)) := h ▸ k
theorem nv_add (hx : p.tables.exec = Jvm.exec) (hb : c.code = cc) {x y : Nat} (hdg : decode cc pc = .ok (.iadd, 1)) (k : W p l e R s m args below meth c H locs cells slots Q (F0 m (pc + 1) ls (.int (nI (x + y)) :: rest))) : W p l e R s m args below meth c H locs cells slots Q (F0 m pc ls (.int (nI y) :: .int (nI x) :: rest)) := lv_iadd hx hb hdg (nv_i (nI_add x y) k)
theorem nv_sub (hx : p.tables.exec = Jvm.exec) (hb : c.code = cc) {x y : Nat} (h : y ≤ x) (hdg : decode cc pc = .ok (.isub, 1)) (k : W p l e R s m args below meth c H locs cells slots Q (F0 m (pc + 1) ls (.int (nI (x - y)) :: rest))) : W p l e R s m args below meth c H locs cells slots Q (F0 m pc ls (.int (nI y) :: .int (nI x) :: rest)) := lv_isub hx hb hdg (nv_i (pk_sub h) k)
theorem nv_mul (hx : p.tables.exec = Jvm.exec) (hb : c.code = cc) {x y : Nat} (hdg : decode cc pc = .ok (.imul, 1)) (k : W p l e R s m args below meth c H locs cells slots Q (F0 m (pc + 1) ls (.int (nI (x * y)) :: rest))) : W p l e R s m args below meth c H locs cells slots Q (F0 m pc ls (.int (nI y) :: .int (nI x) :: rest)) := lv_imul hx hb hdg (nv_i (pk_mul x y) k)
theorem nv_rem (hx : p.tables.exec = Jvm.exec) (hb : c.code = cc) {x y : Nat} (h1 : x < 2 ^ 31) (h0 : 0 < y) (h2 : y < 2 ^ 31) (hdg : decode cc pc = .ok (.irem, 1)) (k : W p l e R s m args below meth c H locs cells slots Q (F0 m (pc + 1) ls (.int (nI (x % y)) :: rest))) : W p l e R s m args below meth c H locs cells slots Q (F0 m pc ls (.int (nI y) :: .int (nI x) :: rest)) := lv_irem hx hb hdg (nI_ne0 h0 h2) (nv_i (pk_rem h1 h0 h2) k)
theorem nv_ladd (hx : p.tables.exec = Jvm.exec) (hb : c.code = cc) {x y : Nat} (hdg : decode cc pc = .ok (.ladd, 1)) (k : W p l e R s m args below meth c H locs cells slots Q (F0 m (pc + 1) ls (.long (lN (x + y)) :: rest))) : W p l e R s m args below meth c H locs cells slots Q (F0 m pc ls (.long (lN y) :: .long (lN x) :: rest)) := lv_ladd hx hb hdg (nv_l (lN_add x y) k)
theorem nv_lmul (hx : p.tables.exec = Jvm.exec) (hb : c.code = cc) {x y : Nat} (hdg : decode cc pc = .ok (.lmul, 1)) (k : W p l e R s m args below meth c H locs cells slots Q (F0 m (pc + 1) ls (.long (lN (x * y)) :: rest))) : W p l e R s m args below meth c H locs cells slots Q (F0 m pc ls (.long (lN y) :: .long (lN x) :: rest)) := lv_lmul hx hb hdg (nv_l (lN_mul x y) k)
theorem nv_ldiv (hx : p.tables.exec = Jvm.exec) (hb : c.code = cc) {x y : Nat} (h1 : x < 2 ^ 63) (h0 : 0 < y) (h2 : y < 2 ^ 63) (hdg : decode cc pc = .ok (.ldiv, 1)) (k : W p l e R s m args below meth c H locs cells slots Q (F0 m (pc + 1) ls (.long (lN (x / y)) :: rest))) : W p l e R s m args below meth c H locs cells slots Q (F0 m pc ls (.long (lN y) :: .long (lN x) :: rest)) :=
  lv_ldiv hx hb hdg (fun q => by have := (pk_lEQ h2 (by decide : 0 < 2 ^ 63)).mp q; omega) (nv_l (pk_lDiv h1 h0 h2) k)
theorem nv_i2l (hx : p.tables.exec = Jvm.exec) (hb : c.code = cc) {x : Nat} (h : x < 2 ^ 31) (hdg : decode cc pc = .ok (.i2l, 1)) (k : W p l e R s m args below meth c H locs cells slots Q (F0 m (pc + 1) ls (.long (lN x) :: rest))) : W p l e R s m args below meth c H locs cells slots Q (F0 m pc ls (.int (nI x) :: rest)) := lv_i2l hx hb hdg (nI_l h) k
theorem nv_l2i (hx : p.tables.exec = Jvm.exec) (hb : c.code = cc) {x : Nat} (hdg : decode cc pc = .ok (.l2i, 1)) (k : W p l e R s m args below meth c H locs cells slots Q (F0 m (pc + 1) ls (.int (nI x) :: rest))) : W p l e R s m args below meth c H locs cells slots Q (F0 m pc ls (.long (lN x) :: rest)) := lv_l2i hx hb hdg (lN_i x) k
/-- shifts by four, and 'or' of a nibble -/
theorem nv_shl4 (hx : p.tables.exec = Jvm.exec) (hb : c.code = cc) {x : Nat} (hdg : decode cc pc = .ok (.lshl, 1)) (k : W p l e R s m args below meth c H locs cells slots Q (F0 m (pc + 1) ls (.long (lN (x * 16)) :: rest))) : W p l e R s m args below meth c H locs cells slots Q (F0 m pc ls (.int (nI 4) :: .long (lN x) :: rest)) := lv_lshl hx hb hdg (wb_shl x (k := 4) (by decide)) k
theorem nv_shr4 (hx : p.tables.exec = Jvm.exec) (hb : c.code = cc) {x : Nat} (h : x < 2 ^ 62) (hdg : decode cc pc = .ok (.lshr, 1)) (k : W p l e R s m args below meth c H locs cells slots Q (F0 m (pc + 1) ls (.long (lN (x / 16)) :: rest))) : W p l e R s m args below meth c H locs cells slots Q (F0 m pc ls (.int (nI 4) :: .long (lN x) :: rest)) := lv_lshr hx hb hdg (pf_shr (d := 4) (by decide) h) k
theorem nv_lor (hx : p.tables.exec = Jvm.exec) (hb : c.code = cc) {x y : Nat} (h1 : y < 16) (h2 : x * 16 + y < 2 ^ 64) (hdg : decode cc pc = .ok (.lor, 1)) (k : W p l e R s m args below meth c H locs cells slots Q (F0 m (pc + 1) ls (.long (lN (x * 16 + y)) :: rest))) : W p l e R s m args below meth c H locs cells slots Q (F0 m pc ls (.long (lN y) :: .long (lN (x * 16)) :: rest)) := lv_lor hx hb hdg (nv_l (g_or (k := 4) (p := 16) (by decide) h1 h2) k)
theorem nv_land (hx : p.tables.exec = Jvm.exec) (hb : c.code = cc) {x : Nat} (h1 : x < 2 ^ 64) (hdg : decode cc pc = .ok (.land, 1)) (k : W p l e R s m args below meth c H locs cells slots Q (F0 m (pc + 1) ls (.long (lN (x % 16)) :: rest))) : W p l e R s m args below meth c H locs cells slots Q (F0 m pc ls (.long (15 : Int64) :: .long (lN x) :: rest)) := lv_land hx hb hdg (nv_l (g_mask (s := 4) (p := 16) (by decide) (by decide) h1) k)
/-! branches -/
theorem nv_ge (hx : p.tables.exec = Jvm.exec) (hb : c.code = cc) {x y : Nat} (h1 : x < 2 ^ 31) (h2 : y < 2 ^ 31) {off : Int} {tgt : Nat} (hdg : decode cc pc = .ok (.if_icmp .ge off, 3)) (ht : (pc : Int) + off = (tgt : Int)) (kt : y ≤ x → W p l e R s m args below meth c H locs cells slots Q (F0 m tgt ls rest)) (kf : x < y → W p l e R s m args below meth c H locs cells slots Q (F0 m (pc + 3) ls rest)) : W p l e R s m args below meth c H locs cells slots Q (F0 m pc ls (.int (nI y) :: .int (nI x) :: rest)) :=
  lv_icmp_ge hx hb hdg ht (fun q => kt ((nI_leI h2 h1).mp q)) (fun q => kf (Nat.lt_of_not_le (fun z => q ((nI_leI h2 h1).mpr z))))
theorem nv_gt (hx : p.tables.exec = Jvm.exec) (hb : c.code = cc) {x y : Nat} (h1 : x < 2 ^ 31) (h2 : y < 2 ^ 31) {off : Int} {tgt : Nat} (hdg : decode cc pc = .ok (.if_icmp .gt off, 3)) (ht : (pc : Int) + off = (tgt : Int)) (kt : y < x → W p l e R s m args below meth c H locs cells slots Q (F0 m tgt ls rest)) (kf : x ≤ y → W p l e R s m args below meth c H locs cells slots Q (F0 m (pc + 3) ls rest)) : W p l e R s m args below meth c H locs cells slots Q (F0 m pc ls (.int (nI y) :: .int (nI x) :: rest)) :=
  lv_icmp_gt hx hb hdg ht (fun q => kt ((nI_ltI h2 h1).mp q)) (fun q => kf (Nat.le_of_not_lt (fun z => q ((nI_ltI h2 h1).mpr z))))
theorem nv_le (hx : p.tables.exec = Jvm.exec) (hb : c.code = cc) {x y : Nat} (h1 : x < 2 ^ 31) (h2 : y < 2 ^ 31) {off : Int} {tgt : Nat} (hdg : decode cc pc = .ok (.if_icmp .le off, 3)) (ht : (pc : Int) + off = (tgt : Int)) (kt : x ≤ y → W p l e R s m args below meth c H locs cells slots Q (F0 m tgt ls rest)) (kf : y < x → W p l e R s m args below meth c H locs cells slots Q (F0 m (pc + 3) ls rest)) : W p l e R s m args below meth c H locs cells slots Q (F0 m pc ls (.int (nI y) :: .int (nI x) :: rest)) :=
  lv_icmp_le hx hb hdg ht (fun q => kt ((nI_leI h1 h2).mp q)) (fun q => kf (Nat.lt_of_not_le (fun z => q ((nI_leI h1 h2).mpr z))))
theorem nv_eq (hx : p.tables.exec = Jvm.exec) (hb : c.code = cc) {x y : Nat} (h1 : x < 2 ^ 31) (h2 : y < 2 ^ 31) {off : Int} {tgt : Nat} (hdg : decode cc pc = .ok (.if_icmp .eq off, 3)) (ht : (pc : Int) + off = (tgt : Int)) (kt : x = y → W p l e R s m args below meth c H locs cells slots Q (F0 m tgt ls rest)) (kf : ¬ x = y → W p l e R s m args below meth c H locs cells slots Q (F0 m (pc + 3) ls rest)) : W p l e R s m args below meth c H locs cells slots Q (F0 m pc ls (.int (nI y) :: .int (nI x) :: rest)) :=
  lv_icmp_eq hx hb hdg ht (fun q => kt ((nI_eq h1 h2).mp q)) (fun q => kf (fun z => q ((nI_eq h1 h2).mpr z)))
theorem nv_ne (hx : p.tables.exec = Jvm.exec) (hb : c.code = cc) {x y : Nat} (h1 : x < 2 ^ 31) (h2 : y < 2 ^ 31) {off : Int} {tgt : Nat} (hdg : decode cc pc = .ok (.if_icmp .ne off, 3)) (ht : (pc : Int) + off = (tgt : Int)) (kt : ¬ x = y → W p l e R s m args below meth c H locs cells slots Q (F0 m tgt ls rest)) (kf : x = y → W p l e R s m args below meth c H locs cells slots Q (F0 m (pc + 3) ls rest)) : W p l e R s m args below meth c H locs cells slots Q (F0 m pc ls (.int (nI y) :: .int (nI x) :: rest)) :=
  lv_icmp_ne hx hb hdg ht (fun q => kt (fun z => q ((nI_eq h1 h2).mpr z))) (fun q => kf ((nI_eq h1 h2).mp q))
theorem nv_ifne (hx : p.tables.exec = Jvm.exec) (hb : c.code = cc) {x : Nat} (h1 : x < 2 ^ 31) {off : Int} {tgt : Nat} (hdg : decode cc pc = .ok (.ifCond .ne off, 3)) (ht : (pc : Int) + off = (tgt : Int)) (kt : ¬ x = 0 → W p l e R s m args below meth c H locs cells slots Q (F0 m tgt ls rest)) (kf : x = 0 → W p l e R s m args below meth c H locs cells slots Q (F0 m (pc + 3) ls rest)) : W p l e R s m args below meth c H locs cells slots Q (F0 m pc ls (.int (nI x) :: rest)) :=
  lv_if_ne hx hb hdg ht (fun q => kt (fun z => q ((nI_eq h1 (by decide)).mpr z))) (fun q => kf ((nI_eq h1 (by decide)).mp q))
theorem nv_ifeq (hx : p.tables.exec = Jvm.exec) (hb : c.code = cc) {x : Nat} (h1 : x < 2 ^ 31) {off : Int} {tgt : Nat} (hdg : decode cc pc = .ok (.ifCond .eq off, 3)) (ht : (pc : Int) + off = (tgt : Int)) (kt : x = 0 → W p l e R s m args below meth c H locs cells slots Q (F0 m tgt ls rest)) (kf : ¬ x = 0 → W p l e R s m args below meth c H locs cells slots Q (F0 m (pc + 3) ls rest)) : W p l e R s m args below meth c H locs cells slots Q (F0 m pc ls (.int (nI x) :: rest)) :=
  lv_if_eq hx hb hdg ht (fun q => kt ((nI_eq h1 (by decide)).mp q)) (fun q => kf (fun z => q ((nI_eq h1 (by decide)).mpr z)))
theorem nv_ifle (hx : p.tables.exec = Jvm.exec) (hb : c.code = cc) {x : Nat} (h1 : x < 2 ^ 31) {off : Int} {tgt : Nat} (hdg : decode cc pc = .ok (.ifCond .le off, 3)) (ht : (pc : Int) + off = (tgt : Int)) (kt : x = 0 → W p l e R s m args below meth c H locs cells slots Q (F0 m tgt ls rest)) (kf : 0 < x → W p l e R s m args below meth c H locs cells slots Q (F0 m (pc + 3) ls rest)) : W p l e R s m args below meth c H locs cells slots Q (F0 m pc ls (.int (nI x) :: rest)) :=
  lv_if_le hx hb hdg ht (fun q => kt (by have := (nI_leI h1 (by decide : 0 < 2 ^ 31)).mp q; omega)) (fun q => kf (Nat.lt_of_not_le (fun z => q ((nI_leI h1 (by decide)).mpr z))))
/-- a loop that counts down: the place j stands for j - 1 -/
theorem nv_iflt0 (hx : p.tables.exec = Jvm.exec) (hb : c.code = cc) {off : Int} {tgt : Nat} (hdg : decode cc pc = .ok (.ifCond .lt off, 3)) (ht : (pc : Int) + off = (tgt : Int)) (kt : W p l e R s m args below meth c H locs cells slots Q (F0 m tgt ls rest)) : W p l e R s m args below meth c H locs cells slots Q (F0 m pc ls (.int (md_p 0) :: rest)) :=
  lv_if_lt hx hb hdg ht (fun _ => kt) (fun q => absurd md_p_0 q)
theorem nv_ifltS (hx : p.tables.exec = Jvm.exec) (hb : c.code = cc) {x : Nat} (h1 : x < 2 ^ 31) {off : Int} {tgt : Nat} (hdg : decode cc pc = .ok (.ifCond .lt off, 3)) (ht : (pc : Int) + off = (tgt : Int)) (kf : W p l e R s m args below meth c H locs cells slots Q (F0 m (pc + 3) ls rest)) : W p l e R s m args below meth c H locs cells slots Q (F0 m pc ls (.int (nI x) :: rest)) :=
  lv_if_lt hx hb hdg ht (fun q => absurd q (nI_pos h1)) (fun _ => kf)
/-! arrays -/
theorem nv_iald (hx : p.tables.exec = Jvm.exec) (hb : c.code = cc) (hK : va_K D cl tys s) (hP : va_P D cl ws H) (q0 t0 : Nat) {cA : ClassId} {n : Nat} {g : Nat → Nat} (ha : ws[q0]? = some (a, .inl (cA, n, .inl (md_iA g)))) (ht : tys[t0]? = some (cA, .int)) {j : Nat} (hj : j < n) (hn : n < 2 ^ 31) (hdg : decode cc pc = .ok (.iaload, 1))
    (kk : W p l e R s m args below meth c H locs cells slots Q (F0 m (pc + 1) ls (.int (nI (g j)) :: rest))) : W p l e R s m args below meth c H locs cells slots Q (F0 m pc ls (.int (nI j) :: .ref a :: rest)) := by
  refine va_iald hx hb hK hP q0 t0 ha ht (vp_in_nI hj hn) hdg ?_
  rw [nI_clamp (by omega)]
  exact kk
theorem nv_iast (hx : p.tables.exec = Jvm.exec) (hb : c.code = cc) (hK : va_K D cl tys s) (hP : va_P D cl ws H) (hD : va_D A ws) (hS : va_S A H0 H locs) (q0 t0 : Nat) {cA : ClassId} {n : Nat} {g : Nat → Nat} (ha : ws[q0]? = some (a, .inl (cA, n, .inl (md_iA g)))) (ht : tys[t0]? = some (cA, .int)) {j x : Nat} (hj : j < n) (hn : n < 2 ^ 31) (hdg : decode cc pc = .ok (.iastore, 1))
    (kk : ∀ (H1 : Heap) (locs1 : List Loc), va_P D cl (ws.set q0 (a, .inl (cA, n, .inl (md_iA (md_up g j x))))) H1 → va_D A (ws.set q0 (a, .inl (cA, n, .inl (md_iA (md_up g j x))))) → va_S A H0 H1 locs1 → W p l e R s m args below meth c H1 locs1 cells slots Q (F0 m (pc + 1) ls rest)) : W p l e R s m args below meth c H locs cells slots Q (F0 m pc ls (.int (nI x) :: .int (nI j) :: .ref a :: rest)) := by
  refine va_iast hx hb hK hP hD hS q0 t0 ha ht (vp_in_nI hj hn) hdg ?_
  rw [nI_clamp (by omega), md_iA_up]
  exact kk
theorem nv_lald (hx : p.tables.exec = Jvm.exec) (hb : c.code = cc) (hK : va_K D cl tys s) (hP : va_P D cl ws H) (q0 t0 : Nat) {cA : ClassId} {n : Nat} {g : Nat → Nat} (ha : ws[q0]? = some (a, .inl (cA, n, .inr (.inl (md_lA g))))) (ht : tys[t0]? = some (cA, .long)) {j : Nat} (hj : j < n) (hn : n < 2 ^ 31) (hdg : decode cc pc = .ok (.laload, 1))
    (kk : W p l e R s m args below meth c H locs cells slots Q (F0 m (pc + 1) ls (.long (lN (g j)) :: rest))) : W p l e R s m args below meth c H locs cells slots Q (F0 m pc ls (.int (nI j) :: .ref a :: rest)) := by
  refine va_lald hx hb hK hP q0 t0 ha ht (vp_in_nI hj hn) hdg ?_
  rw [nI_clamp (by omega)]
  exact kk
theorem nv_last (hx : p.tables.exec = Jvm.exec) (hb : c.code = cc) (hK : va_K D cl tys s) (hP : va_P D cl ws H) (hD : va_D A ws) (hS : va_S A H0 H locs) (q0 t0 : Nat) {cA : ClassId} {n : Nat} {g : Nat → Nat} (ha : ws[q0]? = some (a, .inl (cA, n, .inr (.inl (md_lA g))))) (ht : tys[t0]? = some (cA, .long)) {j x : Nat} (hj : j < n) (hn : n < 2 ^ 31) (hdg : decode cc pc = .ok (.lastore, 1))
    (kk : ∀ (H1 : Heap) (locs1 : List Loc), va_P D cl (ws.set q0 (a, .inl (cA, n, .inr (.inl (md_lA (md_up g j x)))))) H1 → va_D A (ws.set q0 (a, .inl (cA, n, .inr (.inl (md_lA (md_up g j x)))))) → va_S A H0 H1 locs1 → W p l e R s m args below meth c H1 locs1 cells slots Q (F0 m (pc + 1) ls rest)) : W p l e R s m args below meth c H locs cells slots Q (F0 m pc ls (.long (lN x) :: .int (nI j) :: .ref a :: rest)) := by
  refine va_last hx hb hK hP hD hS q0 t0 ha ht (vp_in_nI hj hn) hdg ?_
  rw [nI_clamp (by omega), md_lA_up]
  exact kk
end NV
/-! one form for all contracts -/
abbrev vwCl : List vw_C := [(RX0, TX0, 6), (RX1, TX1, 3), (RX2, TX2, 6)]
abbrev mdT (dA dL : ClassId) : List (ClassId × FieldType) := [(dA, .int), (dL, .long)]
def mdPre (D : va_G) (dA dL : ClassId) (ws : va_W) (sz : Nat) (U : State) : Prop := U.heap.size = sz ∧ va_P D vwCl ws U.heap ∧ va_K D vwCl (mdT dA dL) U ∧ va_D (fun _ => True) ws
def mdB (D : va_G) (dA dL : ClassId) (A : Nat → Prop) (ws : va_W) (t : State) : Prop := va_P D vwCl ws t.heap ∧ va_K D vwCl (mdT dA dL) t ∧ va_D A ws
theorem md_Met {l : Launch} {y : MethodName} {cc : ByteArray} {nL : Nat} {ret : Option FieldType} {rm : Room} {D : va_G} {dA dL : ClassId} {ws : va_W} {sz : Nat} {av : List Value} {Qc : Array Value → State → Outcome → State → Prop} {mc ms : Nat} (hy : plainName y.cls = true) (hn : (lg_sl av).length ≤ nL)
    (body : ∀ (p : Program) (e : Env) (s : State) (m : MethodId) (below : List Frame) (meth : Method) (c : Code) (ls : Array Slot), p.tables.exec = Jvm.exec → c.code = cc → meth.sig.returnType = ret → meth.locks = false → c.maxLocals = nL → (∀ w ∈ lw_all, w.before av.toArray s = true) → s.vm.findClass y.cls = some m.cls → meth.name = y.name → s.heap.size = sz → va_P D vwCl ws s.heap → va_K D vwCl (mdT dA dL) s → va_D (va_A ws sz) ws → lv_has ls nL (lv_args 0 av) →
      W p l e rm s m av.toArray below meth c s.heap [] 0 0 (MQ below Qc av.toArray s mc ms (va_A ws sz)) (F0 m 0 ls [])) :
    Met l y (ws_ y cc nL ret) rm (va_Pc av (mdPre D dA dL ws sz)) Qc mc ms (va_A ws sz) := by
  refine Met.ofW (cc := cc) (maxL := nL) (ret := ret) hy rfl ?_
  intro p e s m args below meth c s₁ B hml hv
  obtain ⟨rfl, hsz, hP, hK, hD0⟩ := hv
  have hts := atoms_spec (ws := ws_ y cc nL ret) B.pre
  rw [lg_entry_eq]
  exact body p e s m below meth c _ B.exec B.bytes B.returns B.notSynchronized hml (fun w h => hts w (List.mem_cons_of_mem _ h)) (findClass_of_methodNamed B.named) (name_of_methodNamed B.named B.method).1 hsz hP hK hD0.self (lv_entry av hn)
theorem md_map_fm {ws wc : va_W} {is : List Nat} (h : is.map (fun i => ws[i]?) = wc.map some) : is.filterMap (fun i => ws[i]?) = wc := by
  induction is generalizing wc with
  | nil => cases wc with
    | nil => rfl
    | cons x wc => cases h
  | cons i is ih => cases wc with
    | nil => cases h
    | cons x wc =>
      rw [List.map_cons, List.map_cons] at h
      injection h with h1 h2
      rw [List.filterMap_cons, h1, ih h2]
section CV
variable {p : Program} {l : Launch} {e : Env} {R : Room} {s : State} {m : MethodId} {args : Array Value} {below : List Frame} {meth : Method} {c : Code} {H : Heap} {locs : List Loc} {cells slots : Nat} {Q : State → Prop}
variable {cc : ByteArray} {pc : Nat} {ls : Array Slot} {rest st0 : List Value} {D : va_G} {dA dL : ClassId} {A : Nat → Prop} {ws wc wr : va_W} {nL : Nat} {own C : String} {index : Nat} {y : MethodName} {bytes : ByteArray} {maxL : Nat} {rm : Room} {b : Addr} {As : List Value} {n : Nat} {q0 ci : Nat} {fs : List Value} {rt : Option FieldType}
theorem md_blind {av : List Value} {sz : Nat} : FrameBlind (va_Pc av (mdPre D dA dL wc sz)) := by
  intro a U g mk q
  obtain ⟨q0, q1, qP, qK, qD⟩ := q
  exact ⟨q0, q1, qP, va_K.moved (u := U) (U := U.calling g mk a) (Vm.Alike.refl U.vm) qK, qD⟩
theorem md_pre {av : List Value} (hK : va_K D vwCl (mdT dA dL) s) (hP : va_P D vwCl wc H) (hD : va_D A wc) : ∀ U : State, U.heap = H → s.WarmedH U.vm → va_Pc av (mdPre D dA dL wc H.size) av.toArray U :=
  fun U hU hW => ⟨rfl, by rw [hU], by rw [hU]; exact hP, va_K.moved hW.alike hK, hD.weaken (fun _ _ _ _ => trivial)⟩
theorem md_cVl {S : Type} {post : Int64 → S → Prop} {w1 : S → va_W} (hx : p.tables.exec = Jvm.exec) (hb : c.code = cc) (hml : c.maxLocals = nL) (hown : s.vm.findClass own = some m.cls) (hts : ∀ w ∈ lw_all, w.before args s = true)
    (hK : va_K D vwCl (mdT dA dL) s) (hP : va_P D vwCl ws H) (hD : va_D A ws) (hS : va_S A s.heap H locs) (hA : ∀ q, s.heap.size ≤ q → A q)
    (isC isR : List Nat) (hC : isC.map (fun i => ws[i]?) = wc.map some) (hR : isR.map (fun i => ws[i]?) = wr.map some) (hnC : va_nd isC = true) (hnR : va_nd isR = true) (hdis : ∀ i ∈ isR, i ∉ isC)
    (hM : Met l y (ws_ y bytes maxL (some .long)) rm (va_Pc (.ref b :: As) (mdPre D dA dL wc H.size)) (va_Ql post (fun u t => mdB D dA dL (va_A wc H.size) (w1 u) t) (va_A wc H.size)) 0 0 (va_A wc H.size))
    (cw : CallW R s args own C index y bytes maxL (some .long) (ws_ y bytes maxL (some .long)) rm 0 0 n) {q : vw_C} (hq : wc[q0]? = some (b, .inr (ci, fs))) (hci : vwCl[ci]? = some q) (hqC : q.1 = C)
    (hn : As.length = n) (hsz : ls.size = nL) (hst : st0 = As.reverse ++ .ref b :: rest) (hroom : (rest.map fun v => v.category).sum ≤ 8) (hdg : decode cc pc = .ok (.invokevirtual index, 3)) (hf : cells ≤ R.cells ∧ slots ≤ R.slots)
    (kk : ∀ (r : Int64) (u : S) (H1 : Heap) (locs1 : List Loc), post r u → va_P D vwCl (wr ++ w1 u) H1 → va_D A (wr ++ w1 u) → va_S A s.heap H1 locs1 → W p l e R s m args below meth c H1 locs1 cells slots Q (F0 m (pc + 3) ls (.long r :: rest))) :
    W p l e R s m args below meth c H locs cells slots Q (F0 m pc ls st0) := by
  subst hqC
  have hPc := hP.sub isC (md_map_fm hC)
  have hDc := hD.sub isC hnC hC
  have hFc := va_free (wc := wc) hD hS hA isC hC
  refine va_calll (va_runV (As := As) (rest := rest) ⟨hx, hb, hml, hown, hts⟩ hM cw ⟨md_blind, va_recv hK hPc hci hq, md_pre hK hPc hDc⟩ rfl hn hsz hst (lv_room hroom) hdg hf) hS (fun q _ h => hFc q h) hFc (fun r u t H1 locs ht hvm hw hB hz1 hk1 hS => ?_)
  obtain ⟨hP1, -, hD1⟩ := hB
  rw [ht] at hP1
  obtain ⟨hP, hD⟩ := va_join (wr := wr) (w1 := w1 u) hP hD isC isR hC hR hnR hdis hk1 hFc hP1 hD1
  exact kk r u H1 locs hw hP hD hS
theorem md_cVi {S : Type} {post : Int32 → S → Prop} {w1 : S → va_W} (hx : p.tables.exec = Jvm.exec) (hb : c.code = cc) (hml : c.maxLocals = nL) (hown : s.vm.findClass own = some m.cls) (hts : ∀ w ∈ lw_all, w.before args s = true)
    (hK : va_K D vwCl (mdT dA dL) s) (hP : va_P D vwCl ws H) (hD : va_D A ws) (hS : va_S A s.heap H locs) (hA : ∀ q, s.heap.size ≤ q → A q)
    (isC isR : List Nat) (hC : isC.map (fun i => ws[i]?) = wc.map some) (hR : isR.map (fun i => ws[i]?) = wr.map some) (hnC : va_nd isC = true) (hnR : va_nd isR = true) (hdis : ∀ i ∈ isR, i ∉ isC)
    (hM : Met l y (ws_ y bytes maxL rt) rm (va_Pc (.ref b :: As) (mdPre D dA dL wc H.size)) (va_Qi post (fun u t => mdB D dA dL (va_A wc H.size) (w1 u) t) (va_A wc H.size)) 0 0 (va_A wc H.size))
    (cw : CallW R s args own C index y bytes maxL rt (ws_ y bytes maxL rt) rm 0 0 n) {q : vw_C} (hq : wc[q0]? = some (b, .inr (ci, fs))) (hci : vwCl[ci]? = some q) (hqC : q.1 = C)
    (hn : As.length = n) (hsz : ls.size = nL) (hst : st0 = As.reverse ++ .ref b :: rest) (hroom : (rest.map fun v => v.category).sum ≤ 8) (hdg : decode cc pc = .ok (.invokevirtual index, 3)) (hf : cells ≤ R.cells ∧ slots ≤ R.slots)
    (kk : ∀ (r : Int32) (u : S) (H1 : Heap) (locs1 : List Loc), post r u → va_P D vwCl (wr ++ w1 u) H1 → va_D A (wr ++ w1 u) → va_S A s.heap H1 locs1 → W p l e R s m args below meth c H1 locs1 cells slots Q (F0 m (pc + 3) ls (.int r :: rest))) :
    W p l e R s m args below meth c H locs cells slots Q (F0 m pc ls st0) := by
  subst hqC
  have hPc := hP.sub isC (md_map_fm hC)
  have hDc := hD.sub isC hnC hC
  have hFc := va_free (wc := wc) hD hS hA isC hC
  refine va_calli (va_runV (As := As) (rest := rest) ⟨hx, hb, hml, hown, hts⟩ hM cw ⟨md_blind, va_recv hK hPc hci hq, md_pre hK hPc hDc⟩ rfl hn hsz hst (lv_room hroom) hdg hf) hS (fun q _ h => hFc q h) hFc (fun r u t H1 locs ht hvm hw hB hz1 hk1 hS => ?_)
  obtain ⟨hP1, -, hD1⟩ := hB
  rw [ht] at hP1
  obtain ⟨hP, hD⟩ := va_join (wr := wr) (w1 := w1 u) hP hD isC isR hC hR hnR hdis hk1 hFc hP1 hD1
  exact kk r u H1 locs hw hP hD hS
theorem md_cVv {S : Type} {post : S → Prop} {w1 : S → va_W} (hx : p.tables.exec = Jvm.exec) (hb : c.code = cc) (hml : c.maxLocals = nL) (hown : s.vm.findClass own = some m.cls) (hts : ∀ w ∈ lw_all, w.before args s = true)
    (hK : va_K D vwCl (mdT dA dL) s) (hP : va_P D vwCl ws H) (hD : va_D A ws) (hS : va_S A s.heap H locs) (hA : ∀ q, s.heap.size ≤ q → A q)
    (isC isR : List Nat) (hC : isC.map (fun i => ws[i]?) = wc.map some) (hR : isR.map (fun i => ws[i]?) = wr.map some) (hnC : va_nd isC = true) (hnR : va_nd isR = true) (hdis : ∀ i ∈ isR, i ∉ isC)
    (hM : Met l y (ws_ y bytes maxL none) rm (va_Pc (.ref b :: As) (mdPre D dA dL wc H.size)) (va_Qv post (fun u t => mdB D dA dL (va_A wc H.size) (w1 u) t) (va_A wc H.size)) 0 0 (va_A wc H.size))
    (cw : CallW R s args own C index y bytes maxL none (ws_ y bytes maxL none) rm 0 0 n) {q : vw_C} (hq : wc[q0]? = some (b, .inr (ci, fs))) (hci : vwCl[ci]? = some q) (hqC : q.1 = C)
    (hn : As.length = n) (hsz : ls.size = nL) (hst : st0 = As.reverse ++ .ref b :: rest) (hroom : (rest.map fun v => v.category).sum ≤ 8) (hdg : decode cc pc = .ok (.invokevirtual index, 3)) (hf : cells ≤ R.cells ∧ slots ≤ R.slots)
    (kk : ∀ (u : S) (H1 : Heap) (locs1 : List Loc), post u → va_P D vwCl (wr ++ w1 u) H1 → va_D A (wr ++ w1 u) → va_S A s.heap H1 locs1 → W p l e R s m args below meth c H1 locs1 cells slots Q (F0 m (pc + 3) ls rest)) :
    W p l e R s m args below meth c H locs cells slots Q (F0 m pc ls st0) := by
  subst hqC
  have hPc := hP.sub isC (md_map_fm hC)
  have hDc := hD.sub isC hnC hC
  have hFc := va_free (wc := wc) hD hS hA isC hC
  refine va_callv (va_runV (As := As) (rest := rest) ⟨hx, hb, hml, hown, hts⟩ hM cw ⟨md_blind, va_recv hK hPc hci hq, md_pre hK hPc hDc⟩ rfl hn hsz hst (lv_room hroom) hdg hf) hS (fun q _ h => hFc q h) hFc (fun u t H1 locs ht hvm hw hB hz1 hk1 hS => ?_)
  obtain ⟨hP1, -, hD1⟩ := hB
  rw [ht] at hP1
  obtain ⟨hP, hD⟩ := va_join (wr := wr) (w1 := w1 u) hP hD isC isR hC hR hnR hdis hk1 hFc hP1 hD1
  exact kk u H1 locs hw hP hD hS
/-- static calls: with a world (int), and with none (long) -/
theorem md_cSi {S : Type} {post : Int32 → S → Prop} {w1 : S → va_W} (hx : p.tables.exec = Jvm.exec) (hb : c.code = cc) (hml : c.maxLocals = nL) (hown : s.vm.findClass own = some m.cls) (hts : ∀ w ∈ lw_all, w.before args s = true)
    (hK : va_K D vwCl (mdT dA dL) s) (hP : va_P D vwCl ws H) (hD : va_D A ws) (hS : va_S A s.heap H locs) (hA : ∀ q, s.heap.size ≤ q → A q)
    (isC isR : List Nat) (hC : isC.map (fun i => ws[i]?) = wc.map some) (hR : isR.map (fun i => ws[i]?) = wr.map some) (hnC : va_nd isC = true) (hnR : va_nd isR = true) (hdis : ∀ i ∈ isR, i ∉ isC)
    (hM : Met l y (ws_ y bytes maxL rt) rm (va_Pc As (mdPre D dA dL wc H.size)) (va_Qi post (fun u t => mdB D dA dL (va_A wc H.size) (w1 u) t) (va_A wc H.size)) 0 0 (va_A wc H.size))
    (cw : CallB R s args own index y bytes maxL rt (ws_ y bytes maxL rt) rm 0 0 n ∧ (Cond.static y).before args s = true)
    (hn : As.length = n) (hsz : ls.size = nL) (hst : st0 = As.reverse ++ rest) (hroom : (rest.map fun v => v.category).sum ≤ 8) (hdg : decode cc pc = .ok (.invokestatic index, 3)) (hf : cells ≤ R.cells ∧ slots ≤ R.slots)
    (kk : ∀ (r : Int32) (u : S) (H1 : Heap) (locs1 : List Loc), post r u → va_P D vwCl (wr ++ w1 u) H1 → va_D A (wr ++ w1 u) → va_S A s.heap H1 locs1 → W p l e R s m args below meth c H1 locs1 cells slots Q (F0 m (pc + 3) ls (.int r :: rest))) :
    W p l e R s m args below meth c H locs cells slots Q (F0 m pc ls st0) := by
  have hPc := hP.sub isC (md_map_fm hC)
  have hDc := hD.sub isC hnC hC
  have hFc := va_free (wc := wc) hD hS hA isC hC
  refine va_calli (va_runS (As := As) (rest := rest) ⟨hx, hb, hml, hown, hts⟩ hM cw ⟨md_blind, md_pre hK hPc hDc⟩ rfl hn hsz hst (lv_room hroom) hdg hf) hS (fun q _ h => hFc q h) hFc (fun r u t H1 locs ht hvm hw hB hz1 hk1 hS => ?_)
  obtain ⟨hP1, -, hD1⟩ := hB
  rw [ht] at hP1
  obtain ⟨hP, hD⟩ := va_join (wr := wr) (w1 := w1 u) hP hD isC isR hC hR hnR hdis hk1 hFc hP1 hD1
  exact kk r u H1 locs hw hP hD hS
theorem md_cSl {S : Type} {post : Int64 → S → Prop} {w1 : S → va_W} (hx : p.tables.exec = Jvm.exec) (hb : c.code = cc) (hml : c.maxLocals = nL) (hown : s.vm.findClass own = some m.cls) (hts : ∀ w ∈ lw_all, w.before args s = true)
    (hK : va_K D vwCl (mdT dA dL) s) (hP : va_P D vwCl ws H) (hD : va_D A ws) (hS : va_S A s.heap H locs) (hA : ∀ q, s.heap.size ≤ q → A q)
    (isC isR : List Nat) (hC : isC.map (fun i => ws[i]?) = wc.map some) (hR : isR.map (fun i => ws[i]?) = wr.map some) (hnC : va_nd isC = true) (hnR : va_nd isR = true) (hdis : ∀ i ∈ isR, i ∉ isC)
    (hM : Met l y (ws_ y bytes maxL rt) rm (va_Pc As (mdPre D dA dL wc H.size)) (va_Ql post (fun u t => mdB D dA dL (va_A wc H.size) (w1 u) t) (va_A wc H.size)) 0 0 (va_A wc H.size))
    (cw : CallB R s args own index y bytes maxL rt (ws_ y bytes maxL rt) rm 0 0 n ∧ (Cond.static y).before args s = true)
    (hn : As.length = n) (hsz : ls.size = nL) (hst : st0 = As.reverse ++ rest) (hroom : (rest.map fun v => v.category).sum ≤ 8) (hdg : decode cc pc = .ok (.invokestatic index, 3)) (hf : cells ≤ R.cells ∧ slots ≤ R.slots)
    (kk : ∀ (r : Int64) (u : S) (H1 : Heap) (locs1 : List Loc), post r u → va_P D vwCl (wr ++ w1 u) H1 → va_D A (wr ++ w1 u) → va_S A s.heap H1 locs1 → W p l e R s m args below meth c H1 locs1 cells slots Q (F0 m (pc + 3) ls (.long r :: rest))) :
    W p l e R s m args below meth c H locs cells slots Q (F0 m pc ls st0) := by
  have hPc := hP.sub isC (md_map_fm hC)
  have hDc := hD.sub isC hnC hC
  have hFc := va_free (wc := wc) hD hS hA isC hC
  refine va_calll (va_runS (As := As) (rest := rest) ⟨hx, hb, hml, hown, hts⟩ hM cw ⟨md_blind, md_pre hK hPc hDc⟩ rfl hn hsz hst (lv_room hroom) hdg hf) hS (fun q _ h => hFc q h) hFc (fun r u t H1 locs ht hvm hw hB hz1 hk1 hS => ?_)
  obtain ⟨hP1, -, hD1⟩ := hB
  rw [ht] at hP1
  obtain ⟨hP, hD⟩ := va_join (wr := wr) (w1 := w1 u) hP hD isC isR hC hR hnR hdis hk1 hFc hP1 hD1
  exact kk r u H1 locs hw hP hD hS
end CV
end
section
/-! a contract's start and end in one row: the body sees its arguments, its room, its end and its cells as names -/
section FM
variable {l : Launch} {y : MethodName} {cc : ByteArray} {nL : Nat} {rm : Room} {D : va_G} {dA dL : ClassId} {ws : va_W} {sz : Nat} {av : List Value} {mc ms : Nat}
theorem md_MetL {S : Type} {post : Int64 → S → Prop} {w1 : S → va_W} (hy : plainName y.cls = true) (hn : (lg_sl av).length ≤ nL)
    (body : ∀ (p : Program) (e : Env) (s : State) (m : MethodId) (below : List Frame) (meth : Method) (c : Code) (ls : Array Slot) (args : Array Value) (A : Nat → Prop) (Q : State → Prop) (R : Room), R = rm → p.tables.exec = Jvm.exec → c.code = cc → c.maxLocals = nL → (∀ w ∈ lw_all, w.before args s = true) → s.vm.findClass y.cls = some m.cls → meth.name = y.name → (∀ q, s.heap.size ≤ q → A q) → va_P D vwCl ws s.heap → va_K D vwCl (mdT dA dL) s → va_D A ws → va_S A s.heap s.heap [] → lv_has ls nL (lv_args 0 av) →
      (∀ (H : Heap) (locs : List Loc) (pc : Nat) (ls : Array Slot) (r : Int64) (u : S), decode cc pc = .ok (.lreturn, 1) → post r u → va_P D vwCl (w1 u) H → va_D A (w1 u) → va_S A s.heap H locs → W p l e R s m args below meth c H locs mc ms Q (F0 m pc ls [.long r])) →
      W p l e R s m args below meth c s.heap [] 0 0 Q (F0 m 0 ls [])) :
    Met l y (ws_ y cc nL (some .long)) rm (va_Pc av (mdPre D dA dL ws sz)) (va_Ql post (fun u t => mdB D dA dL (va_A ws sz) (w1 u) t) (va_A ws sz)) mc ms (va_A ws sz) := by
  refine md_Met hy hn ?_
  intro p e s m below meth c ls hx hb hr hlocks hml hts hown hname hsz hP hK hD hl
  refine body p e s m below meth c ls av.toArray _ _ rm rfl hx hb hml hts hown hname (fun q h => Or.inr (by rw [← hsz]; exact h)) hP hK hD va_S.rf hl ?_
  intro H locs pc ls r u hd hp hP hD hS
  exact W.lret hx hb hr (fun t ht hW => ⟨⟨r, u, rfl, hp, by rw [ht]; exact hP, va_K.moved hW.alike hK, hD⟩, hS.F ht⟩) hS.2.2 hd
theorem md_MetI {S : Type} {post : Int32 → S → Prop} {w1 : S → va_W} {ty : FieldType} (hy : plainName y.cls = true) (hn : (lg_sl av).length ≤ nL)
    (body : ∀ (p : Program) (e : Env) (s : State) (m : MethodId) (below : List Frame) (meth : Method) (c : Code) (ls : Array Slot) (args : Array Value) (A : Nat → Prop) (Q : State → Prop) (R : Room), R = rm → p.tables.exec = Jvm.exec → c.code = cc → c.maxLocals = nL → (∀ w ∈ lw_all, w.before args s = true) → s.vm.findClass y.cls = some m.cls → meth.name = y.name → (∀ q, s.heap.size ≤ q → A q) → va_P D vwCl ws s.heap → va_K D vwCl (mdT dA dL) s → va_D A ws → va_S A s.heap s.heap [] → lv_has ls nL (lv_args 0 av) →
      (∀ (H : Heap) (locs : List Loc) (pc : Nat) (ls : Array Slot) (r : Int32) (u : S), decode cc pc = .ok (.ireturn, 1) → narrow ty (.int r) = .int r → post r u → va_P D vwCl (w1 u) H → va_D A (w1 u) → va_S A s.heap H locs → W p l e R s m args below meth c H locs mc ms Q (F0 m pc ls [.int r])) →
      W p l e R s m args below meth c s.heap [] 0 0 Q (F0 m 0 ls [])) :
    Met l y (ws_ y cc nL (some ty)) rm (va_Pc av (mdPre D dA dL ws sz)) (va_Qi post (fun u t => mdB D dA dL (va_A ws sz) (w1 u) t) (va_A ws sz)) mc ms (va_A ws sz) := by
  refine md_Met hy hn ?_
  intro p e s m below meth c ls hx hb hr hlocks hml hts hown hname hsz hP hK hD hl
  refine body p e s m below meth c ls av.toArray _ _ rm rfl hx hb hml hts hown hname (fun q h => Or.inr (by rw [← hsz]; exact h)) hP hK hD va_S.rf hl ?_
  intro H locs pc ls r u hd hnr hp hP hD hS
  exact W.zret hx hb hr hnr (fun t ht hW => ⟨⟨r, u, rfl, hp, by rw [ht]; exact hP, va_K.moved hW.alike hK, hD⟩, hS.F ht⟩) hS.2.2 hd
theorem md_MetV {S : Type} {post : S → Prop} {w1 : S → va_W} (hy : plainName y.cls = true) (hn : (lg_sl av).length ≤ nL)
    (body : ∀ (p : Program) (e : Env) (s : State) (m : MethodId) (below : List Frame) (meth : Method) (c : Code) (ls : Array Slot) (args : Array Value) (A : Nat → Prop) (Q : State → Prop) (R : Room), R = rm → p.tables.exec = Jvm.exec → c.code = cc → c.maxLocals = nL → (∀ w ∈ lw_all, w.before args s = true) → s.vm.findClass y.cls = some m.cls → meth.name = y.name → (∀ q, s.heap.size ≤ q → A q) → va_P D vwCl ws s.heap → va_K D vwCl (mdT dA dL) s → va_D A ws → va_S A s.heap s.heap [] → lv_has ls nL (lv_args 0 av) →
      (∀ (H : Heap) (locs : List Loc) (pc : Nat) (ls : Array Slot) (u : S), decode cc pc = .ok (.return_, 1) → post u → va_P D vwCl (w1 u) H → va_D A (w1 u) → va_S A s.heap H locs → W p l e R s m args below meth c H locs mc ms Q (F0 m pc ls [])) →
      W p l e R s m args below meth c s.heap [] 0 0 Q (F0 m 0 ls [])) :
    Met l y (ws_ y cc nL none) rm (va_Pc av (mdPre D dA dL ws sz)) (va_Qv post (fun u t => mdB D dA dL (va_A ws sz) (w1 u) t) (va_A ws sz)) mc ms (va_A ws sz) := by
  refine md_Met hy hn ?_
  intro p e s m below meth c ls hx hb hr hlocks hml hts hown hname hsz hP hK hD hl
  refine body p e s m below meth c ls av.toArray _ _ rm rfl hx hb hml hts hown hname (fun q h => Or.inr (by rw [← hsz]; exact h)) hP hK hD va_S.rf hl ?_
  intro H locs pc ls u hd hp hP hD hS
  exact W.vret hx hb hr (fun t ht hW => ⟨⟨u, rfl, hp, by rw [ht]; exact hP, va_K.moved hW.alike hK, hD⟩, hS.F ht⟩) hS.2.2 hd
end FM
end
section
set_option maxHeartbeats 4000000 in
set_option maxRecDepth 100000 in
/-- ways(x, t): x over t -/
theorem mX1_ways (l : Launch) (D : va_G) (dA dL : ClassId) (sz x t : Nat) (hx5 : x ≤ 5) (htx : t ≤ x) : Met l yX1_ways (ws_ yX1_ways cX1_ways 5 (some .long)) ({ frames := 0, cells := 0, slots := 0, locals := 0 }) (va_Pc [.int (nI x), .int (nI t)] (mdPre D dA dL [] sz)) (va_Ql (fun (r : Int64) (_ : Unit) => r = lN (md_ch x t)) (fun _ t => mdB D dA dL (va_A [] sz) [] t) (va_A [] sz)) 0 0 (va_A [] sz) := by
  refine md_MetL (w1 := fun _ => []) (by decide) (Nat.le_of_ble_eq_true rfl) ?_
  intro p e s m below meth c ls args A Q R hR hx hb hml hts hown hname hA hP hK hD hS hl hret
  have hown : s.vm.findClass RX1 = some m.cls := hown
  have hl : lv_has ls 5 [(0, .int (nI x)), (1, .int (nI t))] := hl
  have loop : ∀ (d j : Nat) (ls : Array Slot), j + d = t → lv_has ls 5 [(0, .int (nI x)), (1, .int (nI t)), (4, .int (nI (j + 1))), (2, .long (lN (md_ch (x - t + j) j)))] → W p l e R s m args below meth c s.heap [] 0 0 Q (F0 m 5 ls []) := by
    intro d
    induction d with
    | zero =>
      intro j ls hj hl
      have hj : j = t := by omega
      subst hj
      refine lv_iload hx hb dX1_ways_5 (lv_at hl 2 rfl) ?_
      refine lv_iload_n hx hb dX1_ways_7 rfl (lv_at hl 1 rfl) ?_
      refine nv_gt (tgt := 31) hx hb (by omega) (by omega) dX1_ways_8 (by decide) (fun hc => ?_) (fun hc => ?_)
      · refine lv_lload_n hx hb dX1_ways_31 rfl (lv_at hl 3 rfl) ?_
        exact hret _ _ _ _ _ () dX1_ways_32 (by rw [show x - j + j = x by omega]) hP hD hS
      · exact absurd hc (by omega)
    | succ d ih =>
      intro j ls hj hl
      refine lv_iload hx hb dX1_ways_5 (lv_at hl 2 rfl) ?_
      refine lv_iload_n hx hb dX1_ways_7 rfl (lv_at hl 1 rfl) ?_
      refine nv_gt (tgt := 31) hx hb (by omega) (by omega) dX1_ways_8 (by decide) (fun hc => ?_) (fun hc => ?_)
      · exact absurd hc (by omega)
      · have hch := md_ch_le (x - t + j) (by omega) j (by omega)
        have hst := md_ch_step (x - t) (by omega) j (by omega)
        have hbd : md_ch (x - t + j) j * (x - t + (j + 1)) ≤ 10 * 6 := Nat.mul_le_mul hch (by omega)
        refine lv_lload_n hx hb dX1_ways_11 rfl (lv_at hl 3 rfl) ?_
        refine lv_iload_n hx hb dX1_ways_12 rfl (lv_at hl 0 rfl) ?_
        refine lv_iload_n hx hb dX1_ways_13 rfl (lv_at hl 1 rfl) ?_
        refine nv_sub hx hb (by omega) dX1_ways_14 ?_
        refine lv_iload hx hb dX1_ways_15 (lv_at hl 2 rfl) ?_
        refine nv_add hx hb dX1_ways_17 ?_
        refine nv_i2l hx hb (by omega) dX1_ways_18 ?_
        refine nv_lmul hx hb dX1_ways_19 ?_
        refine lv_iload hx hb dX1_ways_20 (lv_at hl 2 rfl) ?_
        refine nv_i2l hx hb (by omega) dX1_ways_22 ?_
        refine nv_ldiv hx hb (by omega) (by omega) (by omega) dX1_ways_23 ?_
        refine nv_l (y := lN (md_ch (x - t + (j + 1)) (j + 1))) (by rw [show x - t + (j + 1) = x - t + j + 1 by omega, hst]) ?_
        refine lv_lstore_n (lv' := [(2, .long (lN (md_ch (x - t + (j + 1)) (j + 1)))), (0, .int (nI x)), (1, .int (nI t)), (4, .int (nI (j + 1)))]) hx hb dX1_ways_24 rfl hl (by decide) rfl (fun ls hl => ?_)
        refine lv_iinc (v := (nI (j + 1 + 1))) (lv' := [(4, .int (nI (j + 1 + 1))), (2, .long (lN (md_ch (x - t + (j + 1)) (j + 1)))), (0, .int (nI x)), (1, .int (nI t))]) hx hb dX1_ways_25 hl (k := 3) rfl (nv_inc1 _) (by decide) rfl (fun ls hl => ?_)
        refine lv_goto (tgt := 5) hx hb dX1_ways_28 (by decide) ?_
        exact ih (j + 1) ls (by omega) (lv_sub hl [2, 3, 0, 1] rfl)
  refine lv_lconst (v := lN 1) hx hb dX1_ways_0 (by decide) ?_
  refine lv_lstore_n (lv' := [(2, .long (lN 1)), (0, .int (nI x)), (1, .int (nI t))]) hx hb dX1_ways_1 rfl hl (by decide) rfl (fun ls hl => ?_)
  refine lv_iconst (v := nI 1) hx hb dX1_ways_2 (by decide) ?_
  refine lv_istore (lv' := [(4, .int (nI 1)), (2, .long (lN 1)), (0, .int (nI x)), (1, .int (nI t))]) hx hb dX1_ways_3 hl (by decide) rfl (fun ls hl => ?_)
  exact loop t 0 ls (by omega) (by rw [md_ch_0]; exact lv_sub hl [2, 3, 0, 1] rfl)
end
section
/-! MarginDesk$Needs: its cells, what its two recursive methods owe, and the plain facts of their arrays -/
def md_pk (h : Nat → Nat) : Nat → Nat
  | 0 => 0
  | i + 1 => md_pk h i * 16 + h i
theorem md_pk_lt {h : Nat → Nat} : ∀ n, (∀ i, i < n → h i < 16) → md_pk h n < 16 ^ n := by
  intro n
  induction n with
  | zero => intro _; exact Nat.one_pos
  | succ n ih =>
    intro hh
    have h1 := ih (fun i hi => hh i (by omega))
    have h2 := hh n (by omega)
    show md_pk h n * 16 + h n < 16 ^ (n + 1)
    rw [Nat.pow_succ]; omega
theorem md_pk_small {h : Nat → Nat} {n : Nat} (hn : n ≤ 6) (hh : ∀ i, i < 6 → h i < 16) : md_pk h n < 2 ^ 24 := by
  have h1 := md_pk_lt (h := h) n (fun i hi => hh i (by omega))
  have h2 : 16 ^ n ≤ 16 ^ 6 := Nat.pow_le_pow_right (by omega) hn
  exact Nat.lt_of_lt_of_le h1 (Nat.le_trans h2 (by decide))
def md_s6 (h : Nat → Nat) : Nat := h 0 + h 1 + h 2 + h 3 + h 4 + h 5
theorem md_s6_le {h : Nat → Nat} {i : Nat} (hi : i < 6) : h i ≤ md_s6 h := by
  unfold md_s6
  rcases (show i = 0 ∨ i = 1 ∨ i = 2 ∨ i = 3 ∨ i = 4 ∨ i = 5 by omega) with e | e | e | e | e | e <;> subst e <;> omega
theorem md_s6_mv {h : Nat → Nat} {q k : Nat} (hq : q + 1 ≤ 5) (hk : k ≤ h (q + 1)) : md_s6 (md_mv h (q + 1) k) = md_s6 h := by
  unfold md_s6 md_mv
  rcases (show q = 0 ∨ q = 1 ∨ q = 2 ∨ q = 3 ∨ q = 4 by omega) with e | e | e | e | e <;> subst e <;> simp at hk ⊢ <;> omega
theorem md_lvl_in (f : Nat → Nat) (r : Nat) {j : Nat} (hj : j < 6) : md_lvl f r j = f (6 * r + j) := if_pos hj
theorem md_lvl_ext {f g : Nat → Nat} {r r' : Nat} (h : ∀ j, j < 6 → f (6 * r + j) = g (6 * r' + j)) : md_lvl f r = md_lvl g r' := by
  funext j
  by_cases hj : j < 6
  · rw [md_lvl_in f r hj, md_lvl_in g r' hj, h j hj]
  · simp only [md_lvl, if_neg hj]
def md_f2 (f : Nat → Nat) (a k : Nat) : Nat → Nat := md_up (md_up f a (f a - k)) (a - 1) (md_up f a (f a - k) (a - 1) + k)
def md_f3 (u : Nat → Nat) (a k : Nat) : Nat → Nat := md_up (md_up u a (u a + k)) (a - 1) (md_up u a (u a + k) (a - 1) - k)
theorem md_f2_at {f : Nat → Nat} {a k : Nat} (ha : 0 < a) : md_f2 f a k a = f a - k := by
  unfold md_f2; rw [md_up_n (by omega), md_up_s]
theorem md_f2_dn {f : Nat → Nat} {a k : Nat} (ha : 0 < a) : md_f2 f a k (a - 1) = f (a - 1) + k := by
  unfold md_f2; rw [md_up_s, md_up_n (by omega)]
theorem md_f2_off {f : Nat → Nat} {a k j : Nat} (h1 : j ≠ a) (h2 : j ≠ a - 1) : md_f2 f a k j = f j := by
  unfold md_f2; rw [md_up_n h2, md_up_n h1]
theorem md_tk1 {f hv : Nat → Nat} {row q k a : Nat} (ea : a = 6 * (row + 1) + (q + 1)) (hq : q + 1 ≤ 5) (hf : ∀ j, j < 6 * (row + 2) → f j = hv j) :
    (∀ j, j < 6 * (row + 1) → md_f2 f a k j = hv j) ∧ md_lvl (md_f2 f a k) (row + 1) = md_mv (md_lvl hv (row + 1)) (q + 1) k := by
  refine ⟨fun j hj => by rw [md_f2_off (by omega) (by omega)]; exact hf j (by omega), ?_⟩
  funext j
  by_cases hj : j < 6
  · rw [md_lvl_in _ _ hj]
    unfold md_mv
    by_cases h1 : j + 1 = q + 1
    · rw [if_pos h1, md_lvl_in _ _ hj, show 6 * (row + 1) + j = a - 1 by omega, md_f2_dn (by omega), hf (a - 1) (by omega)]
    · rw [if_neg h1]
      by_cases h2 : j = q + 1
      · rw [if_pos h2, md_lvl_in _ _ hj, show 6 * (row + 1) + j = a by omega, md_f2_at (by omega), hf a (by omega)]
      · rw [if_neg h2, md_lvl_in _ _ hj, md_f2_off (by omega) (by omega), hf _ (by omega)]
  · unfold md_mv
    simp only [md_lvl, if_neg hj]
    rw [if_neg (by omega), if_neg (by omega)]
theorem md_tk2 {f hv u : Nat → Nat} {row q k a : Nat} (ea : a = 6 * (row + 1) + (q + 1)) (hq : q + 1 ≤ 5) (hf : ∀ j, j < 6 * (row + 2) → f j = hv j) (hk : k ≤ f a) (hu : ∀ j, j < 6 * (row + 2) → u j = md_f2 f a k j) :
    k ≤ md_up u a (u a + k) (a - 1) ∧ ∀ j, j < 6 * (row + 2) → md_f3 u a k j = hv j := by
  have h0 : md_up u a (u a + k) (a - 1) = f (a - 1) + k := by rw [md_up_n (by omega), hu _ (by omega), md_f2_dn (by omega)]
  refine ⟨by omega, fun j hj => ?_⟩
  unfold md_f3
  by_cases h1 : j = a - 1
  · subst h1
    rw [md_up_s, h0, ← hf _ hj]; omega
  · rw [md_up_n h1]
    by_cases h2 : j = a
    · subst h2
      rw [md_up_s, hu _ hj, md_f2_at (by omega), ← hf _ hj]; omega
    · rw [md_up_n h2, hu _ hj, md_f2_off h2 h1, hf _ hj]
abbrev md_wN (dA : ClassId) (hn hh hw nn : Nat) (hv rw : Nat → Nat) : va_W := [(hn, .inr (1, [.ref hh, .ref hw, .int (nI nn)])), (hh, .inl (dA, 36, .inl (md_iA hv))), (hw, .inl (dA, 5, .inl (md_iA rw)))]
/-- from(row): all fillings of the rows from one on; the levels to this row's stay -/
def md_Cfrom (l : Launch) (D : va_G) (dA dL : ClassId) (d : Nat) : Prop := ∀ (hn hh hw sz nn row : Nat) (hv rw : Nat → Nat), nn ≤ 5 → row ≤ nn → (∀ i, i < 5 → rw i ≤ 5) → md_s6 (md_lvl hv row) ≤ 5 → 7 * (nn - row) + 1 ≤ d →
  Met l yX1_from (ws_ yX1_from cX1_from 5 (some .long)) ({ frames := d, cells := 0, slots := 0, locals := 40 * d }) (va_Pc [.ref hn, .int (nI row)] (mdPre D dA dL (md_wN dA hn hh hw nn hv rw) sz))
    (va_Ql (fun (r : Int64) (u : Nat → Nat) => r = lN (md_from (md_rl rw row (nn - row)) (md_lvl hv row)) ∧ ∀ j, j < 6 * (row + 1) → u j = hv j) (fun u t => mdB D dA dL (va_A (md_wN dA hn hh hw nn hv rw) sz) (md_wN dA hn hh hw nn u rw) t) (va_A (md_wN dA hn hh hw nn hv rw) sz)) 0 0 (va_A (md_wN dA hn hh hw nn hv rw) sz)
/-- take(row, need, ones) -/
def md_Ctake (l : Launch) (D : va_G) (dA dL : ClassId) (d : Nat) : Prop := ∀ (hn hh hw sz nn row need ones : Nat) (hv rw : Nat → Nat), nn ≤ 5 → row < nn → need ≤ 5 → ones ≤ 5 → (∀ i, i < 5 → rw i ≤ 5) → md_s6 (md_lvl hv (row + 1)) ≤ 5 → (∀ j, 1 ≤ j → j ≤ need → md_lvl hv row j ≤ md_lvl hv (row + 1) j) → 7 * (nn - row - 1) + need + 2 ≤ d →
  Met l yX1_take (ws_ yX1_take cX1_take 13 (some .long)) ({ frames := d, cells := 0, slots := 0, locals := 40 * d }) (va_Pc [.ref hn, .int (nI row), .int (nI need), .int (nI ones)] (mdPre D dA dL (md_wN dA hn hh hw nn hv rw) sz))
    (va_Ql (fun (r : Int64) (u : Nat → Nat) => r = lN (md_T (md_from (md_rl rw (row + 1) (nn - (row + 1)))) (md_lvl hv row) need ones (md_lvl hv (row + 1))) ∧ ∀ j, j < 6 * (row + 2) → u j = hv j) (fun u t => mdB D dA dL (va_A (md_wN dA hn hh hw nn hv rw) sz) (md_wN dA hn hh hw nn u rw) t) (va_A (md_wN dA hn hh hw nn hv rw) sz)) 0 0 (va_A (md_wN dA hn hh hw nn hv rw) sz)
end
section
set_option maxHeartbeats 4000000 in
set_option maxRecDepth 100000 in
/-- from, a step of the recursion: over take of less room -/
theorem mX1_from_step (l : Launch) (D : va_G) (dA dL : ClassId) (d : Nat) (HT : md_Ctake l D dA dL d) : md_Cfrom l D dA dL (d + 1) := by
  intro hn hh hw sz nn row hv rw hnn hrow hrw hs6 hd
  refine md_MetL (w1 := fun u => md_wN dA hn hh hw nn u rw) (by decide) (Nat.le_of_ble_eq_true rfl) ?_
  intro p e s m below meth c ls args A Q R hR hx hb hml hts hown hname hA hP hK hD hS hl hret
  have hown : s.vm.findClass RX1 = some m.cls := hown
  have hl : lv_has ls 5 [(0, .ref hn), (1, .int (nI row))] := hl
  have hP : va_P D vwCl [(hn, .inr (1, [.ref hh, .ref hw, .int (nI nn)])), (hh, .inl (dA, 36, .inl (md_iA hv))), (hw, .inl (dA, 5, .inl (md_iA rw)))] s.heap := hP
  have hle : ∀ i, i < 6 → hv (6 * row + i) ≤ 5 := fun i hi => by rw [← md_lvl_in hv row hi]; exact Nat.le_trans (md_s6_le hi) hs6
  refine lv_iload_n hx hb dX1_from_0 rfl (lv_at hl 1 rfl) ?_
  refine lv_aload_n hx hb dX1_from_1 rfl (lv_at hl 0 rfl) ?_
  refine va_get (D := D) (ci := 1) (v := .int (nI nn)) (C := RX1) (T := TX1) (N := 3) hx hb hts in_X1 hown hK hP 0 rfl rfl 2 (by decide) (hts _ q24) (fun _ h9 => h9) rfl dX1_from_2 ?_
  refine nv_ne (tgt := 54) hx hb (by omega) (by omega) dX1_from_5 (by decide) (fun hc => ?_) (fun hc => ?_)
  · have hlt : row < nn := by omega
    have after : ∀ (f : Nat → Nat) (H : Heap) (locs : List Loc) (ls : Array Slot), (∀ j, j < 6 * (row + 1) → f j = hv j) → (∀ i, i < 6 → f (6 * (row + 1) + i) = hv (6 * row + i)) → va_P D vwCl [(hn, .inr (1, [.ref hh, .ref hw, .int (nI nn)])), (hh, .inl (dA, 36, .inl (md_iA f))), (hw, .inl (dA, 5, .inl (md_iA rw)))] H → va_D A [(hn, .inr (1, [.ref hh, .ref hw, .int (nI nn)])), (hh, .inl (dA, 36, .inl (md_iA f))), (hw, .inl (dA, 5, .inl (md_iA rw)))] → va_S A s.heap H locs → lv_has ls 5 [(0, .ref hn), (1, .int (nI row))] → W p l e R s m args below meth c H locs 0 0 Q (F0 m 92 ls []) := by
      intro f H locs ls hf1 hf2 hP hD hS hl
      have e1 : md_lvl f row = md_lvl hv row := md_lvl_ext (fun j hj => hf1 _ (by omega))
      have e2 : md_lvl f (row + 1) = md_lvl hv row := md_lvl_ext (fun j hj => hf2 j hj)
      refine lv_aload_n hx hb dX1_from_92 rfl (lv_at hl 0 rfl) ?_
      refine lv_iload_n hx hb dX1_from_93 rfl (lv_at hl 1 rfl) ?_
      refine lv_iconst (v := nI 5) hx hb dX1_from_94 (by decide) ?_
      refine lv_aload_n hx hb dX1_from_95 rfl (lv_at hl 0 rfl) ?_
      refine va_get (D := D) (ci := 1) (v := .ref hw) (C := RX1) (T := TX1) (N := 3) hx hb hts in_X1 hown hK hP 0 rfl rfl 1 (by decide) (hts _ q23) (fun _ h9 => h9) rfl dX1_from_96 ?_
      refine lv_iload_n hx hb dX1_from_99 rfl (lv_at hl 1 rfl) ?_
      refine nv_iald hx hb hK hP 2 0 rfl rfl (by omega) (by decide) dX1_from_100 ?_
      refine md_cVl (wr := []) hx hb hml hown hts hK hP hD hS hA [0, 1, 2] [] rfl rfl (by decide) (by decide) (by decide) (HT hn hh hw H.size nn row 5 (rw row) f rw hnn hlt (by omega) (hrw row (by omega)) hrw (by rw [e2]; exact hs6) (fun j _ _ => by rw [e1, e2]; exact Nat.le_refl _) (by omega)) (cwV 3 hts (lw_V q77 q79 qs1 q5 q80) rfl rfl rfl (by decide +kernel) (by subst hR; exact ⟨Nat.le_refl _, by show 8 + (13 + 11) + 40 * d ≤ 40 * (d + 1); omega⟩)) (q0 := 0) (ci := 1) rfl rfl rfl rfl hl.1 rfl (Nat.le_of_ble_eq_true rfl) dX1_from_101 (by subst hR; exact ⟨Nat.le_refl _, Nat.le_refl _⟩) (fun r u H locs hw hP hD hS => ?_)
      obtain ⟨hw1, hw2⟩ := hw
      refine hret _ _ _ _ r u dX1_from_104 ⟨?_, fun j hj => ?_⟩ hP hD hS
      · rw [hw1, e1, e2, show nn - row = nn - (row + 1) + 1 by omega]
        rfl
      · rw [hw2 j (by omega), hf1 j hj]
    have loop : ∀ (d2 q : Nat) (f : Nat → Nat) (H : Heap) (locs : List Loc) (ls : Array Slot), q + d2 = 6 → (∀ j, j < 6 * (row + 1) → f j = hv j) → (∀ i, i < q → f (6 * (row + 1) + i) = hv (6 * row + i)) → va_P D vwCl [(hn, .inr (1, [.ref hh, .ref hw, .int (nI nn)])), (hh, .inl (dA, 36, .inl (md_iA f))), (hw, .inl (dA, 5, .inl (md_iA rw)))] H → va_D A [(hn, .inr (1, [.ref hh, .ref hw, .int (nI nn)])), (hh, .inl (dA, 36, .inl (md_iA f))), (hw, .inl (dA, 5, .inl (md_iA rw)))] → va_S A s.heap H locs → lv_has ls 5 [(0, .ref hn), (1, .int (nI row)), (2, .int (nI q))] → W p l e R s m args below meth c H locs 0 0 Q (F0 m 56 ls []) := by
      intro d2
      induction d2 with
      | zero =>
        intro q f H locs ls hq hf1 hf2 hP hD hS hl
        refine lv_iload_n hx hb dX1_from_56 rfl (lv_at hl 2 rfl) ?_
        refine lv_bipush (v := nI 6) hx hb dX1_from_57 (by decide) ?_
        refine nv_ge (tgt := 92) hx hb (by omega) (by omega) dX1_from_59 (by decide) (fun hc => ?_) (fun hc => ?_)
        · exact after f H locs ls hf1 (fun i hi => hf2 i (by omega)) hP hD hS (lv_sub hl [0, 1] rfl)
        · exact absurd hc (by omega)
      | succ d2 ih =>
        intro q f H locs ls hq hf1 hf2 hP hD hS hl
        refine lv_iload_n hx hb dX1_from_56 rfl (lv_at hl 2 rfl) ?_
        refine lv_bipush (v := nI 6) hx hb dX1_from_57 (by decide) ?_
        refine nv_ge (tgt := 92) hx hb (by omega) (by omega) dX1_from_59 (by decide) (fun hc => ?_) (fun hc => ?_)
        · exact absurd hc (by omega)
        · refine lv_aload_n hx hb dX1_from_62 rfl (lv_at hl 0 rfl) ?_
          refine va_get (D := D) (ci := 1) (v := .ref hh) (C := RX1) (T := TX1) (N := 3) hx hb hts in_X1 hown hK hP 0 rfl rfl 0 (by decide) (hts _ q22) (fun _ h9 => h9) rfl dX1_from_63 ?_
          refine lv_bipush (v := nI 6) hx hb dX1_from_66 (by decide) ?_
          refine lv_iload_n hx hb dX1_from_68 rfl (lv_at hl 1 rfl) ?_
          refine lv_iconst (v := nI 1) hx hb dX1_from_69 (by decide) ?_
          refine nv_add hx hb dX1_from_70 ?_
          refine nv_mul hx hb dX1_from_71 ?_
          refine lv_iload_n hx hb dX1_from_72 rfl (lv_at hl 2 rfl) ?_
          refine nv_add hx hb dX1_from_73 ?_
          refine lv_aload_n hx hb dX1_from_74 rfl (lv_at hl 0 rfl) ?_
          refine va_get (D := D) (ci := 1) (v := .ref hh) (C := RX1) (T := TX1) (N := 3) hx hb hts in_X1 hown hK hP 0 rfl rfl 0 (by decide) (hts _ q22) (fun _ h9 => h9) rfl dX1_from_75 ?_
          refine lv_bipush (v := nI 6) hx hb dX1_from_78 (by decide) ?_
          refine lv_iload_n hx hb dX1_from_80 rfl (lv_at hl 1 rfl) ?_
          refine nv_mul hx hb dX1_from_81 ?_
          refine lv_iload_n hx hb dX1_from_82 rfl (lv_at hl 2 rfl) ?_
          refine nv_add hx hb dX1_from_83 ?_
          refine nv_iald hx hb hK hP 1 0 rfl rfl (by omega) (by decide) dX1_from_84 ?_
          refine nv_iast hx hb hK hP hD hS 1 0 rfl rfl (by omega) (by decide) dX1_from_85 (fun H locs hP hD hS => ?_)
          have hP : va_P D vwCl [(hn, .inr (1, [.ref hh, .ref hw, .int (nI nn)])), (hh, .inl (dA, 36, .inl (md_iA (md_up f ((6 * (row + 1)) + q) (f ((6 * row) + q)))))), (hw, .inl (dA, 5, .inl (md_iA rw)))] H := hP
          have hD : va_D A [(hn, .inr (1, [.ref hh, .ref hw, .int (nI nn)])), (hh, .inl (dA, 36, .inl (md_iA (md_up f ((6 * (row + 1)) + q) (f ((6 * row) + q)))))), (hw, .inl (dA, 5, .inl (md_iA rw)))] := hD
          refine lv_iinc (v := (nI (q + 1))) (lv' := [(2, .int (nI (q + 1))), (0, .ref hn), (1, .int (nI row))]) hx hb dX1_from_86 hl (k := 2) rfl (nv_inc1 _) (by decide) rfl (fun ls hl => ?_)
          refine lv_goto (tgt := 56) hx hb dX1_from_89 (by decide) ?_
          refine ih (q + 1) _ _ _ ls (by omega) (fun j hj => ?_) (fun i hi => ?_) hP hD hS (lv_sub hl [1, 2, 0] rfl)
          · rw [md_up_n (by omega)]; exact hf1 j hj
          · by_cases e1 : i = q
            · subst e1
              rw [md_up_s, hf1 _ (by omega)]
            · rw [md_up_n (by omega)]; exact hf2 i (by omega)
    refine lv_iconst (v := nI 0) hx hb dX1_from_54 (by decide) ?_
    refine lv_istore_n (lv' := [(2, .int (nI 0)), (0, .ref hn), (1, .int (nI row))]) hx hb dX1_from_55 rfl hl (by decide) rfl (fun ls hl => ?_)
    exact loop 6 0 hv _ _ ls (by omega) (fun _ _ => rfl) (fun i hi => by omega) hP hD hS (lv_sub hl [1, 2, 0] rfl)
  · subst hc
    have hsm : ∀ q, q ≤ 5 → md_sum (fun i => hv (6 * row + (i + 1))) q ≤ q * 5 := fun q hq => md_sum_le (fun i hi => hle (i + 1) (by omega))
    have loop : ∀ (d2 q : Nat) (ls : Array Slot), q + d2 = 5 → lv_has ls 5 [(0, .ref hn), (1, .int (nI row)), (2, .long (lN (md_sum (fun i => hv (6 * row + (i + 1))) q))), (4, .int (nI (q + 1)))] → W p l e R s m args below meth c s.heap [] 0 0 Q (F0 m 13 ls []) := by
      intro d2
      induction d2 with
      | zero =>
        intro q ls hq hl
        have hq : q = 5 := by omega
        subst hq
        refine lv_iload hx hb dX1_from_13 (lv_at hl 3 rfl) ?_
        refine lv_bipush (v := nI 6) hx hb dX1_from_15 (by decide) ?_
        refine nv_ge (tgt := 42) hx hb (by omega) (by omega) dX1_from_17 (by decide) (fun hc => ?_) (fun hc => ?_)
        · refine lv_lload_n hx hb dX1_from_42 rfl (lv_at hl 2 rfl) ?_
          refine lv_lconst (v := lN 0) hx hb dX1_from_43 (by decide) ?_
          have h5 := hsm 5 (by omega)
          have e5 : md_sum (fun i => hv (6 * row + (i + 1))) 5 = md_lvl hv row 1 + md_lvl hv row 2 + md_lvl hv row 3 + md_lvl hv row 4 + md_lvl hv row 5 := by simp [md_sum, md_lvl]
          refine W.lcmp hx hb dX1_from_44 ?_
          refine lv_if_ne (tgt := 52) hx hb dX1_from_45 (by decide) (fun hc => ?_) (fun hc => ?_)
          · refine lv_lconst (v := lN 0) hx hb dX1_from_52 (by decide) ?_
            refine hret _ _ _ _ _ hv dX1_from_53 ⟨?_, fun _ _ => rfl⟩ hP hD hS
            have hne : ¬ (md_lvl hv row 1 + md_lvl hv row 2 + md_lvl hv row 3 + md_lvl hv row 4 + md_lvl hv row 5 = 0) := fun q => hc ((nv_cmp0 (by omega) (by omega)).mpr (by omega))
            rw [Nat.sub_self]
            exact congrArg lN (if_neg hne).symm
          · refine lv_lconst (v := lN 1) hx hb dX1_from_48 (by decide) ?_
            refine lv_goto (tgt := 53) hx hb dX1_from_49 (by decide) ?_
            refine hret _ _ _ _ _ hv dX1_from_53 ⟨?_, fun _ _ => rfl⟩ hP hD hS
            have hne : md_lvl hv row 1 + md_lvl hv row 2 + md_lvl hv row 3 + md_lvl hv row 4 + md_lvl hv row 5 = 0 := by
              have := (nv_cmp0 (by omega) (by omega)).mp hc
              omega
            rw [Nat.sub_self]
            exact congrArg lN (if_pos hne).symm
        · exact absurd hc (by omega)
      | succ d2 ih =>
        intro q ls hq hl
        refine lv_iload hx hb dX1_from_13 (lv_at hl 3 rfl) ?_
        refine lv_bipush (v := nI 6) hx hb dX1_from_15 (by decide) ?_
        refine nv_ge (tgt := 42) hx hb (by omega) (by omega) dX1_from_17 (by decide) (fun hc => ?_) (fun hc => ?_)
        · exact absurd hc (by omega)
        · have hv5 := hle (q + 1) (by omega)
          refine lv_lload_n hx hb dX1_from_20 rfl (lv_at hl 2 rfl) ?_
          refine lv_aload_n hx hb dX1_from_21 rfl (lv_at hl 0 rfl) ?_
          refine va_get (D := D) (ci := 1) (v := .ref hh) (C := RX1) (T := TX1) (N := 3) hx hb hts in_X1 hown hK hP 0 rfl rfl 0 (by decide) (hts _ q22) (fun _ h9 => h9) rfl dX1_from_22 ?_
          refine lv_bipush (v := nI 6) hx hb dX1_from_25 (by decide) ?_
          refine lv_iload_n hx hb dX1_from_27 rfl (lv_at hl 1 rfl) ?_
          refine nv_mul hx hb dX1_from_28 ?_
          refine lv_iload hx hb dX1_from_29 (lv_at hl 3 rfl) ?_
          refine nv_add hx hb dX1_from_31 ?_
          refine nv_iald hx hb hK hP 1 0 rfl rfl (by omega) (by decide) dX1_from_32 ?_
          refine nv_i2l hx hb (by omega) dX1_from_33 ?_
          refine nv_ladd hx hb dX1_from_34 ?_
          refine lv_lstore_n (lv' := [(2, .long (lN ((md_sum (fun i => hv (6 * row + (i + 1))) q) + (hv ((6 * row) + (q + 1)))))), (0, .ref hn), (1, .int (nI row)), (4, .int (nI (q + 1)))]) hx hb dX1_from_35 rfl hl (by decide) rfl (fun ls hl => ?_)
          refine lv_iinc (v := (nI (q + 1 + 1))) (lv' := [(4, .int (nI (q + 1 + 1))), (2, .long (lN ((md_sum (fun i => hv (6 * row + (i + 1))) q) + (hv ((6 * row) + (q + 1)))))), (0, .ref hn), (1, .int (nI row))]) hx hb dX1_from_36 hl (k := 3) rfl (nv_inc1 _) (by decide) rfl (fun ls hl => ?_)
          refine lv_goto (tgt := 13) hx hb dX1_from_39 (by decide) ?_
          exact ih (q + 1) ls (by omega) (lv_sub hl [2, 3, 1, 0] rfl)
    refine lv_lconst (v := lN 0) hx hb dX1_from_8 (by decide) ?_
    refine lv_lstore_n (lv' := [(2, .long (lN 0)), (0, .ref hn), (1, .int (nI row))]) hx hb dX1_from_9 rfl hl (by decide) rfl (fun ls hl => ?_)
    refine lv_iconst (v := nI 1) hx hb dX1_from_10 (by decide) ?_
    refine lv_istore (lv' := [(4, .int (nI 1)), (2, .long (lN 0)), (0, .ref hn), (1, .int (nI row))]) hx hb dX1_from_11 hl (by decide) rfl (fun ls hl => ?_)
    exact loop 5 0 ls (by omega) (lv_sub hl [2, 3, 1, 0] rfl)
end
section
set_option maxHeartbeats 4000000 in
set_option maxRecDepth 100000 in
/-- take, a step of the recursion: over from and take of less room -/
theorem mX1_take_step (l : Launch) (D : va_G) (dA dL : ClassId) (d : Nat) (HF : md_Cfrom l D dA dL d) (HT : md_Ctake l D dA dL d) : md_Ctake l D dA dL (d + 1) := by
  intro hn hh hw sz nn row need ones hv rw hnn hrow hneed hones hrw hs6 hge hd
  refine md_MetL (w1 := fun u => md_wN dA hn hh hw nn u rw) (by decide) (Nat.le_of_ble_eq_true rfl) ?_
  intro p e s m below meth c ls args A Q R hR hx hb hml hts hown hname hA hP hK hD hS hl hret
  have hown : s.vm.findClass RX1 = some m.cls := hown
  have hl : lv_has ls 13 [(0, .ref hn), (1, .int (nI row)), (2, .int (nI need)), (3, .int (nI ones))] := hl
  have hP : va_P D vwCl [(hn, .inr (1, [.ref hh, .ref hw, .int (nI nn)])), (hh, .inl (dA, 36, .inl (md_iA hv))), (hw, .inl (dA, 5, .inl (md_iA rw)))] s.heap := hP
  refine lv_iload_n hx hb dX1_take_0 rfl (lv_at hl 2 rfl) ?_
  refine nv_ifne (tgt := 20) hx hb (by omega) dX1_take_1 (by decide) (fun hc => ?_) (fun hc => ?_)
  · obtain ⟨q, rfl⟩ : ∃ q, need = q + 1 := ⟨need - 1, by omega⟩
    obtain ⟨at_, eat⟩ : ∃ z, z = 6 * (row + 1) + (q + 1) := ⟨_, rfl⟩
    obtain ⟨th, eth⟩ : ∃ z, z = hv (6 * row + (q + 1)) := ⟨_, rfl⟩
    have hth0 : md_lvl hv row (q + 1) = th := by rw [md_lvl_in _ _ (by omega), eth]
    have hthat : th ≤ hv at_ := by have := hge (q + 1) (by omega) (by omega); rw [hth0, md_lvl_in _ _ (by omega), ← eat] at this; exact this
    have hat5 : hv at_ ≤ 5 := by rw [eat, ← md_lvl_in hv (row + 1) (by omega)]; exact Nat.le_trans (md_s6_le (by omega)) hs6
    obtain ⟨F, eF⟩ : ∃ F : Nat → Nat, F = fun k => md_ch (md_lvl hv row (q + 1)) k * md_T (md_from (md_rl rw (row + 1) (nn - (row + 1)))) (md_lvl hv row) q (ones - k) (md_mv (md_lvl hv (row + 1)) (q + 1) k) := ⟨_, rfl⟩
    have hF : md_T (md_from (md_rl rw (row + 1) (nn - (row + 1)))) (md_lvl hv row) (q + 1) ones (md_lvl hv (row + 1)) = md_sum F (ones + 1) := by rw [eF]; rfl
    have loop : ∀ (dd k : Nat) (f : Nat → Nat) (H : Heap) (locs : List Loc) (ls : Array Slot), k + dd = min th ones + 1 → (∀ j, j < 6 * (row + 2) → f j = hv j) → va_P D vwCl [(hn, .inr (1, [.ref hh, .ref hw, .int (nI nn)])), (hh, .inl (dA, 36, .inl (md_iA f))), (hw, .inl (dA, 5, .inl (md_iA rw)))] H → va_D A [(hn, .inr (1, [.ref hh, .ref hw, .int (nI nn)])), (hh, .inl (dA, 36, .inl (md_iA f))), (hw, .inl (dA, 5, .inl (md_iA rw)))] → va_S A s.heap H locs → lv_has ls 13 [(0, .ref hn), (1, .int (nI row)), (2, .int (nI (q + 1))), (3, .int (nI ones)), (4, .long (lN (md_sum F k))), (6, .int (nI at_)), (7, .int (nI th)), (8, .int (nI k))] → W p l e R s m args below meth c H locs 0 0 Q (F0 m 49 ls []) := by
      intro dd
      induction dd with
      | zero =>
        intro k f H locs ls hk hf hP hD hS hl
        refine lv_iload hx hb dX1_take_49 (lv_at hl 7 rfl) ?_
        refine lv_iload hx hb dX1_take_51 (lv_at hl 6 rfl) ?_
        refine nv_gt (tgt := 227) hx hb (by omega) (by omega) dX1_take_53 (by decide) (fun hc => ?_) (fun hc => ?_)
        · refine lv_lload hx hb dX1_take_227 (lv_at hl 4 rfl) ?_
          refine hret _ _ _ _ _ f dX1_take_229 ⟨?_, hf⟩ hP hD hS
          rw [hF, md_sum_cut (a := k) (fun i hi => ?_) (ones + 1) (by omega)]
          rw [eF, hth0]
          show md_ch th i * _ = 0
          rw [md_ch_big th i (by omega), Nat.zero_mul]
        · refine lv_iload hx hb dX1_take_56 (lv_at hl 7 rfl) ?_
          refine lv_iload_n hx hb dX1_take_58 rfl (lv_at hl 3 rfl) ?_
          refine nv_gt (tgt := 227) hx hb (by omega) (by omega) dX1_take_59 (by decide) (fun hc => ?_) (fun hc => ?_)
          · refine lv_lload hx hb dX1_take_227 (lv_at hl 4 rfl) ?_
            exact hret _ _ _ _ _ f dX1_take_229 ⟨by rw [hF, show ones + 1 = k by omega], hf⟩ hP hD hS
          · exact absurd hc (by omega)
      | succ dd ih =>
        intro k f H locs ls hk hf hP hD hS hl
        refine lv_iload hx hb dX1_take_49 (lv_at hl 7 rfl) ?_
        refine lv_iload hx hb dX1_take_51 (lv_at hl 6 rfl) ?_
        refine nv_gt (tgt := 227) hx hb (by omega) (by omega) dX1_take_53 (by decide) (fun hc => ?_) (fun hc => ?_)
        · exact absurd hc (by omega)
        · refine lv_iload hx hb dX1_take_56 (lv_at hl 7 rfl) ?_
          refine lv_iload_n hx hb dX1_take_58 rfl (lv_at hl 3 rfl) ?_
          refine nv_gt (tgt := 227) hx hb (by omega) (by omega) dX1_take_59 (by decide) (fun hc => ?_) (fun hc => ?_)
          · exact absurd hc (by omega)
          · have hkf : k ≤ f at_ := by rw [hf at_ (by omega)]; omega
            refine lv_aload_n hx hb dX1_take_62 rfl (lv_at hl 0 rfl) ?_
            refine va_get (D := D) (ci := 1) (v := .ref hh) (C := RX1) (T := TX1) (N := 3) hx hb hts in_X1 hown hK hP 0 rfl rfl 0 (by decide) (hts _ q22) (fun _ h9 => h9) rfl dX1_take_63 ?_
            refine lv_iload hx hb dX1_take_66 (lv_at hl 5 rfl) ?_
            refine lv_dup2_11 hx hb dX1_take_68 rfl rfl ?_
            refine nv_iald hx hb hK hP 1 0 rfl rfl (by omega) (by decide) dX1_take_69 ?_
            refine lv_iload hx hb dX1_take_70 (lv_at hl 7 rfl) ?_
            refine nv_sub hx hb (by omega) dX1_take_72 ?_
            refine nv_iast hx hb hK hP hD hS 1 0 rfl rfl (by omega) (by decide) dX1_take_73 (fun H locs hP hD hS => ?_)
            have hP : va_P D vwCl [(hn, .inr (1, [.ref hh, .ref hw, .int (nI nn)])), (hh, .inl (dA, 36, .inl (md_iA (md_up f at_ ((f at_) - k))))), (hw, .inl (dA, 5, .inl (md_iA rw)))] H := hP
            have hD : va_D A [(hn, .inr (1, [.ref hh, .ref hw, .int (nI nn)])), (hh, .inl (dA, 36, .inl (md_iA (md_up f at_ ((f at_) - k))))), (hw, .inl (dA, 5, .inl (md_iA rw)))] := hD
            refine lv_aload_n hx hb dX1_take_74 rfl (lv_at hl 0 rfl) ?_
            refine va_get (D := D) (ci := 1) (v := .ref hh) (C := RX1) (T := TX1) (N := 3) hx hb hts in_X1 hown hK hP 0 rfl rfl 0 (by decide) (hts _ q22) (fun _ h9 => h9) rfl dX1_take_75 ?_
            refine lv_iload hx hb dX1_take_78 (lv_at hl 5 rfl) ?_
            refine lv_iconst (v := nI 1) hx hb dX1_take_80 (by decide) ?_
            refine nv_sub hx hb (by omega) dX1_take_81 ?_
            refine lv_dup2_11 hx hb dX1_take_82 rfl rfl ?_
            refine nv_iald hx hb hK hP 1 0 rfl rfl (by omega) (by decide) dX1_take_83 ?_
            refine lv_iload hx hb dX1_take_84 (lv_at hl 7 rfl) ?_
            refine nv_add hx hb dX1_take_86 ?_
            refine nv_iast hx hb hK hP hD hS 1 0 rfl rfl (by omega) (by decide) dX1_take_87 (fun H locs hP hD hS => ?_)
            have hP : va_P D vwCl [(hn, .inr (1, [.ref hh, .ref hw, .int (nI nn)])), (hh, .inl (dA, 36, .inl (md_iA (md_up (md_up f at_ ((f at_) - k)) (at_ - 1) (((md_up f at_ ((f at_) - k)) (at_ - 1)) + k))))), (hw, .inl (dA, 5, .inl (md_iA rw)))] H := hP
            have hD : va_D A [(hn, .inr (1, [.ref hh, .ref hw, .int (nI nn)])), (hh, .inl (dA, 36, .inl (md_iA (md_up (md_up f at_ ((f at_) - k)) (at_ - 1) (((md_up f at_ ((f at_) - k)) (at_ - 1)) + k))))), (hw, .inl (dA, 5, .inl (md_iA rw)))] := hD
            obtain ⟨f2, ef2⟩ : ∃ z, z = md_f2 f at_ k := ⟨_, rfl⟩
            have hP : va_P D vwCl [(hn, .inr (1, [.ref hh, .ref hw, .int (nI nn)])), (hh, .inl (dA, 36, .inl (md_iA f2))), (hw, .inl (dA, 5, .inl (md_iA rw)))] H := by rw [ef2]; exact hP
            have hD : va_D A [(hn, .inr (1, [.ref hh, .ref hw, .int (nI nn)])), (hh, .inl (dA, 36, .inl (md_iA f2))), (hw, .inl (dA, 5, .inl (md_iA rw)))] := by rw [ef2]; exact hD
            obtain ⟨t1, t2⟩ := md_tk1 (k := k) eat (by omega) hf
            rw [← ef2] at t1 t2
            have hkl : k ≤ md_lvl hv (row + 1) (q + 1) := by rw [md_lvl_in _ _ (by omega), ← eat]; omega
            have hs2 : md_s6 (md_lvl f2 (row + 1)) ≤ 5 := by rw [t2, md_s6_mv (by omega) hkl]; exact hs6
            have hg2 : ∀ i, i < 6 → f2 (6 * (row + 1) + i) < 16 := fun i hi => by have := Nat.le_trans (md_s6_le hi) hs2; rw [md_lvl_in _ _ hi] at this; omega
            obtain ⟨g2, eg2⟩ : ∃ g : Nat → Nat, g = fun i => f2 (6 * (row + 1) + i) := ⟨_, rfl⟩
            have hg2 : ∀ i, i < 6 → g2 i < 16 := by rw [eg2]; exact hg2
            have e1 : md_lvl f2 row = md_lvl hv row := md_lvl_ext (fun j hj => t1 _ (by omega))
            have after : ∀ (ls : Array Slot), lv_has ls 13 [(0, .ref hn), (1, .int (nI row)), (2, .int (nI (q + 1))), (3, .int (nI ones)), (4, .long (lN (md_sum F k))), (6, .int (nI at_)), (7, .int (nI th)), (8, .int (nI k)), (9, .int (nI (6 * (row + 1)))), (10, .long (lN (md_pk g2 6)))] → W p l e R s m args below meth c H locs 0 0 Q (F0 m 133 ls []) := by
              intro ls hl
              refine lv_lload hx hb dX1_take_133 (lv_at hl 4 rfl) ?_
              refine lv_iload hx hb dX1_take_135 (lv_at hl 6 rfl) ?_
              refine lv_iload hx hb dX1_take_137 (lv_at hl 7 rfl) ?_
              refine md_cSl (wr := [(hn, .inr (1, [.ref hh, .ref hw, .int (nI nn)])), (hh, .inl (dA, 36, .inl (md_iA f2))), (hw, .inl (dA, 5, .inl (md_iA rw)))]) (w1 := fun (_ : Unit) => []) hx hb hml hown hts hK hP hD hS hA [] [0, 1, 2] rfl rfl (by decide) (by decide) (by decide) (mX1_ways l D dA dL H.size th k (by omega) (by omega)) (va_cwS 2 hts (lw_S q81 q82 q5 q83) rfl rfl rfl (by decide +kernel) (by subst hR; exact ⟨Nat.succ_le_succ (Nat.zero_le _), by show 8 + (5 + 11) + 0 ≤ 40 * (d + 1); omega⟩)) rfl hl.1 rfl (Nat.le_of_ble_eq_true rfl) dX1_take_139 (by subst hR; exact ⟨Nat.le_refl _, Nat.le_refl _⟩) (fun r _ H locs hw1 hP hD hS => ?_)
              subst hw1
              have hP : va_P D vwCl [(hn, .inr (1, [.ref hh, .ref hw, .int (nI nn)])), (hh, .inl (dA, 36, .inl (md_iA f2))), (hw, .inl (dA, 5, .inl (md_iA rw)))] H := hP
              have hD : va_D A [(hn, .inr (1, [.ref hh, .ref hw, .int (nI nn)])), (hh, .inl (dA, 36, .inl (md_iA f2))), (hw, .inl (dA, 5, .inl (md_iA rw)))] := hD
              refine lv_aload_n hx hb dX1_take_142 rfl (lv_at hl 0 rfl) ?_
              refine lv_iload_n hx hb dX1_take_143 rfl (lv_at hl 1 rfl) ?_
              refine lv_iload_n hx hb dX1_take_144 rfl (lv_at hl 2 rfl) ?_
              refine lv_iconst (v := nI 1) hx hb dX1_take_145 (by decide) ?_
              refine nv_sub hx hb (by omega) dX1_take_146 ?_
              refine nv_i (y := nI q) (by rw [Nat.add_sub_cancel]) ?_
              refine lv_iload_n hx hb dX1_take_147 rfl (lv_at hl 3 rfl) ?_
              refine lv_iload hx hb dX1_take_148 (lv_at hl 7 rfl) ?_
              refine nv_sub hx hb (by omega) dX1_take_150 ?_
              refine md_cVl (wr := []) hx hb hml hown hts hK hP hD hS hA [0, 1, 2] [] rfl rfl (by decide) (by decide) (by decide) (HT hn hh hw H.size nn row q (ones - k) f2 rw hnn hrow (by omega) (by omega) hrw hs2 (fun j h1 h2 => ?_) (by omega)) (cwV 3 hts (lw_V q77 q79 qs1 q5 q80) rfl rfl rfl (by decide +kernel) (by subst hR; exact ⟨Nat.le_refl _, by show 8 + (13 + 11) + 40 * d ≤ 40 * (d + 1); omega⟩)) (q0 := 0) (ci := 1) rfl rfl rfl rfl hl.1 rfl (Nat.le_of_ble_eq_true rfl) dX1_take_151 (by subst hR; exact ⟨Nat.le_refl _, Nat.le_refl _⟩) (fun r u H locs hw hP hD hS => ?_)
              · rw [e1, t2]
                have := hge j h1 (by omega)
                unfold md_mv
                split
                · omega
                · rw [if_neg (by omega)]; exact this
              obtain ⟨hw1, hu⟩ := hw
              subst hw1
              have hP : va_P D vwCl [(hn, .inr (1, [.ref hh, .ref hw, .int (nI nn)])), (hh, .inl (dA, 36, .inl (md_iA u))), (hw, .inl (dA, 5, .inl (md_iA rw)))] H := hP
              have hD : va_D A [(hn, .inr (1, [.ref hh, .ref hw, .int (nI nn)])), (hh, .inl (dA, 36, .inl (md_iA u))), (hw, .inl (dA, 5, .inl (md_iA rw)))] := hD
              refine nv_lmul hx hb dX1_take_154 ?_
              refine nv_ladd hx hb dX1_take_155 ?_
              refine nv_l (y := lN (md_sum F (k + 1))) (by rw [e1, t2]; show _ = lN (md_sum F k + F k); rw [eF, hth0]) ?_
              obtain ⟨t3, t4⟩ := md_tk2 (u := u) eat (by omega) hf hkf (fun j hj => by rw [← ef2]; exact hu j hj)
              have back : ∀ (j : Nat) (H : Heap) (locs : List Loc) (ls : Array Slot), j ≤ 6 → va_P D vwCl [(hn, .inr (1, [.ref hh, .ref hw, .int (nI nn)])), (hh, .inl (dA, 36, .inl (md_iA u))), (hw, .inl (dA, 5, .inl (md_iA rw)))] H → va_D A [(hn, .inr (1, [.ref hh, .ref hw, .int (nI nn)])), (hh, .inl (dA, 36, .inl (md_iA u))), (hw, .inl (dA, 5, .inl (md_iA rw)))] → va_S A s.heap H locs → lv_has ls 13 [(0, .ref hn), (1, .int (nI row)), (2, .int (nI (q + 1))), (3, .int (nI ones)), (4, .long (lN (md_sum F (k + 1)))), (6, .int (nI at_)), (7, .int (nI th)), (8, .int (nI k)), (9, .int (nI (6 * (row + 1)))), (10, .long (lN (md_pk g2 j))), (12, .int (md_p j))] → W p l e R s m args below meth c H locs 0 0 Q (F0 m 161 ls []) := by
                intro j
                induction j with
                | zero =>
                  intro H locs ls _ hP hD hS hl
                  refine lv_iload hx hb dX1_take_161 (lv_at hl 10 rfl) ?_
                  refine nv_iflt0 (tgt := 195) hx hb dX1_take_163 (by decide) ?_
                  refine lv_aload_n hx hb dX1_take_195 rfl (lv_at hl 0 rfl) ?_
                  refine va_get (D := D) (ci := 1) (v := .ref hh) (C := RX1) (T := TX1) (N := 3) hx hb hts in_X1 hown hK hP 0 rfl rfl 0 (by decide) (hts _ q22) (fun _ h9 => h9) rfl dX1_take_196 ?_
                  refine lv_iload hx hb dX1_take_199 (lv_at hl 5 rfl) ?_
                  refine lv_dup2_11 hx hb dX1_take_201 rfl rfl ?_
                  refine nv_iald hx hb hK hP 1 0 rfl rfl (by omega) (by decide) dX1_take_202 ?_
                  refine lv_iload hx hb dX1_take_203 (lv_at hl 7 rfl) ?_
                  refine nv_add hx hb dX1_take_205 ?_
                  refine nv_iast hx hb hK hP hD hS 1 0 rfl rfl (by omega) (by decide) dX1_take_206 (fun H locs hP hD hS => ?_)
                  have hP : va_P D vwCl [(hn, .inr (1, [.ref hh, .ref hw, .int (nI nn)])), (hh, .inl (dA, 36, .inl (md_iA (md_up u at_ ((u at_) + k))))), (hw, .inl (dA, 5, .inl (md_iA rw)))] H := hP
                  have hD : va_D A [(hn, .inr (1, [.ref hh, .ref hw, .int (nI nn)])), (hh, .inl (dA, 36, .inl (md_iA (md_up u at_ ((u at_) + k))))), (hw, .inl (dA, 5, .inl (md_iA rw)))] := hD
                  refine lv_aload_n hx hb dX1_take_207 rfl (lv_at hl 0 rfl) ?_
                  refine va_get (D := D) (ci := 1) (v := .ref hh) (C := RX1) (T := TX1) (N := 3) hx hb hts in_X1 hown hK hP 0 rfl rfl 0 (by decide) (hts _ q22) (fun _ h9 => h9) rfl dX1_take_208 ?_
                  refine lv_iload hx hb dX1_take_211 (lv_at hl 5 rfl) ?_
                  refine lv_iconst (v := nI 1) hx hb dX1_take_213 (by decide) ?_
                  refine nv_sub hx hb (by omega) dX1_take_214 ?_
                  refine lv_dup2_11 hx hb dX1_take_215 rfl rfl ?_
                  refine nv_iald hx hb hK hP 1 0 rfl rfl (by omega) (by decide) dX1_take_216 ?_
                  refine lv_iload hx hb dX1_take_217 (lv_at hl 7 rfl) ?_
                  refine nv_sub hx hb t3 dX1_take_219 ?_
                  refine nv_iast hx hb hK hP hD hS 1 0 rfl rfl (by omega) (by decide) dX1_take_220 (fun H locs hP hD hS => ?_)
                  have hP : va_P D vwCl [(hn, .inr (1, [.ref hh, .ref hw, .int (nI nn)])), (hh, .inl (dA, 36, .inl (md_iA (md_up (md_up u at_ ((u at_) + k)) (at_ - 1) (((md_up u at_ ((u at_) + k)) (at_ - 1)) - k))))), (hw, .inl (dA, 5, .inl (md_iA rw)))] H := hP
                  have hD : va_D A [(hn, .inr (1, [.ref hh, .ref hw, .int (nI nn)])), (hh, .inl (dA, 36, .inl (md_iA (md_up (md_up u at_ ((u at_) + k)) (at_ - 1) (((md_up u at_ ((u at_) + k)) (at_ - 1)) - k))))), (hw, .inl (dA, 5, .inl (md_iA rw)))] := hD
                  refine lv_iinc (v := (nI (k + 1))) (lv' := [(8, .int (nI (k + 1))), (0, .ref hn), (1, .int (nI row)), (2, .int (nI (q + 1))), (3, .int (nI ones)), (4, .long (lN (md_sum F (k + 1)))), (6, .int (nI at_)), (7, .int (nI th)), (9, .int (nI (6 * (row + 1)))), (10, .long (lN (md_pk g2 0))), (12, .int (md_p 0))]) hx hb dX1_take_221 hl (k := 7) rfl (nv_inc1 _) (by decide) rfl (fun ls hl => ?_)
                  refine lv_goto (tgt := 49) hx hb dX1_take_224 (by decide) ?_
                  exact ih (k + 1) _ _ _ ls (by omega) t4 hP hD hS (lv_sub hl [1, 2, 3, 4, 5, 6, 7, 0] rfl)
                | succ i ih2 =>
                  intro H locs ls hi hP hD hS hl
                  rw [md_p_S] at hl
                  have hpk := md_pk_small (h := g2) hi hg2
                  have hpi : md_pk g2 (i + 1) = md_pk g2 i * 16 + g2 i := rfl
                  have hgi := hg2 i (by omega)
                  refine lv_iload hx hb dX1_take_161 (lv_at hl 10 rfl) ?_
                  refine nv_ifltS hx hb (by omega) dX1_take_163 (tgt := 195) (by decide) ?_
                  refine lv_aload_n hx hb dX1_take_166 rfl (lv_at hl 0 rfl) ?_
                  refine va_get (D := D) (ci := 1) (v := .ref hh) (C := RX1) (T := TX1) (N := 3) hx hb hts in_X1 hown hK hP 0 rfl rfl 0 (by decide) (hts _ q22) (fun _ h9 => h9) rfl dX1_take_167 ?_
                  refine lv_iload hx hb dX1_take_170 (lv_at hl 8 rfl) ?_
                  refine lv_iload hx hb dX1_take_172 (lv_at hl 10 rfl) ?_
                  refine nv_add hx hb dX1_take_174 ?_
                  refine lv_lload hx hb dX1_take_175 (lv_at hl 9 rfl) ?_
                  refine lv_ldc2 hx hb hown (hts _ q84) dX1_take_177 ?_
                  refine nv_land hx hb (by omega) dX1_take_180 ?_
                  refine nv_l2i hx hb dX1_take_181 ?_
                  refine nv_i (y := nI (u (6 * (row + 1) + i))) (by rw [hu _ (by omega), show md_pk g2 (i + 1) % 16 = g2 i by omega, eg2]) ?_
                  refine nv_iast hx hb hK hP hD hS 1 0 rfl rfl (by omega) (by decide) dX1_take_182 (fun H locs hP hD hS => ?_)
                  have hP : va_P D vwCl [(hn, .inr (1, [.ref hh, .ref hw, .int (nI nn)])), (hh, .inl (dA, 36, .inl (md_iA (md_up u ((6 * (row + 1)) + i) (u (6 * (row + 1) + i)))))), (hw, .inl (dA, 5, .inl (md_iA rw)))] H := hP
                  have hD : va_D A [(hn, .inr (1, [.ref hh, .ref hw, .int (nI nn)])), (hh, .inl (dA, 36, .inl (md_iA (md_up u ((6 * (row + 1)) + i) (u (6 * (row + 1) + i)))))), (hw, .inl (dA, 5, .inl (md_iA rw)))] := hD
                  rw [md_up_self] at hP hD
                  refine lv_lload hx hb dX1_take_183 (lv_at hl 9 rfl) ?_
                  refine lv_iconst (v := nI 4) hx hb dX1_take_185 (by decide) ?_
                  refine nv_shr4 hx hb (by omega) dX1_take_186 ?_
                  refine nv_l (y := lN (md_pk g2 i)) (by rw [show md_pk g2 (i + 1) / 16 = md_pk g2 i by omega]) ?_
                  refine lv_lstore (lv' := [(10, .long (lN (md_pk g2 i))), (0, .ref hn), (1, .int (nI row)), (2, .int (nI (q + 1))), (3, .int (nI ones)), (4, .long (lN (md_sum F (k + 1)))), (6, .int (nI at_)), (7, .int (nI th)), (8, .int (nI k)), (9, .int (nI (6 * (row + 1)))), (12, .int (nI i))]) hx hb dX1_take_187 hl (by decide) rfl (fun ls hl => ?_)
                  refine lv_iinc (v := (md_p i)) (lv' := [(12, .int (md_p i)), (10, .long (lN (md_pk g2 i))), (0, .ref hn), (1, .int (nI row)), (2, .int (nI (q + 1))), (3, .int (nI ones)), (4, .long (lN (md_sum F (k + 1)))), (6, .int (nI at_)), (7, .int (nI th)), (8, .int (nI k)), (9, .int (nI (6 * (row + 1))))]) hx hb dX1_take_189 hl (k := 10) rfl (nv_dec _) (by decide) rfl (fun ls hl => ?_)
                  refine lv_goto (tgt := 161) hx hb dX1_take_192 (by decide) ?_
                  exact ih2 _ _ ls (by omega) hP hD hS (lv_sub hl [2, 3, 4, 5, 6, 7, 8, 9, 10, 1, 0] rfl)
              refine lv_lstore (lv' := [(4, .long (lN (md_sum F (k + 1)))), (0, .ref hn), (1, .int (nI row)), (2, .int (nI (q + 1))), (3, .int (nI ones)), (6, .int (nI at_)), (7, .int (nI th)), (8, .int (nI k)), (9, .int (nI (6 * (row + 1)))), (10, .long (lN (md_pk g2 6)))]) hx hb dX1_take_156 hl (by decide) rfl (fun ls hl => ?_)
              refine lv_iconst (v := nI 5) hx hb dX1_take_158 (by decide) ?_
              refine nv_i (y := md_p 6) (by rw [md_p_S]) ?_
              refine lv_istore (lv' := [(12, .int (md_p 6)), (4, .long (lN (md_sum F (k + 1)))), (0, .ref hn), (1, .int (nI row)), (2, .int (nI (q + 1))), (3, .int (nI ones)), (6, .int (nI at_)), (7, .int (nI th)), (8, .int (nI k)), (9, .int (nI (6 * (row + 1)))), (10, .long (lN (md_pk g2 6)))]) hx hb dX1_take_159 hl (by decide) rfl (fun ls hl => ?_)
              exact back 6 _ _ ls (by omega) hP hD hS (lv_sub hl [2, 3, 4, 5, 1, 6, 7, 8, 9, 10, 0] rfl)
            have pack : ∀ (d2 i : Nat) (ls : Array Slot), i + d2 = 6 → lv_has ls 13 [(0, .ref hn), (1, .int (nI row)), (2, .int (nI (q + 1))), (3, .int (nI ones)), (4, .long (lN (md_sum F k))), (6, .int (nI at_)), (7, .int (nI th)), (8, .int (nI k)), (9, .int (nI (6 * (row + 1)))), (10, .long (lN (md_pk g2 i))), (12, .int (nI i))] → W p l e R s m args below meth c H locs 0 0 Q (F0 m 102 ls []) := by
              intro d2
              induction d2 with
              | zero =>
                intro i ls hi hl
                have hi : i = 6 := by omega
                subst hi
                refine lv_iload hx hb dX1_take_102 (lv_at hl 10 rfl) ?_
                refine lv_bipush (v := nI 6) hx hb dX1_take_104 (by decide) ?_
                refine nv_ge (tgt := 133) hx hb (by omega) (by omega) dX1_take_106 (by decide) (fun hc => ?_) (fun hc => ?_)
                · exact after ls (lv_sub hl [0, 1, 2, 3, 4, 5, 6, 7, 8, 9] rfl)
                · exact absurd hc (by omega)
              | succ d2 ih2 =>
                intro i ls hi hl
                refine lv_iload hx hb dX1_take_102 (lv_at hl 10 rfl) ?_
                refine lv_bipush (v := nI 6) hx hb dX1_take_104 (by decide) ?_
                refine nv_ge (tgt := 133) hx hb (by omega) (by omega) dX1_take_106 (by decide) (fun hc => ?_) (fun hc => ?_)
                · exact absurd hc (by omega)
                · have hpk := md_pk_small (h := g2) (n := i) (by omega) hg2
                  have hgi := hg2 i (by omega)
                  refine lv_lload hx hb dX1_take_109 (lv_at hl 9 rfl) ?_
                  refine lv_iconst (v := nI 4) hx hb dX1_take_111 (by decide) ?_
                  refine nv_shl4 hx hb dX1_take_112 ?_
                  refine lv_aload_n hx hb dX1_take_113 rfl (lv_at hl 0 rfl) ?_
                  refine va_get (D := D) (ci := 1) (v := .ref hh) (C := RX1) (T := TX1) (N := 3) hx hb hts in_X1 hown hK hP 0 rfl rfl 0 (by decide) (hts _ q22) (fun _ h9 => h9) rfl dX1_take_114 ?_
                  refine lv_iload hx hb dX1_take_117 (lv_at hl 8 rfl) ?_
                  refine lv_iload hx hb dX1_take_119 (lv_at hl 10 rfl) ?_
                  refine nv_add hx hb dX1_take_121 ?_
                  refine nv_iald hx hb hK hP 1 0 rfl rfl (by omega) (by decide) dX1_take_122 ?_
                  refine nv_i (y := nI (g2 i)) (by rw [eg2]) ?_
                  refine nv_i2l hx hb (by omega) dX1_take_123 ?_
                  refine nv_lor hx hb (by omega) (by omega) dX1_take_124 ?_
                  refine nv_l (y := lN (md_pk g2 (i + 1))) rfl ?_
                  refine lv_lstore (lv' := [(10, .long (lN (md_pk g2 (i + 1)))), (0, .ref hn), (1, .int (nI row)), (2, .int (nI (q + 1))), (3, .int (nI ones)), (4, .long (lN (md_sum F k))), (6, .int (nI at_)), (7, .int (nI th)), (8, .int (nI k)), (9, .int (nI (6 * (row + 1)))), (12, .int (nI i))]) hx hb dX1_take_125 hl (by decide) rfl (fun ls hl => ?_)
                  refine lv_iinc (v := (nI (i + 1))) (lv' := [(12, .int (nI (i + 1))), (10, .long (lN (md_pk g2 (i + 1)))), (0, .ref hn), (1, .int (nI row)), (2, .int (nI (q + 1))), (3, .int (nI ones)), (4, .long (lN (md_sum F k))), (6, .int (nI at_)), (7, .int (nI th)), (8, .int (nI k)), (9, .int (nI (6 * (row + 1))))]) hx hb dX1_take_127 hl (k := 10) rfl (nv_inc1 _) (by decide) rfl (fun ls hl => ?_)
                  refine lv_goto (tgt := 102) hx hb dX1_take_130 (by decide) ?_
                  exact ih2 (i + 1) ls (by omega) (lv_sub hl [2, 3, 4, 5, 6, 7, 8, 9, 10, 1, 0] rfl)
            refine lv_bipush (v := nI 6) hx hb dX1_take_88 (by decide) ?_
            refine lv_iload_n hx hb dX1_take_90 rfl (lv_at hl 1 rfl) ?_
            refine lv_iconst (v := nI 1) hx hb dX1_take_91 (by decide) ?_
            refine nv_add hx hb dX1_take_92 ?_
            refine nv_mul hx hb dX1_take_93 ?_
            refine lv_istore (lv' := [(9, .int (nI (6 * (row + 1)))), (0, .ref hn), (1, .int (nI row)), (2, .int (nI (q + 1))), (3, .int (nI ones)), (4, .long (lN (md_sum F k))), (6, .int (nI at_)), (7, .int (nI th)), (8, .int (nI k))]) hx hb dX1_take_94 hl (by decide) rfl (fun ls hl => ?_)
            refine lv_lconst (v := lN 0) hx hb dX1_take_96 (by decide) ?_
            refine lv_lstore (lv' := [(10, .long (lN 0)), (9, .int (nI (6 * (row + 1)))), (0, .ref hn), (1, .int (nI row)), (2, .int (nI (q + 1))), (3, .int (nI ones)), (4, .long (lN (md_sum F k))), (6, .int (nI at_)), (7, .int (nI th)), (8, .int (nI k))]) hx hb dX1_take_97 hl (by decide) rfl (fun ls hl => ?_)
            refine lv_iconst (v := nI 0) hx hb dX1_take_99 (by decide) ?_
            refine lv_istore (lv' := [(12, .int (nI 0)), (10, .long (lN 0)), (9, .int (nI (6 * (row + 1)))), (0, .ref hn), (1, .int (nI row)), (2, .int (nI (q + 1))), (3, .int (nI ones)), (4, .long (lN (md_sum F k))), (6, .int (nI at_)), (7, .int (nI th)), (8, .int (nI k))]) hx hb dX1_take_100 hl (by decide) rfl (fun ls hl => ?_)
            exact pack 6 0 ls (by omega) (lv_sub hl [3, 4, 5, 6, 7, 8, 9, 10, 2, 1, 0] rfl)
    refine lv_lconst (v := lN 0) hx hb dX1_take_20 (by decide) ?_
    refine lv_lstore (lv' := [(4, .long (lN 0)), (0, .ref hn), (1, .int (nI row)), (2, .int (nI (q + 1))), (3, .int (nI ones))]) hx hb dX1_take_21 hl (by decide) rfl (fun ls hl => ?_)
    refine lv_bipush (v := nI 6) hx hb dX1_take_23 (by decide) ?_
    refine lv_iload_n hx hb dX1_take_25 rfl (lv_at hl 2 rfl) ?_
    refine lv_iconst (v := nI 1) hx hb dX1_take_26 (by decide) ?_
    refine nv_add hx hb dX1_take_27 ?_
    refine nv_mul hx hb dX1_take_28 ?_
    refine lv_iload_n hx hb dX1_take_29 rfl (lv_at hl 3 rfl) ?_
    refine nv_add hx hb dX1_take_30 ?_
    refine nv_i (y := nI at_) (by rw [eat]) ?_
    refine lv_istore (lv' := [(6, .int (nI at_)), (4, .long (lN 0)), (0, .ref hn), (1, .int (nI row)), (2, .int (nI (q + 1))), (3, .int (nI ones))]) hx hb dX1_take_31 hl (by decide) rfl (fun ls hl => ?_)
    refine lv_aload_n hx hb dX1_take_33 rfl (lv_at hl 2 rfl) ?_
    refine va_get (D := D) (ci := 1) (v := .ref hh) (C := RX1) (T := TX1) (N := 3) hx hb hts in_X1 hown hK hP 0 rfl rfl 0 (by decide) (hts _ q22) (fun _ h9 => h9) rfl dX1_take_34 ?_
    refine lv_bipush (v := nI 6) hx hb dX1_take_37 (by decide) ?_
    refine lv_iload_n hx hb dX1_take_39 rfl (lv_at hl 3 rfl) ?_
    refine nv_mul hx hb dX1_take_40 ?_
    refine lv_iload_n hx hb dX1_take_41 rfl (lv_at hl 4 rfl) ?_
    refine nv_add hx hb dX1_take_42 ?_
    refine nv_iald hx hb hK hP 1 0 rfl rfl (by omega) (by decide) dX1_take_43 ?_
    refine nv_i (y := nI th) (by rw [eth]) ?_
    refine lv_istore (lv' := [(7, .int (nI th)), (6, .int (nI at_)), (4, .long (lN 0)), (0, .ref hn), (1, .int (nI row)), (2, .int (nI (q + 1))), (3, .int (nI ones))]) hx hb dX1_take_44 hl (by decide) rfl (fun ls hl => ?_)
    refine lv_iconst (v := nI 0) hx hb dX1_take_46 (by decide) ?_
    refine lv_istore (lv' := [(8, .int (nI 0)), (7, .int (nI th)), (6, .int (nI at_)), (4, .long (lN 0)), (0, .ref hn), (1, .int (nI row)), (2, .int (nI (q + 1))), (3, .int (nI ones))]) hx hb dX1_take_47 hl (by decide) rfl (fun ls hl => ?_)
    exact loop (min th ones + 1) 0 hv _ _ ls (by omega) (fun _ _ => rfl) hP hD hS (lv_sub hl [4, 5, 6, 7, 3, 2, 1, 0] rfl)
  · subst hc
    refine lv_iload_n hx hb dX1_take_4 rfl (lv_at hl 3 rfl) ?_
    refine nv_ifne (tgt := 18) hx hb (by omega) dX1_take_5 (by decide) (fun hc => ?_) (fun hc => ?_)
    · refine lv_lconst (v := lN 0) hx hb dX1_take_18 (by decide) ?_
      exact hret _ _ _ _ _ hv dX1_take_19 ⟨congrArg lN (if_neg hc).symm, fun _ _ => rfl⟩ hP hD hS
    · subst hc
      refine lv_aload_n hx hb dX1_take_8 rfl (lv_at hl 0 rfl) ?_
      refine lv_iload_n hx hb dX1_take_9 rfl (lv_at hl 1 rfl) ?_
      refine lv_iconst (v := nI 1) hx hb dX1_take_10 (by decide) ?_
      refine nv_add hx hb dX1_take_11 ?_
      refine md_cVl (wr := []) hx hb hml hown hts hK hP hD hS hA [0, 1, 2] [] rfl rfl (by decide) (by decide) (by decide) (HF hn hh hw s.heap.size nn (row + 1) hv rw hnn (by omega) hrw hs6 (by omega)) (cwV 1 hts (lw_V q73 q75 qs0 q5 q76) rfl rfl rfl (by decide +kernel) (by subst hR; exact ⟨Nat.le_refl _, by show 8 + (5 + 11) + 40 * d ≤ 40 * (d + 1); omega⟩)) (q0 := 0) (ci := 1) rfl rfl rfl rfl hl.1 rfl (Nat.le_of_ble_eq_true rfl) dX1_take_12 (by subst hR; exact ⟨Nat.le_refl _, Nat.le_refl _⟩) (fun r u H locs hw hP hD hS => ?_)
      obtain ⟨hw1, hu⟩ := hw
      refine lv_goto (tgt := 19) hx hb dX1_take_15 (by decide) ?_
      exact hret _ _ _ _ _ u dX1_take_19 ⟨hw1, hu⟩ hP hD hS
end
section
/-! the recursion closed; new arrays of the known kinds; constructors' calls; the histogram -/
theorem mX1_rec (l : Launch) (D : va_G) (dA dL : ClassId) : ∀ d, md_Cfrom l D dA dL d ∧ md_Ctake l D dA dL d := by
  intro d
  induction d with
  | zero =>
    refine ⟨?_, ?_⟩
    · intro hn hh hw sz nn row hv rw _ _ _ _ h; omega
    · intro hn hh hw sz nn row need ones hv rw _ _ _ _ _ _ _ h; omega
  | succ d ih => exact ⟨mX1_from_step l D dA dL d ih.2, mX1_take_step l D dA dL d ih.1 ih.2⟩
theorem md_hist_big {col : Nat → Nat} : ∀ m, (∀ j, j < m → col j ≤ 5) → ∀ j, 6 ≤ j → md_hist col m j = 0 := by
  intro m
  induction m with
  | zero => intro _ j _; rfl
  | succ m ih =>
    intro h j hj
    have := h m (by omega)
    show md_up (md_hist col m) (col m) _ j = 0
    rw [md_up_n (by omega)]; exact ih (fun j hj => h j (by omega)) j hj
theorem md_s6_up {h : Nat → Nat} {c : Nat} (hc : c ≤ 5) : md_s6 (md_up h c (h c + 1)) = md_s6 h + 1 := by
  unfold md_s6 md_up
  rcases (show c = 0 ∨ c = 1 ∨ c = 2 ∨ c = 3 ∨ c = 4 ∨ c = 5 by omega) with e | e | e | e | e | e <;> subst e <;> simp <;> omega
theorem md_hist_s6 {col : Nat → Nat} : ∀ m, (∀ j, j < m → col j ≤ 5) → md_s6 (md_hist col m) = m := by
  intro m
  induction m with
  | zero => intro _; rfl
  | succ m ih =>
    intro h
    show md_s6 (md_up (md_hist col m) (col m) (md_hist col m (col m) + 1)) = m + 1
    rw [md_s6_up (h m (by omega)), ih (fun j hj => h j (by omega))]
theorem md_lvl_hist {f col : Nat → Nat} {m : Nat} (hc : ∀ j, j < m → col j ≤ 5) (hf : ∀ i, i < 6 → f i = md_hist col m i) : md_lvl f 0 = md_hist col m := by
  funext j
  by_cases hj : j < 6
  · rw [md_lvl_in f 0 hj, Nat.mul_zero, Nat.zero_add, hf j hj]
  · rw [md_hist_big m hc j (by omega)]
    exact if_neg hj
section NW
variable {p : Program} {l : Launch} {e : Env} {R : Room} {s : State} {m : MethodId} {args : Array Value} {below : List Frame} {meth : Method} {c : Code} {H : Heap} {locs : List Loc} {cells slots : Nat} {Q : State → Prop}
variable {cc : ByteArray} {pc : Nat} {ls : Array Slot} {rest st0 : List Value} {D : va_G} {dA dL : ClassId} {A : Nat → Prop} {ws wc wr : va_W} {H0 : Heap} {nL : Nat} {own C : String} {index : Nat} {y : MethodName} {bytes : ByteArray} {maxL : Nat} {rm : Room} {b : Addr} {As : List Value} {n : Nat}
theorem nv_newai (hx : p.tables.exec = Jvm.exec) (hb : c.code = cc) (harr : (Cond.arrayClass .int).before args s = true) (hK : va_K D vwCl (mdT dA dL) s) (hP : va_P D vwCl ws H) (hD : va_D A ws) (hS : va_S A H0 H locs) (hA : ∀ q, H0.size ≤ q → A q) {N : Nat} (hN : N < 65536) (hcells : cells + 1 ≤ R.cells) (hslots : slots + N ≤ R.slots) (hdg : decode cc pc = .ok (.newarray .int, 2))
    (kk : ∀ (q : Nat) (H1 : Heap), va_P D vwCl (ws ++ [(q, .inl (dA, N, .inl (md_iA (fun _ => 0))))]) H1 → va_D A (ws ++ [(q, .inl (dA, N, .inl (md_iA (fun _ => 0))))]) → va_S A H0 H1 locs → W p l e R s m args below meth c H1 locs (cells + 1) (slots + N) Q (F0 m (pc + 2) ls (.ref q :: rest))) : W p l e R s m args below meth c H locs cells slots Q (F0 m pc ls (.int (nI N) :: rest)) := by
  refine va_newa (atype := .int) (ty := .int) (a0 := (N, .inl (md_iA (fun _ => 0)))) hx hb harr rfl hK hP hD hS hA (fun _ => rfl) (nI_pos (by omega)) (nI_clamp (by omega)) (by show N * 4 ≤ _; omega) hcells hslots hdg (fun q cA H1 hK1 hP1 hD1 hS1 => ?_)
  have e1 : s.vm.findClass ("[" ++ FieldType.int.toString) = some cA := (hK1.2 2 (cA, .int) rfl).2
  have e2 : s.vm.findClass ("[" ++ FieldType.int.toString) = some dA := (hK.2 0 (dA, .int) rfl).2
  have e3 : cA = dA := Option.some.inj (e1.symm.trans e2)
  subst e3
  exact kk q H1 hP1 hD1 hS1
theorem nv_newal (hx : p.tables.exec = Jvm.exec) (hb : c.code = cc) (harr : (Cond.arrayClass .long).before args s = true) (hK : va_K D vwCl (mdT dA dL) s) (hP : va_P D vwCl ws H) (hD : va_D A ws) (hS : va_S A H0 H locs) (hA : ∀ q, H0.size ≤ q → A q) {N : Nat} (hN : N < 65536) (hcells : cells + 1 ≤ R.cells) (hslots : slots + N ≤ R.slots) (hdg : decode cc pc = .ok (.newarray .long, 2))
    (kk : ∀ (q : Nat) (H1 : Heap), va_P D vwCl (ws ++ [(q, .inl (dL, N, .inr (.inl (md_lA (fun _ => 0)))))]) H1 → va_D A (ws ++ [(q, .inl (dL, N, .inr (.inl (md_lA (fun _ => 0)))))]) → va_S A H0 H1 locs → W p l e R s m args below meth c H1 locs (cells + 1) (slots + N) Q (F0 m (pc + 2) ls (.ref q :: rest))) : W p l e R s m args below meth c H locs cells slots Q (F0 m pc ls (.int (nI N) :: rest)) := by
  refine va_newa (atype := .long) (ty := .long) (a0 := (N, .inr (.inl (md_lA (fun _ => 0))))) hx hb harr rfl hK hP hD hS hA (fun _ => rfl) (nI_pos (by omega)) (nI_clamp (by omega)) (by show N * 8 ≤ _; omega) hcells hslots hdg (fun q cA H1 hK1 hP1 hD1 hS1 => ?_)
  have e1 : s.vm.findClass ("[" ++ FieldType.long.toString) = some cA := (hK1.2 2 (cA, .long) rfl).2
  have e2 : s.vm.findClass ("[" ++ FieldType.long.toString) = some dL := (hK.2 1 (dL, .long) rfl).2
  have e3 : cA = dL := Option.some.inj (e1.symm.trans e2)
  subst e3
  exact kk q H1 hP1 hD1 hS1
/-- a constructor of a nest mate -/
theorem md_cNI {S : Type} {post : S → Prop} {w1 : S → va_W} {host : String} {mc ms : Nat} (hx : p.tables.exec = Jvm.exec) (hb : c.code = cc) (hml : c.maxLocals = nL) (hown : s.vm.findClass own = some m.cls) (hts : ∀ w ∈ lw_all, w.before args s = true)
    (hK : va_K D vwCl (mdT dA dL) s) (hP : va_P D vwCl ws H) (hD : va_D A ws) (hS : va_S A s.heap H locs) (hA : ∀ q, s.heap.size ≤ q → A q)
    (isC isR : List Nat) (hC : isC.map (fun i => ws[i]?) = wc.map some) (hR : isR.map (fun i => ws[i]?) = wr.map some) (hnC : va_nd isC = true) (hnR : va_nd isR = true) (hdis : ∀ i ∈ isR, i ∉ isC)
    (hM : Met l y (ws_ y bytes maxL none) rm (va_Pc (.ref b :: As) (mdPre D dA dL wc H.size)) (va_Qv post (fun u t => mdB D dA dL (va_A wc H.size) (w1 u) t) (va_A wc H.size)) mc ms (va_A wc H.size))
    (cw : va_CN R s args own index y host bytes maxL none (ws_ y bytes maxL none) rm mc ms n ∧ y.name = "<init>" ∧ (Cond.instanceMethod y).before args s = true)
    (hn : As.length = n) (hsz : ls.size = nL) (hst : st0 = As.reverse ++ .ref b :: rest) (hroom : (rest.map fun v => v.category).sum ≤ 8) (hdg : decode cc pc = .ok (.invokespecial index, 3)) (hf : cells + mc ≤ R.cells ∧ slots + ms ≤ R.slots)
    (kk : ∀ (u : S) (H1 : Heap) (locs1 : List Loc), post u → va_P D vwCl (wr ++ w1 u) H1 → va_D A (wr ++ w1 u) → va_S A s.heap H1 locs1 → W p l e R s m args below meth c H1 locs1 (cells + mc) (slots + ms) Q (F0 m (pc + 3) ls rest)) :
    W p l e R s m args below meth c H locs cells slots Q (F0 m pc ls st0) := by
  have hPc := hP.sub isC (md_map_fm hC)
  have hDc := hD.sub isC hnC hC
  have hFc := va_free (wc := wc) hD hS hA isC hC
  refine va_callv (va_runIN (As := As) (rest := rest) ⟨hx, hb, hml, hown, hts⟩ hM cw ⟨md_blind, md_pre hK hPc hDc⟩ rfl hn hsz hst (lv_room hroom) hdg hf) hS (fun q _ h => hFc q h) hFc (fun u t H1 locs ht hvm hw hB hz1 hk1 hS => ?_)
  obtain ⟨hP1, -, hD1⟩ := hB
  rw [ht] at hP1
  obtain ⟨hP, hD⟩ := va_join (wr := wr) (w1 := w1 u) hP hD isC isR hC hR hnR hdis hk1 hFc hP1 hD1
  exact kk u H1 locs hw hP hD hS
/-- a constructor; X: what its start says besides its world -/
theorem md_cI {S : Type} {post : S → Prop} {w1 : S → va_W} {mc ms : Nat} {X : State → Prop} (hx : p.tables.exec = Jvm.exec) (hb : c.code = cc) (hml : c.maxLocals = nL) (hown : s.vm.findClass own = some m.cls) (hts : ∀ w ∈ lw_all, w.before args s = true)
    (hK : va_K D vwCl (mdT dA dL) s) (hP : va_P D vwCl ws H) (hD : va_D A ws) (hS : va_S A s.heap H locs) (hA : ∀ q, s.heap.size ≤ q → A q)
    (isC isR : List Nat) (hC : isC.map (fun i => ws[i]?) = wc.map some) (hR : isR.map (fun i => ws[i]?) = wr.map some) (hnC : va_nd isC = true) (hnR : va_nd isR = true) (hdis : ∀ i ∈ isR, i ∉ isC)
    (hM : Met l y (ws_ y bytes maxL none) rm (va_Pc (.ref b :: As) (fun U => X U ∧ mdPre D dA dL wc H.size U)) (va_Qv post (fun u t => mdB D dA dL (va_A wc H.size) (w1 u) t) (va_A wc H.size)) mc ms (va_A wc H.size))
    (hX1 : ∀ (a : Array Value) (U : State) (g : JFrame) (mk : MethodId), X U → X (U.calling g mk a)) (hX2 : ∀ U : State, s.WarmedH U.vm → X U)
    (cw : CallB R s args own index y bytes maxL none (ws_ y bytes maxL none) rm mc ms n ∧ y.name = "<init>" ∧ (Cond.instanceMethod y).before args s = true)
    (hn : As.length = n) (hsz : ls.size = nL) (hst : st0 = As.reverse ++ .ref b :: rest) (hroom : (rest.map fun v => v.category).sum ≤ 8) (hdg : decode cc pc = .ok (.invokespecial index, 3)) (hf : cells + mc ≤ R.cells ∧ slots + ms ≤ R.slots)
    (kk : ∀ (u : S) (H1 : Heap) (locs1 : List Loc), post u → va_P D vwCl (wr ++ w1 u) H1 → va_D A (wr ++ w1 u) → va_S A s.heap H1 locs1 → W p l e R s m args below meth c H1 locs1 (cells + mc) (slots + ms) Q (F0 m (pc + 3) ls rest)) :
    W p l e R s m args below meth c H locs cells slots Q (F0 m pc ls st0) := by
  have hPc := hP.sub isC (md_map_fm hC)
  have hDc := hD.sub isC hnC hC
  have hFc := va_free (wc := wc) hD hS hA isC hC
  refine va_callv (va_runI (As := As) (rest := rest) ⟨hx, hb, hml, hown, hts⟩ hM cw ⟨fun a U g mk q => ⟨q.1, hX1 a U g mk q.2.1, (md_blind (av := a.toList) (wc := wc) (D := D) (dA := dA) (dL := dL) (sz := H.size) a U g mk ⟨by simp, q.2.2⟩).2⟩, fun U hU hW => ⟨rfl, hX2 U hW, (md_pre (av := []) hK hPc hDc U hU hW).2⟩⟩ rfl hn hsz hst (lv_room hroom) hdg hf) hS (fun q _ h => hFc q h) hFc (fun u t H1 locs ht hvm hw hB hz1 hk1 hS => ?_)
  obtain ⟨hP1, -, hD1⟩ := hB
  rw [ht] at hP1
  obtain ⟨hP, hD⟩ := va_join (wr := wr) (w1 := w1 u) hP hD isC isR hC hR hnR hdis hk1 hFc hP1 hD1
  exact kk u H1 locs hw hP hD hS
end NW
/-- a constructor's contract whose start says X too -/
theorem md_MetVX {l : Launch} {y : MethodName} {cc : ByteArray} {nL : Nat} {rm : Room} {D : va_G} {dA dL : ClassId} {ws : va_W} {sz : Nat} {av : List Value} {mc ms : Nat} {X : State → Prop} {S : Type} {post : S → Prop} {w1 : S → va_W} (hy : plainName y.cls = true) (hn : (lg_sl av).length ≤ nL)
    (body : ∀ (p : Program) (e : Env) (s : State) (m : MethodId) (below : List Frame) (meth : Method) (c : Code) (ls : Array Slot) (args : Array Value) (A : Nat → Prop) (Q : State → Prop) (R : Room), R = rm → X s → p.tables.exec = Jvm.exec → c.code = cc → c.maxLocals = nL → (∀ w ∈ lw_all, w.before args s = true) → s.vm.findClass y.cls = some m.cls → meth.name = y.name → (∀ q, s.heap.size ≤ q → A q) → va_P D vwCl ws s.heap → va_K D vwCl (mdT dA dL) s → va_D A ws → va_S A s.heap s.heap [] → lv_has ls nL (lv_args 0 av) →
      (∀ (H : Heap) (locs : List Loc) (pc : Nat) (ls : Array Slot) (u : S), decode cc pc = .ok (.return_, 1) → post u → va_P D vwCl (w1 u) H → va_D A (w1 u) → va_S A s.heap H locs → W p l e R s m args below meth c H locs mc ms Q (F0 m pc ls [])) →
      W p l e R s m args below meth c s.heap [] 0 0 Q (F0 m 0 ls [])) :
    Met l y (ws_ y cc nL none) rm (va_Pc av (fun U => X U ∧ mdPre D dA dL ws sz U)) (va_Qv post (fun u t => mdB D dA dL (va_A ws sz) (w1 u) t) (va_A ws sz)) mc ms (va_A ws sz) := by
  refine Met.ofW (cc := cc) (maxL := nL) (ret := none) hy rfl ?_
  intro p e s m args below meth c s₁ B hml hv
  obtain ⟨rfl, hX, hsz, hP, hK, hD0⟩ := hv
  have hts := atoms_spec (ws := ws_ y cc nL none) B.pre
  have hx := B.exec
  have hb := B.bytes
  have hr := B.returns
  have hlocks := B.notSynchronized
  rw [lg_entry_eq]
  refine body p e s m below meth c _ av.toArray (va_A ws sz) _ rm rfl hX hx hb hml (fun w h => hts w (List.mem_cons_of_mem _ h)) (findClass_of_methodNamed B.named) (name_of_methodNamed B.named B.method).1 (fun q h => Or.inr (by rw [← hsz]; exact h)) hP hK hD0.self va_S.rf (lv_entry av hn) ?_
  intro H locs pc ls u hd hp hP hD hS
  exact W.vret hx hb hr (fun t ht hW => ⟨⟨u, rfl, hp, by rw [ht]; exact hP, va_K.moved hW.alike hK, hD⟩, hS.F ht⟩) hS.2.2 hd
end
section
set_option maxHeartbeats 4000000 in
set_option maxRecDepth 100000 in
/-- count(row, n, column, m): all fillings -/
theorem mX1_count (l : Launch) (D : va_G) (dA dL : ClassId) (hn hh hw hr ho sz nn n0 m0 : Nat) (hv rw row col : Nat → Nat) (hn0 : n0 ≤ 5) (hm0 : m0 ≤ 5) (hrw : ∀ i, i < 5 → rw i ≤ 5) (hrow : ∀ i, i < 5 → row i ≤ 5) (hcol : ∀ i, i < 5 → col i ≤ 5) : Met l yX1_count (ws_ yX1_count cX1_count 6 (some .long)) ({ frames := 37, cells := 0, slots := 0, locals := 1480 }) (va_Pc [.ref hn, .ref hr, .int (nI n0), .ref ho, .int (nI m0)] (mdPre D dA dL [(hn, .inr (1, [.ref hh, .ref hw, .int (nI nn)])), (hh, .inl (dA, 36, .inl (md_iA hv))), (hw, .inl (dA, 5, .inl (md_iA rw))), (hr, .inl (dA, 5, .inl (md_iA row))), (ho, .inl (dA, 5, .inl (md_iA col)))] sz))
    (va_Ql (fun (r : Int64) (u : (Nat → Nat) × (Nat → Nat)) => r = lN (md_from (md_rl row 0 n0) (md_hist col m0)) ∧ ∀ i, i < 5 → u.2 i ≤ 5) (fun u t => mdB D dA dL (va_A [(hn, .inr (1, [.ref hh, .ref hw, .int (nI nn)])), (hh, .inl (dA, 36, .inl (md_iA hv))), (hw, .inl (dA, 5, .inl (md_iA rw))), (hr, .inl (dA, 5, .inl (md_iA row))), (ho, .inl (dA, 5, .inl (md_iA col)))] sz) [(hn, .inr (1, [.ref hh, .ref hw, .int (nI n0)])), (hh, .inl (dA, 36, .inl (md_iA u.1))), (hw, .inl (dA, 5, .inl (md_iA u.2))), (hr, .inl (dA, 5, .inl (md_iA row))), (ho, .inl (dA, 5, .inl (md_iA col)))] t) (va_A [(hn, .inr (1, [.ref hh, .ref hw, .int (nI nn)])), (hh, .inl (dA, 36, .inl (md_iA hv))), (hw, .inl (dA, 5, .inl (md_iA rw))), (hr, .inl (dA, 5, .inl (md_iA row))), (ho, .inl (dA, 5, .inl (md_iA col)))] sz)) 0 0 (va_A [(hn, .inr (1, [.ref hh, .ref hw, .int (nI nn)])), (hh, .inl (dA, 36, .inl (md_iA hv))), (hw, .inl (dA, 5, .inl (md_iA rw))), (hr, .inl (dA, 5, .inl (md_iA row))), (ho, .inl (dA, 5, .inl (md_iA col)))] sz) := by
  refine md_MetL (w1 := fun u : (Nat → Nat) × (Nat → Nat) => [(hn, .inr (1, [.ref hh, .ref hw, .int (nI n0)])), (hh, .inl (dA, 36, .inl (md_iA u.1))), (hw, .inl (dA, 5, .inl (md_iA u.2))), (hr, .inl (dA, 5, .inl (md_iA row))), (ho, .inl (dA, 5, .inl (md_iA col)))]) (by decide) (Nat.le_of_ble_eq_true rfl) ?_
  intro p e s m below meth c ls args A Q R hR hx hb hml hts hown hname hA hP hK hD hS hl hret
  have hown : s.vm.findClass RX1 = some m.cls := hown
  have hl : lv_has ls 6 [(0, .ref hn), (1, .ref hr), (2, .int (nI n0)), (3, .ref ho), (4, .int (nI m0))] := hl
  have hP : va_P D vwCl [(hn, .inr (1, [.ref hh, .ref hw, .int (nI nn)])), (hh, .inl (dA, 36, .inl (md_iA hv))), (hw, .inl (dA, 5, .inl (md_iA rw))), (hr, .inl (dA, 5, .inl (md_iA row))), (ho, .inl (dA, 5, .inl (md_iA col)))] s.heap := hP
  have hD : va_D A [(hn, .inr (1, [.ref hh, .ref hw, .int (nI nn)])), (hh, .inl (dA, 36, .inl (md_iA hv))), (hw, .inl (dA, 5, .inl (md_iA rw))), (hr, .inl (dA, 5, .inl (md_iA row))), (ho, .inl (dA, 5, .inl (md_iA col)))] := hD
  have after3 : ∀ (f g : Nat → Nat) (H : Heap) (locs : List Loc) (ls : Array Slot), (∀ i, i < 6 → f i = md_hist col m0 i) → (∀ i, i < n0 → g i = row i) → (∀ i, i < 5 → g i ≤ 5) → va_P D vwCl [(hn, .inr (1, [.ref hh, .ref hw, .int (nI n0)])), (hh, .inl (dA, 36, .inl (md_iA f))), (hw, .inl (dA, 5, .inl (md_iA g))), (hr, .inl (dA, 5, .inl (md_iA row))), (ho, .inl (dA, 5, .inl (md_iA col)))] H → va_D A [(hn, .inr (1, [.ref hh, .ref hw, .int (nI n0)])), (hh, .inl (dA, 36, .inl (md_iA f))), (hw, .inl (dA, 5, .inl (md_iA g))), (hr, .inl (dA, 5, .inl (md_iA row))), (ho, .inl (dA, 5, .inl (md_iA col)))] → va_S A s.heap H locs → lv_has ls 6 [(0, .ref hn), (1, .ref hr), (2, .int (nI n0)), (3, .ref ho), (4, .int (nI m0))] → W p l e R s m args below meth c H locs 0 0 Q (F0 m 84 ls []) := by
    intro f g H locs ls hf hg hg5 hP hD hS hl
    have e1 : md_lvl f 0 = md_hist col m0 := md_lvl_hist (fun j hj => hcol j (by omega)) hf
    refine lv_aload_n hx hb dX1_count_84 rfl (lv_at hl 0 rfl) ?_
    refine lv_iconst (v := nI 0) hx hb dX1_count_85 (by decide) ?_
    refine md_cVl (wr := [(hr, .inl (dA, 5, .inl (md_iA row))), (ho, .inl (dA, 5, .inl (md_iA col)))]) hx hb hml hown hts hK hP hD hS hA [0, 1, 2] [3, 4] rfl rfl (by decide) (by decide) (by decide) ((mX1_rec l D dA dL 36).1 hn hh hw H.size n0 0 f g hn0 (Nat.zero_le _) hg5 (by rw [e1, md_hist_s6 m0 (fun j hj => hcol j (by omega))]; exact hm0) (by omega)) (cwV 1 hts (lw_V q73 q75 qs0 q5 q76) rfl rfl rfl (by decide +kernel) (by subst hR; exact ⟨Nat.le_of_ble_eq_true rfl, Nat.le_of_ble_eq_true rfl⟩)) (q0 := 0) (ci := 1) rfl rfl rfl rfl hl.1 rfl (Nat.le_of_ble_eq_true rfl) dX1_count_86 (by subst hR; exact ⟨Nat.le_refl _, Nat.le_refl _⟩) (fun r u H locs hw hP hD hS => ?_)
    obtain ⟨hw1, -⟩ := hw
    refine hret _ _ _ _ r (u, g) dX1_count_89 ⟨?_, hg5⟩ (hP.sub [2, 3, 4, 0, 1] rfl) (hD.sub [2, 3, 4, 0, 1] (by decide) rfl) hS
    rw [hw1, e1, Nat.sub_zero, md_rl_ext n0 0 (fun j _ hj => hg j (by omega))]
  have loop3 : ∀ (dd q : Nat) (f g : Nat → Nat) (H : Heap) (locs : List Loc) (ls : Array Slot), q + dd = n0 → (∀ i, i < 6 → f i = md_hist col m0 i) → (∀ i, i < q → g i = row i) → (∀ i, i < 5 → g i ≤ 5) → va_P D vwCl [(hn, .inr (1, [.ref hh, .ref hw, .int (nI n0)])), (hh, .inl (dA, 36, .inl (md_iA f))), (hw, .inl (dA, 5, .inl (md_iA g))), (hr, .inl (dA, 5, .inl (md_iA row))), (ho, .inl (dA, 5, .inl (md_iA col)))] H → va_D A [(hn, .inr (1, [.ref hh, .ref hw, .int (nI n0)])), (hh, .inl (dA, 36, .inl (md_iA f))), (hw, .inl (dA, 5, .inl (md_iA g))), (hr, .inl (dA, 5, .inl (md_iA row))), (ho, .inl (dA, 5, .inl (md_iA col)))] → va_S A s.heap H locs → lv_has ls 6 [(0, .ref hn), (1, .ref hr), (2, .int (nI n0)), (3, .ref ho), (4, .int (nI m0)), (5, .int (nI q))] → W p l e R s m args below meth c H locs 0 0 Q (F0 m 61 ls []) := by
    intro dd
    induction dd with
    | zero =>
      intro q f g H locs ls hq hf hg hg5 hP hD hS hl
      refine lv_iload hx hb dX1_count_61 (lv_at hl 5 rfl) ?_
      refine lv_iload_n hx hb dX1_count_63 rfl (lv_at hl 2 rfl) ?_
      refine nv_ge (tgt := 84) hx hb (by omega) (by omega) dX1_count_64 (by decide) (fun hc => ?_) (fun hc => ?_)
      · exact after3 f g H locs ls hf (fun i hi => hg i (by omega)) hg5 hP hD hS (lv_sub hl [0, 1, 2, 3, 4] rfl)
      · exact absurd hc (by omega)
    | succ dd ih =>
      intro q f g H locs ls hq hf hg hg5 hP hD hS hl
      refine lv_iload hx hb dX1_count_61 (lv_at hl 5 rfl) ?_
      refine lv_iload_n hx hb dX1_count_63 rfl (lv_at hl 2 rfl) ?_
      refine nv_ge (tgt := 84) hx hb (by omega) (by omega) dX1_count_64 (by decide) (fun hc => ?_) (fun hc => ?_)
      · exact absurd hc (by omega)
      · refine lv_aload_n hx hb dX1_count_67 rfl (lv_at hl 0 rfl) ?_
        refine va_get (D := D) (ci := 1) (v := .ref hw) (C := RX1) (T := TX1) (N := 3) hx hb hts in_X1 hown hK hP 0 rfl rfl 1 (by decide) (hts _ q23) (fun _ h9 => h9) rfl dX1_count_68 ?_
        refine lv_iload hx hb dX1_count_71 (lv_at hl 5 rfl) ?_
        refine lv_aload_n hx hb dX1_count_73 rfl (lv_at hl 1 rfl) ?_
        refine lv_iload hx hb dX1_count_74 (lv_at hl 5 rfl) ?_
        refine nv_iald hx hb hK hP 3 0 rfl rfl (by omega) (by decide) dX1_count_76 ?_
        refine nv_iast hx hb hK hP hD hS 2 0 rfl rfl (by omega) (by decide) dX1_count_77 (fun H locs hP hD hS => ?_)
        have hP : va_P D vwCl [(hn, .inr (1, [.ref hh, .ref hw, .int (nI n0)])), (hh, .inl (dA, 36, .inl (md_iA f))), (hw, .inl (dA, 5, .inl (md_iA (md_up g q (row q))))), (hr, .inl (dA, 5, .inl (md_iA row))), (ho, .inl (dA, 5, .inl (md_iA col)))] H := hP
        have hD : va_D A [(hn, .inr (1, [.ref hh, .ref hw, .int (nI n0)])), (hh, .inl (dA, 36, .inl (md_iA f))), (hw, .inl (dA, 5, .inl (md_iA (md_up g q (row q))))), (hr, .inl (dA, 5, .inl (md_iA row))), (ho, .inl (dA, 5, .inl (md_iA col)))] := hD
        refine lv_iinc (v := (nI (q + 1))) (lv' := [(5, .int (nI (q + 1))), (0, .ref hn), (1, .ref hr), (2, .int (nI n0)), (3, .ref ho), (4, .int (nI m0))]) hx hb dX1_count_78 hl (k := 5) rfl (nv_inc1 _) (by decide) rfl (fun ls hl => ?_)
        refine lv_goto (tgt := 61) hx hb dX1_count_81 (by decide) ?_
        refine ih (q + 1) f _ _ _ ls (by omega) hf (fun i hi => ?_) (fun i hi => ?_) hP hD hS (lv_sub hl [1, 2, 3, 4, 5, 0] rfl)
        · by_cases e1 : i = q
          · subst e1; rw [md_up_s]
          · rw [md_up_n e1]; exact hg i (by omega)
        · by_cases e1 : i = q
          · subst e1; rw [md_up_s]; exact hrow i hi
          · rw [md_up_n e1]; exact hg5 i hi
  have loop2 : ∀ (dd q : Nat) (f : Nat → Nat) (H : Heap) (locs : List Loc) (ls : Array Slot), q + dd = m0 → (∀ i, i < 6 → f i = md_hist col q i) → va_P D vwCl [(hn, .inr (1, [.ref hh, .ref hw, .int (nI n0)])), (hh, .inl (dA, 36, .inl (md_iA f))), (hw, .inl (dA, 5, .inl (md_iA rw))), (hr, .inl (dA, 5, .inl (md_iA row))), (ho, .inl (dA, 5, .inl (md_iA col)))] H → va_D A [(hn, .inr (1, [.ref hh, .ref hw, .int (nI n0)])), (hh, .inl (dA, 36, .inl (md_iA f))), (hw, .inl (dA, 5, .inl (md_iA rw))), (hr, .inl (dA, 5, .inl (md_iA row))), (ho, .inl (dA, 5, .inl (md_iA col)))] → va_S A s.heap H locs → lv_has ls 6 [(0, .ref hn), (1, .ref hr), (2, .int (nI n0)), (3, .ref ho), (4, .int (nI m0)), (5, .int (nI q))] → W p l e R s m args below meth c H locs 0 0 Q (F0 m 32 ls []) := by
    intro dd
    induction dd with
    | zero =>
      intro q f H locs ls hq hf hP hD hS hl
      have hq : q = m0 := by omega
      subst hq
      refine lv_iload hx hb dX1_count_32 (lv_at hl 5 rfl) ?_
      refine lv_iload hx hb dX1_count_34 (lv_at hl 4 rfl) ?_
      refine nv_ge (tgt := 58) hx hb (by omega) (by omega) dX1_count_36 (by decide) (fun hc => ?_) (fun hc => ?_)
      · refine lv_iconst (v := nI 0) hx hb dX1_count_58 (by decide) ?_
        refine lv_istore (lv' := [(5, .int (nI 0)), (0, .ref hn), (1, .ref hr), (2, .int (nI n0)), (3, .ref ho), (4, .int (nI q))]) hx hb dX1_count_59 hl (by decide) rfl (fun ls hl => ?_)
        exact loop3 n0 0 f rw _ _ ls (by omega) hf (fun i hi => by omega) hrw hP hD hS (lv_sub hl [1, 2, 3, 4, 5, 0] rfl)
      · exact absurd hc (by omega)
    | succ dd ih =>
      intro q f H locs ls hq hf hP hD hS hl
      refine lv_iload hx hb dX1_count_32 (lv_at hl 5 rfl) ?_
      refine lv_iload hx hb dX1_count_34 (lv_at hl 4 rfl) ?_
      refine nv_ge (tgt := 58) hx hb (by omega) (by omega) dX1_count_36 (by decide) (fun hc => ?_) (fun hc => ?_)
      · exact absurd hc (by omega)
      · have hcq := hcol q (by omega)
        refine lv_aload_n hx hb dX1_count_39 rfl (lv_at hl 0 rfl) ?_
        refine va_get (D := D) (ci := 1) (v := .ref hh) (C := RX1) (T := TX1) (N := 3) hx hb hts in_X1 hown hK hP 0 rfl rfl 0 (by decide) (hts _ q22) (fun _ h9 => h9) rfl dX1_count_40 ?_
        refine lv_aload_n hx hb dX1_count_43 rfl (lv_at hl 3 rfl) ?_
        refine lv_iload hx hb dX1_count_44 (lv_at hl 5 rfl) ?_
        refine nv_iald hx hb hK hP 4 0 rfl rfl (by omega) (by decide) dX1_count_46 ?_
        refine lv_dup2_11 hx hb dX1_count_47 rfl rfl ?_
        refine nv_iald hx hb hK hP 1 0 rfl rfl (by omega) (by decide) dX1_count_48 ?_
        refine lv_iconst (v := nI 1) hx hb dX1_count_49 (by decide) ?_
        refine nv_add hx hb dX1_count_50 ?_
        refine nv_iast hx hb hK hP hD hS 1 0 rfl rfl (by omega) (by decide) dX1_count_51 (fun H locs hP hD hS => ?_)
        have hP : va_P D vwCl [(hn, .inr (1, [.ref hh, .ref hw, .int (nI n0)])), (hh, .inl (dA, 36, .inl (md_iA (md_up f (col q) ((f (col q)) + 1))))), (hw, .inl (dA, 5, .inl (md_iA rw))), (hr, .inl (dA, 5, .inl (md_iA row))), (ho, .inl (dA, 5, .inl (md_iA col)))] H := hP
        have hD : va_D A [(hn, .inr (1, [.ref hh, .ref hw, .int (nI n0)])), (hh, .inl (dA, 36, .inl (md_iA (md_up f (col q) ((f (col q)) + 1))))), (hw, .inl (dA, 5, .inl (md_iA rw))), (hr, .inl (dA, 5, .inl (md_iA row))), (ho, .inl (dA, 5, .inl (md_iA col)))] := hD
        refine lv_iinc (v := (nI (q + 1))) (lv' := [(5, .int (nI (q + 1))), (0, .ref hn), (1, .ref hr), (2, .int (nI n0)), (3, .ref ho), (4, .int (nI m0))]) hx hb dX1_count_52 hl (k := 5) rfl (nv_inc1 _) (by decide) rfl (fun ls hl => ?_)
        refine lv_goto (tgt := 32) hx hb dX1_count_55 (by decide) ?_
        refine ih (q + 1) _ _ _ ls (by omega) (fun i hi => ?_) hP hD hS (lv_sub hl [1, 2, 3, 4, 5, 0] rfl)
        show md_up f (col q) (f (col q) + 1) i = md_up (md_hist col q) (col q) (md_hist col q (col q) + 1) i
        by_cases e1 : i = col q
        · subst e1; rw [md_up_s, md_up_s, hf _ hi]
        · rw [md_up_n e1, md_up_n e1]; exact hf i hi
  have loop1 : ∀ (dd q : Nat) (f : Nat → Nat) (H : Heap) (locs : List Loc) (ls : Array Slot), q + dd = 6 → (∀ i, i < q → f i = 0) → va_P D vwCl [(hn, .inr (1, [.ref hh, .ref hw, .int (nI n0)])), (hh, .inl (dA, 36, .inl (md_iA f))), (hw, .inl (dA, 5, .inl (md_iA rw))), (hr, .inl (dA, 5, .inl (md_iA row))), (ho, .inl (dA, 5, .inl (md_iA col)))] H → va_D A [(hn, .inr (1, [.ref hh, .ref hw, .int (nI n0)])), (hh, .inl (dA, 36, .inl (md_iA f))), (hw, .inl (dA, 5, .inl (md_iA rw))), (hr, .inl (dA, 5, .inl (md_iA row))), (ho, .inl (dA, 5, .inl (md_iA col)))] → va_S A s.heap H locs → lv_has ls 6 [(0, .ref hn), (1, .ref hr), (2, .int (nI n0)), (3, .ref ho), (4, .int (nI m0)), (5, .int (nI q))] → W p l e R s m args below meth c H locs 0 0 Q (F0 m 8 ls []) := by
    intro dd
    induction dd with
    | zero =>
      intro q f H locs ls hq hf hP hD hS hl
      refine lv_iload hx hb dX1_count_8 (lv_at hl 5 rfl) ?_
      refine lv_bipush (v := nI 6) hx hb dX1_count_10 (by decide) ?_
      refine nv_ge (tgt := 29) hx hb (by omega) (by omega) dX1_count_12 (by decide) (fun hc => ?_) (fun hc => ?_)
      · refine lv_iconst (v := nI 0) hx hb dX1_count_29 (by decide) ?_
        refine lv_istore (lv' := [(5, .int (nI 0)), (0, .ref hn), (1, .ref hr), (2, .int (nI n0)), (3, .ref ho), (4, .int (nI m0))]) hx hb dX1_count_30 hl (by decide) rfl (fun ls hl => ?_)
        exact loop2 m0 0 f _ _ ls (by omega) (fun i hi => hf i (by omega)) hP hD hS (lv_sub hl [1, 2, 3, 4, 5, 0] rfl)
      · exact absurd hc (by omega)
    | succ dd ih =>
      intro q f H locs ls hq hf hP hD hS hl
      refine lv_iload hx hb dX1_count_8 (lv_at hl 5 rfl) ?_
      refine lv_bipush (v := nI 6) hx hb dX1_count_10 (by decide) ?_
      refine nv_ge (tgt := 29) hx hb (by omega) (by omega) dX1_count_12 (by decide) (fun hc => ?_) (fun hc => ?_)
      · exact absurd hc (by omega)
      · refine lv_aload_n hx hb dX1_count_15 rfl (lv_at hl 0 rfl) ?_
        refine va_get (D := D) (ci := 1) (v := .ref hh) (C := RX1) (T := TX1) (N := 3) hx hb hts in_X1 hown hK hP 0 rfl rfl 0 (by decide) (hts _ q22) (fun _ h9 => h9) rfl dX1_count_16 ?_
        refine lv_iload hx hb dX1_count_19 (lv_at hl 5 rfl) ?_
        refine lv_iconst (v := nI 0) hx hb dX1_count_21 (by decide) ?_
        refine nv_iast hx hb hK hP hD hS 1 0 rfl rfl (by omega) (by decide) dX1_count_22 (fun H locs hP hD hS => ?_)
        have hP : va_P D vwCl [(hn, .inr (1, [.ref hh, .ref hw, .int (nI n0)])), (hh, .inl (dA, 36, .inl (md_iA (md_up f q 0)))), (hw, .inl (dA, 5, .inl (md_iA rw))), (hr, .inl (dA, 5, .inl (md_iA row))), (ho, .inl (dA, 5, .inl (md_iA col)))] H := hP
        have hD : va_D A [(hn, .inr (1, [.ref hh, .ref hw, .int (nI n0)])), (hh, .inl (dA, 36, .inl (md_iA (md_up f q 0)))), (hw, .inl (dA, 5, .inl (md_iA rw))), (hr, .inl (dA, 5, .inl (md_iA row))), (ho, .inl (dA, 5, .inl (md_iA col)))] := hD
        refine lv_iinc (v := (nI (q + 1))) (lv' := [(5, .int (nI (q + 1))), (0, .ref hn), (1, .ref hr), (2, .int (nI n0)), (3, .ref ho), (4, .int (nI m0))]) hx hb dX1_count_23 hl (k := 5) rfl (nv_inc1 _) (by decide) rfl (fun ls hl => ?_)
        refine lv_goto (tgt := 8) hx hb dX1_count_26 (by decide) ?_
        refine ih (q + 1) _ _ _ ls (by omega) (fun i hi => ?_) hP hD hS (lv_sub hl [1, 2, 3, 4, 5, 0] rfl)
        by_cases e1 : i = q
        · subst e1; rw [md_up_s]
        · rw [md_up_n e1]; exact hf i (by omega)
  refine lv_aload_n hx hb dX1_count_0 rfl (lv_at hl 0 rfl) ?_
  refine lv_iload_n hx hb dX1_count_1 rfl (lv_at hl 2 rfl) ?_
  refine va_put (D := D) (ci := 1) (v := .int (nI n0)) (ty := .int) (C := RX1) (T := TX1) (N := 3) hx hb hts in_X1 tyX1 tyX1_ok nmX1 hown hK hP hD hS 0 rfl rfl 2 (by decide) (hts _ q24) (fun _ h9 => h9) rfl (by decide +kernel) rfl rfl (Nat.le_of_ble_eq_true rfl) dX1_count_2 (fun H locs hP hD hS => ?_)
  have hP : va_P D vwCl [(hn, .inr (1, [.ref hh, .ref hw, .int (nI n0)])), (hh, .inl (dA, 36, .inl (md_iA hv))), (hw, .inl (dA, 5, .inl (md_iA rw))), (hr, .inl (dA, 5, .inl (md_iA row))), (ho, .inl (dA, 5, .inl (md_iA col)))] H := hP
  have hD : va_D A [(hn, .inr (1, [.ref hh, .ref hw, .int (nI n0)])), (hh, .inl (dA, 36, .inl (md_iA hv))), (hw, .inl (dA, 5, .inl (md_iA rw))), (hr, .inl (dA, 5, .inl (md_iA row))), (ho, .inl (dA, 5, .inl (md_iA col)))] := hD
  refine lv_iconst (v := nI 0) hx hb dX1_count_5 (by decide) ?_
  refine lv_istore (lv' := [(5, .int (nI 0)), (0, .ref hn), (1, .ref hr), (2, .int (nI n0)), (3, .ref ho), (4, .int (nI m0))]) hx hb dX1_count_6 hl (by decide) rfl (fun ls hl => ?_)
  exact loop1 6 0 hv _ _ ls (by omega) (fun i hi => by omega) hP hD hS (lv_sub hl [1, 2, 3, 4, 5, 0] rfl)
set_option maxHeartbeats 4000000 in
set_option maxRecDepth 100000 in
/-- Needs(): two arrays -/
theorem mX1_init (l : Launch) (D : va_G) (dA dL : ClassId) (hn sz : Nat) : Met l yX1_init (ws_ yX1_init cX1_init 1 none) ({ frames := 1, cells := 2, slots := 41, locals := 12 }) (va_Pc [.ref hn] (mdPre D dA dL [(hn, .inr (1, [.null, .null, .int (nI 0)]))] sz))
    (va_Qv (fun (_ : Nat × Nat) => True) (fun u t => mdB D dA dL (va_A [(hn, .inr (1, [.null, .null, .int (nI 0)]))] sz) (md_wN dA hn u.1 u.2 0 (fun _ => 0) (fun _ => 0)) t) (va_A [(hn, .inr (1, [.null, .null, .int (nI 0)]))] sz)) 2 41 (va_A [(hn, .inr (1, [.null, .null, .int (nI 0)]))] sz) := by
  refine md_MetV (w1 := fun u : Nat × Nat => md_wN dA hn u.1 u.2 0 (fun _ => 0) (fun _ => 0)) (by decide) (Nat.le_of_ble_eq_true rfl) ?_
  intro p e s m below meth c ls args A Q R hR hx hb hml hts hown hname hA hP hK hD hS hl hret
  have hown : s.vm.findClass RX1 = some m.cls := hown
  have hl : lv_has ls 1 [(0, .ref hn)] := hl
  have hP : va_P D vwCl [(hn, .inr (1, [.null, .null, .int (nI 0)]))] s.heap := hP
  have hD : va_D A [(hn, .inr (1, [.null, .null, .int (nI 0)]))] := hD
  refine lv_aload_n hx hb dX1_init_0 rfl (lv_at hl 0 rfl) ?_
  refine W.objInit hx hb hown (hts _ q21) (hts _ q14) (hts _ q15) rfl (by rw [hml]; exact hl.1) rfl dX1_init_1 (by subst hR; exact Nat.le_of_ble_eq_true rfl) (by subst hR; exact Nat.le_of_ble_eq_true rfl) ?_
  refine W.eq (g2 := F0 m 4 ls []) rfl ?_
  refine lv_aload_n hx hb dX1_init_4 rfl (lv_at hl 0 rfl) ?_
  refine lv_bipush (v := nI 36) hx hb dX1_init_5 (by decide) ?_
  refine nv_newai hx hb (hts _ q32) hK hP hD hS hA (by decide) (by subst hR; exact Nat.le_of_ble_eq_true rfl) (by subst hR; exact Nat.le_of_ble_eq_true rfl) dX1_init_7 (fun hh H hP hD hS => ?_)
  have hP : va_P D vwCl [(hn, .inr (1, [.null, .null, .int (nI 0)])), (hh, .inl (dA, 36, .inl (md_iA (fun _ => 0))))] H := hP
  have hD : va_D A [(hn, .inr (1, [.null, .null, .int (nI 0)])), (hh, .inl (dA, 36, .inl (md_iA (fun _ => 0))))] := hD
  refine va_putF (D := D) (ci := 1) (v := .ref hh) (ty := .array .int) (C := RX1) (T := TX1) (N := 3) hx hb hts in_X1 tyX1 tyX1_ok nmX1 hown hK hP hD hS 0 rfl rfl 0 (by decide) (hts _ q22) (fun _ h9 => h9) rfl hname rfl (by decide +kernel) rfl rfl (Nat.le_of_ble_eq_true rfl) dX1_init_9 (fun H locs hP hD hS => ?_)
  have hP : va_P D vwCl [(hn, .inr (1, [.ref hh, .null, .int (nI 0)])), (hh, .inl (dA, 36, .inl (md_iA (fun _ => 0))))] H := hP
  have hD : va_D A [(hn, .inr (1, [.ref hh, .null, .int (nI 0)])), (hh, .inl (dA, 36, .inl (md_iA (fun _ => 0))))] := hD
  refine lv_aload_n hx hb dX1_init_12 rfl (lv_at hl 0 rfl) ?_
  refine lv_iconst (v := nI 5) hx hb dX1_init_13 (by decide) ?_
  refine nv_newai hx hb (hts _ q32) hK hP hD hS hA (by decide) (by subst hR; exact Nat.le_of_ble_eq_true rfl) (by subst hR; exact Nat.le_of_ble_eq_true rfl) dX1_init_14 (fun hw H hP hD hS => ?_)
  have hP : va_P D vwCl [(hn, .inr (1, [.ref hh, .null, .int (nI 0)])), (hh, .inl (dA, 36, .inl (md_iA (fun _ => 0)))), (hw, .inl (dA, 5, .inl (md_iA (fun _ => 0))))] H := hP
  have hD : va_D A [(hn, .inr (1, [.ref hh, .null, .int (nI 0)])), (hh, .inl (dA, 36, .inl (md_iA (fun _ => 0)))), (hw, .inl (dA, 5, .inl (md_iA (fun _ => 0))))] := hD
  refine va_putF (D := D) (ci := 1) (v := .ref hw) (ty := .array .int) (C := RX1) (T := TX1) (N := 3) hx hb hts in_X1 tyX1 tyX1_ok nmX1 hown hK hP hD hS 0 rfl rfl 1 (by decide) (hts _ q23) (fun _ h9 => h9) rfl hname rfl (by decide +kernel) rfl rfl (Nat.le_of_ble_eq_true rfl) dX1_init_16 (fun H locs hP hD hS => ?_)
  have hP : va_P D vwCl [(hn, .inr (1, [.ref hh, .ref hw, .int (nI 0)])), (hh, .inl (dA, 36, .inl (md_iA (fun _ => 0)))), (hw, .inl (dA, 5, .inl (md_iA (fun _ => 0))))] H := hP
  have hD : va_D A [(hn, .inr (1, [.ref hh, .ref hw, .int (nI 0)])), (hh, .inl (dA, 36, .inl (md_iA (fun _ => 0)))), (hw, .inl (dA, 5, .inl (md_iA (fun _ => 0))))] := hD
  exact hret _ _ _ _ (hh, hw) dX1_init_19 trivial hP hD hS
end
section
/-! MarginDesk: its cells and the contracts of its methods -/
def md_m31 (a : Int32) : Nat := a.toBitVec.toNat % 2 ^ 31
theorem md_m31_lt (a : Int32) : md_m31 a < 2 ^ 31 := Nat.mod_lt _ (by decide)
theorem md_m31_and (a : Int32) : a &&& 2147483647 = nI (md_m31 a) := pk_and a 31 (by decide)
abbrev md_wD (dA : ClassId) (h0 hr ho hz hn hh hw nr nc nn : Nat) (row col srt hv rw : Nat → Nat) : va_W := [(h0, .inr (0, [.ref hr, .ref ho, .ref hz, .ref hn, .int (nI nr), .int (nI nc)])), (hr, .inl (dA, 5, .inl (md_iA row))), (ho, .inl (dA, 5, .inl (md_iA col))), (hz, .inl (dA, 5, .inl (md_iA srt))), (hn, .inr (1, [.ref hh, .ref hw, .int (nI nn)])), (hh, .inl (dA, 36, .inl (md_iA hv))), (hw, .inl (dA, 5, .inl (md_iA rw)))]
set_option maxHeartbeats 4000000 in
set_option maxRecDepth 100000 in
/-- sum(of, n) -/
theorem mX0_sum (l : Launch) (D : va_G) (dA dL : ClassId) (ha sz n : Nat) (f : Nat → Nat) (hn5 : n ≤ 5) : Met l yX0_sum (ws_ yX0_sum cX0_sum 4 (some .int)) ({ frames := 0, cells := 0, slots := 0, locals := 0 }) (va_Pc [.ref ha, .int (nI n)] (mdPre D dA dL [(ha, .inl (dA, 5, .inl (md_iA f)))] sz))
    (va_Qi (fun (r : Int32) (_ : Unit) => r = nI (md_sum f n)) (fun u t => mdB D dA dL (va_A [(ha, .inl (dA, 5, .inl (md_iA f)))] sz) ([(ha, .inl (dA, 5, .inl (md_iA f)))]) t) (va_A [(ha, .inl (dA, 5, .inl (md_iA f)))] sz)) 0 0 (va_A [(ha, .inl (dA, 5, .inl (md_iA f)))] sz) := by
  refine md_MetI (w1 := fun _ : Unit => [(ha, .inl (dA, 5, .inl (md_iA f)))]) (by decide) (Nat.le_of_ble_eq_true rfl) ?_
  intro p e s m below meth c ls args A Q R hR hx hb hml hts hown hname hA hP hK hD hS hl hret
  have hown : s.vm.findClass RX0 = some m.cls := hown
  have hl : lv_has ls 4 [(0, .ref ha), (1, .int (nI n))] := hl
  have hP : va_P D vwCl [(ha, .inl (dA, 5, .inl (md_iA f)))] s.heap := hP
  have hD : va_D A [(ha, .inl (dA, 5, .inl (md_iA f)))] := hD
  have loop : ∀ (dd q : Nat) (ls : Array Slot), q + dd = n → lv_has ls 4 [(0, .ref ha), (1, .int (nI n)), (2, .int (nI (md_sum f q))), (3, .int (nI q))] → W p l e R s m args below meth c s.heap [] 0 0 Q (F0 m 4 ls []) := by
    intro dd
    induction dd with
    | zero =>
      intro q ls hq hl
      refine lv_iload_n hx hb dX0_sum_4 rfl (lv_at hl 3 rfl) ?_
      refine lv_iload_n hx hb dX0_sum_5 rfl (lv_at hl 1 rfl) ?_
      refine nv_ge (tgt := 21) hx hb (by omega) (by omega) dX0_sum_6 (by decide) (fun hc => ?_) (fun hc => ?_)
      · refine lv_iload_n hx hb dX0_sum_21 rfl (lv_at hl 2 rfl) ?_
        exact hret _ _ _ _ _ () dX0_sum_22 rfl (by rw [show q = n by omega]) hP hD hS
      · exact absurd hc (by omega)
    | succ dd ih =>
      intro q ls hq hl
      refine lv_iload_n hx hb dX0_sum_4 rfl (lv_at hl 3 rfl) ?_
      refine lv_iload_n hx hb dX0_sum_5 rfl (lv_at hl 1 rfl) ?_
      refine nv_ge (tgt := 21) hx hb (by omega) (by omega) dX0_sum_6 (by decide) (fun hc => ?_) (fun hc => ?_)
      · exact absurd hc (by omega)
      · refine lv_iload_n hx hb dX0_sum_9 rfl (lv_at hl 2 rfl) ?_
        refine lv_aload_n hx hb dX0_sum_10 rfl (lv_at hl 0 rfl) ?_
        refine lv_iload_n hx hb dX0_sum_11 rfl (lv_at hl 3 rfl) ?_
        refine nv_iald hx hb hK hP 0 0 rfl rfl (by omega) (by decide) dX0_sum_12 ?_
        refine nv_add hx hb dX0_sum_13 ?_
        refine lv_istore_n (lv' := [(2, .int (nI ((md_sum f q) + (f q)))), (0, .ref ha), (1, .int (nI n)), (3, .int (nI q))]) hx hb dX0_sum_14 rfl hl (by decide) rfl (fun ls hl => ?_)
        refine lv_iinc (v := (nI (q + 1))) (lv' := [(3, .int (nI (q + 1))), (2, .int (nI ((md_sum f q) + (f q)))), (0, .ref ha), (1, .int (nI n))]) hx hb dX0_sum_15 hl (k := 3) rfl (nv_inc1 _) (by decide) rfl (fun ls hl => ?_)
        refine lv_goto (tgt := 4) hx hb dX0_sum_18 (by decide) ?_
        exact ih (q + 1) ls (by omega) (lv_sub hl [2, 3, 1, 0] rfl)
  refine lv_iconst (v := nI 0) hx hb dX0_sum_0 (by decide) ?_
  refine lv_istore_n (lv' := [(2, .int (nI 0)), (0, .ref ha), (1, .int (nI n))]) hx hb dX0_sum_1 rfl hl (by decide) rfl (fun ls hl => ?_)
  refine lv_iconst (v := nI 0) hx hb dX0_sum_2 (by decide) ?_
  refine lv_istore_n (lv' := [(3, .int (nI 0)), (2, .int (nI 0)), (0, .ref ha), (1, .int (nI n))]) hx hb dX0_sum_3 rfl hl (by decide) rfl (fun ls hl => ?_)
  exact loop n 0 ls (by omega) (lv_sub hl [2, 3, 1, 0] rfl)
set_option maxHeartbeats 4000000 in
set_option maxRecDepth 100000 in
/-- rows() -/
theorem mX0_rows (l : Launch) (D : va_G) (dA dL : ClassId) (h0 hr ho hz hn hh hw sz nr nc nn : Nat) (row col srt hv rw : Nat → Nat) (hk5 : nr ≤ 5) : Met l yX0_rows (ws_ yX0_rows cX0_rows 1 (some .int)) ({ frames := 1, cells := 0, slots := 0, locals := 23 }) (va_Pc [.ref h0] (mdPre D dA dL (md_wD dA h0 hr ho hz hn hh hw nr nc nn row col srt hv rw) sz))
    (va_Qi (fun (r : Int32) (_ : Unit) => r = nI (md_sum row nr)) (fun u t => mdB D dA dL (va_A (md_wD dA h0 hr ho hz hn hh hw nr nc nn row col srt hv rw) sz) (md_wD dA h0 hr ho hz hn hh hw nr nc nn row col srt hv rw) t) (va_A (md_wD dA h0 hr ho hz hn hh hw nr nc nn row col srt hv rw) sz)) 0 0 (va_A (md_wD dA h0 hr ho hz hn hh hw nr nc nn row col srt hv rw) sz) := by
  refine md_MetI (w1 := fun _ : Unit => md_wD dA h0 hr ho hz hn hh hw nr nc nn row col srt hv rw) (by decide) (Nat.le_of_ble_eq_true rfl) ?_
  intro p e s m below meth c ls args A Q R hR hx hb hml hts hown hname hA hP hK hD hS hl hret
  have hown : s.vm.findClass RX0 = some m.cls := hown
  have hl : lv_has ls 1 [(0, .ref h0)] := hl
  have hP : va_P D vwCl [(h0, .inr (0, [.ref hr, .ref ho, .ref hz, .ref hn, .int (nI nr), .int (nI nc)])), (hr, .inl (dA, 5, .inl (md_iA row))), (ho, .inl (dA, 5, .inl (md_iA col))), (hz, .inl (dA, 5, .inl (md_iA srt))), (hn, .inr (1, [.ref hh, .ref hw, .int (nI nn)])), (hh, .inl (dA, 36, .inl (md_iA hv))), (hw, .inl (dA, 5, .inl (md_iA rw)))] s.heap := hP
  have hD : va_D A [(h0, .inr (0, [.ref hr, .ref ho, .ref hz, .ref hn, .int (nI nr), .int (nI nc)])), (hr, .inl (dA, 5, .inl (md_iA row))), (ho, .inl (dA, 5, .inl (md_iA col))), (hz, .inl (dA, 5, .inl (md_iA srt))), (hn, .inr (1, [.ref hh, .ref hw, .int (nI nn)])), (hh, .inl (dA, 36, .inl (md_iA hv))), (hw, .inl (dA, 5, .inl (md_iA rw)))] := hD
  refine lv_aload_n hx hb dX0_rows_0 rfl (lv_at hl 0 rfl) ?_
  refine va_get (D := D) (ci := 0) (v := .ref hr) (C := RX0) (T := TX0) (N := 6) hx hb hts in_X0 hown hK hP 0 rfl rfl 0 (by decide) (hts _ q33) (fun _ h9 => h9) rfl dX0_rows_1 ?_
  refine lv_aload_n hx hb dX0_rows_4 rfl (lv_at hl 0 rfl) ?_
  refine va_get (D := D) (ci := 0) (v := .int (nI nr)) (C := RX0) (T := TX0) (N := 6) hx hb hts in_X0 hown hK hP 0 rfl rfl 4 (by decide) (hts _ q37) (fun _ h9 => h9) rfl dX0_rows_5 ?_
  refine md_cSi (wr := [(h0, .inr (0, [.ref hr, .ref ho, .ref hz, .ref hn, .int (nI nr), .int (nI nc)])), (ho, .inl (dA, 5, .inl (md_iA col))), (hz, .inl (dA, 5, .inl (md_iA srt))), (hn, .inr (1, [.ref hh, .ref hw, .int (nI nn)])), (hh, .inl (dA, 36, .inl (md_iA hv))), (hw, .inl (dA, 5, .inl (md_iA rw)))]) (w1 := fun _ : Unit => [(hr, .inl (dA, 5, .inl (md_iA row)))]) hx hb hml hown hts hK hP hD hS hA [1] [0, 2, 3, 4, 5, 6] rfl rfl (by decide) (by decide) (by decide) (mX0_sum l D dA dL hr s.heap.size nr row hk5) (va_cwS 2 hts (lw_S q93 q94 q4 q95) rfl rfl rfl (by decide +kernel) (by subst hR; exact ⟨Nat.le_of_ble_eq_true rfl, Nat.le_of_ble_eq_true rfl⟩)) rfl hl.1 rfl (Nat.le_of_ble_eq_true rfl) dX0_rows_8 (by subst hR; exact ⟨Nat.le_refl _, Nat.le_refl _⟩) (fun r _ H locs hw1 hP hD hS => ?_)
  have hP := hP.sub (ws' := [(h0, .inr (0, [.ref hr, .ref ho, .ref hz, .ref hn, .int (nI nr), .int (nI nc)])), (hr, .inl (dA, 5, .inl (md_iA row))), (ho, .inl (dA, 5, .inl (md_iA col))), (hz, .inl (dA, 5, .inl (md_iA srt))), (hn, .inr (1, [.ref hh, .ref hw, .int (nI nn)])), (hh, .inl (dA, 36, .inl (md_iA hv))), (hw, .inl (dA, 5, .inl (md_iA rw)))]) [0, 6, 1, 2, 3, 4, 5] rfl
  have hD := hD.sub (ws' := [(h0, .inr (0, [.ref hr, .ref ho, .ref hz, .ref hn, .int (nI nr), .int (nI nc)])), (hr, .inl (dA, 5, .inl (md_iA row))), (ho, .inl (dA, 5, .inl (md_iA col))), (hz, .inl (dA, 5, .inl (md_iA srt))), (hn, .inr (1, [.ref hh, .ref hw, .int (nI nn)])), (hh, .inl (dA, 36, .inl (md_iA hv))), (hw, .inl (dA, 5, .inl (md_iA rw)))]) [0, 6, 1, 2, 3, 4, 5] (by decide) rfl
  exact hret _ _ _ _ r () dX0_rows_11 rfl hw1 hP hD hS
set_option maxHeartbeats 4000000 in
set_option maxRecDepth 100000 in
/-- columns() -/
theorem mX0_columns (l : Launch) (D : va_G) (dA dL : ClassId) (h0 hr ho hz hn hh hw sz nr nc nn : Nat) (row col srt hv rw : Nat → Nat) (hk5 : nc ≤ 5) : Met l yX0_columns (ws_ yX0_columns cX0_columns 1 (some .int)) ({ frames := 1, cells := 0, slots := 0, locals := 23 }) (va_Pc [.ref h0] (mdPre D dA dL (md_wD dA h0 hr ho hz hn hh hw nr nc nn row col srt hv rw) sz))
    (va_Qi (fun (r : Int32) (_ : Unit) => r = nI (md_sum col nc)) (fun u t => mdB D dA dL (va_A (md_wD dA h0 hr ho hz hn hh hw nr nc nn row col srt hv rw) sz) (md_wD dA h0 hr ho hz hn hh hw nr nc nn row col srt hv rw) t) (va_A (md_wD dA h0 hr ho hz hn hh hw nr nc nn row col srt hv rw) sz)) 0 0 (va_A (md_wD dA h0 hr ho hz hn hh hw nr nc nn row col srt hv rw) sz) := by
  refine md_MetI (w1 := fun _ : Unit => md_wD dA h0 hr ho hz hn hh hw nr nc nn row col srt hv rw) (by decide) (Nat.le_of_ble_eq_true rfl) ?_
  intro p e s m below meth c ls args A Q R hR hx hb hml hts hown hname hA hP hK hD hS hl hret
  have hown : s.vm.findClass RX0 = some m.cls := hown
  have hl : lv_has ls 1 [(0, .ref h0)] := hl
  have hP : va_P D vwCl [(h0, .inr (0, [.ref hr, .ref ho, .ref hz, .ref hn, .int (nI nr), .int (nI nc)])), (hr, .inl (dA, 5, .inl (md_iA row))), (ho, .inl (dA, 5, .inl (md_iA col))), (hz, .inl (dA, 5, .inl (md_iA srt))), (hn, .inr (1, [.ref hh, .ref hw, .int (nI nn)])), (hh, .inl (dA, 36, .inl (md_iA hv))), (hw, .inl (dA, 5, .inl (md_iA rw)))] s.heap := hP
  have hD : va_D A [(h0, .inr (0, [.ref hr, .ref ho, .ref hz, .ref hn, .int (nI nr), .int (nI nc)])), (hr, .inl (dA, 5, .inl (md_iA row))), (ho, .inl (dA, 5, .inl (md_iA col))), (hz, .inl (dA, 5, .inl (md_iA srt))), (hn, .inr (1, [.ref hh, .ref hw, .int (nI nn)])), (hh, .inl (dA, 36, .inl (md_iA hv))), (hw, .inl (dA, 5, .inl (md_iA rw)))] := hD
  refine lv_aload_n hx hb dX0_columns_0 rfl (lv_at hl 0 rfl) ?_
  refine va_get (D := D) (ci := 0) (v := .ref ho) (C := RX0) (T := TX0) (N := 6) hx hb hts in_X0 hown hK hP 0 rfl rfl 1 (by decide) (hts _ q34) (fun _ h9 => h9) rfl dX0_columns_1 ?_
  refine lv_aload_n hx hb dX0_columns_4 rfl (lv_at hl 0 rfl) ?_
  refine va_get (D := D) (ci := 0) (v := .int (nI nc)) (C := RX0) (T := TX0) (N := 6) hx hb hts in_X0 hown hK hP 0 rfl rfl 5 (by decide) (hts _ q38) (fun _ h9 => h9) rfl dX0_columns_5 ?_
  refine md_cSi (wr := [(h0, .inr (0, [.ref hr, .ref ho, .ref hz, .ref hn, .int (nI nr), .int (nI nc)])), (hr, .inl (dA, 5, .inl (md_iA row))), (hz, .inl (dA, 5, .inl (md_iA srt))), (hn, .inr (1, [.ref hh, .ref hw, .int (nI nn)])), (hh, .inl (dA, 36, .inl (md_iA hv))), (hw, .inl (dA, 5, .inl (md_iA rw)))]) (w1 := fun _ : Unit => [(ho, .inl (dA, 5, .inl (md_iA col)))]) hx hb hml hown hts hK hP hD hS hA [2] [0, 1, 3, 4, 5, 6] rfl rfl (by decide) (by decide) (by decide) (mX0_sum l D dA dL ho s.heap.size nc col hk5) (va_cwS 2 hts (lw_S q93 q94 q4 q95) rfl rfl rfl (by decide +kernel) (by subst hR; exact ⟨Nat.le_of_ble_eq_true rfl, Nat.le_of_ble_eq_true rfl⟩)) rfl hl.1 rfl (Nat.le_of_ble_eq_true rfl) dX0_columns_8 (by subst hR; exact ⟨Nat.le_refl _, Nat.le_refl _⟩) (fun r _ H locs hw1 hP hD hS => ?_)
  have hP := hP.sub (ws' := [(h0, .inr (0, [.ref hr, .ref ho, .ref hz, .ref hn, .int (nI nr), .int (nI nc)])), (hr, .inl (dA, 5, .inl (md_iA row))), (ho, .inl (dA, 5, .inl (md_iA col))), (hz, .inl (dA, 5, .inl (md_iA srt))), (hn, .inr (1, [.ref hh, .ref hw, .int (nI nn)])), (hh, .inl (dA, 36, .inl (md_iA hv))), (hw, .inl (dA, 5, .inl (md_iA rw)))]) [0, 1, 6, 2, 3, 4, 5] rfl
  have hD := hD.sub (ws' := [(h0, .inr (0, [.ref hr, .ref ho, .ref hz, .ref hn, .int (nI nr), .int (nI nc)])), (hr, .inl (dA, 5, .inl (md_iA row))), (ho, .inl (dA, 5, .inl (md_iA col))), (hz, .inl (dA, 5, .inl (md_iA srt))), (hn, .inr (1, [.ref hh, .ref hw, .int (nI nn)])), (hh, .inl (dA, 36, .inl (md_iA hv))), (hw, .inl (dA, 5, .inl (md_iA rw)))]) [0, 1, 6, 2, 3, 4, 5] (by decide) rfl
  exact hret _ _ _ _ r () dX0_columns_11 rfl hw1 hP hD hS
set_option maxHeartbeats 4000000 in
set_option maxRecDepth 100000 in
/-- size(a, b) -/
theorem mX0_size (l : Launch) (D : va_G) (dA dL : ClassId) (h0 hr ho hz hn hh hw sz nr nc nn : Nat) (row col srt hv rw : Nat → Nat) (a b : Int32) : Met l yX0_size (ws_ yX0_size cX0_size 4 none) ({ frames := 0, cells := 0, slots := 0, locals := 0 }) (va_Pc [.ref h0, .int a, .int b] (mdPre D dA dL (md_wD dA h0 hr ho hz hn hh hw nr nc nn row col srt hv rw) sz))
    (va_Qv (fun u : (Nat → Nat) × (Nat → Nat) => (∀ k, k < 5 → u.1 k = 0) ∧ ∀ k, k < 5 → u.2 k = 0) (fun u t => mdB D dA dL (va_A (md_wD dA h0 hr ho hz hn hh hw nr nc nn row col srt hv rw) sz) (md_wD dA h0 hr ho hz hn hh hw (1 + md_m31 a % 5) (1 + md_m31 b % 5) nn u.1 u.2 srt hv rw) t) (va_A (md_wD dA h0 hr ho hz hn hh hw nr nc nn row col srt hv rw) sz)) 0 0 (va_A (md_wD dA h0 hr ho hz hn hh hw nr nc nn row col srt hv rw) sz) := by
  refine md_MetV (w1 := fun u : (Nat → Nat) × (Nat → Nat) => md_wD dA h0 hr ho hz hn hh hw (1 + md_m31 a % 5) (1 + md_m31 b % 5) nn u.1 u.2 srt hv rw) (by decide) (Nat.le_of_ble_eq_true rfl) ?_
  intro p e s m below meth c ls args A Q R hR hx hb hml hts hown hname hA hP hK hD hS hl hret
  have hown : s.vm.findClass RX0 = some m.cls := hown
  have hl : lv_has ls 4 [(0, .ref h0), (1, .int a), (2, .int b)] := hl
  have hP : va_P D vwCl [(h0, .inr (0, [.ref hr, .ref ho, .ref hz, .ref hn, .int (nI nr), .int (nI nc)])), (hr, .inl (dA, 5, .inl (md_iA row))), (ho, .inl (dA, 5, .inl (md_iA col))), (hz, .inl (dA, 5, .inl (md_iA srt))), (hn, .inr (1, [.ref hh, .ref hw, .int (nI nn)])), (hh, .inl (dA, 36, .inl (md_iA hv))), (hw, .inl (dA, 5, .inl (md_iA rw)))] s.heap := hP
  have hD : va_D A [(h0, .inr (0, [.ref hr, .ref ho, .ref hz, .ref hn, .int (nI nr), .int (nI nc)])), (hr, .inl (dA, 5, .inl (md_iA row))), (ho, .inl (dA, 5, .inl (md_iA col))), (hz, .inl (dA, 5, .inl (md_iA srt))), (hn, .inr (1, [.ref hh, .ref hw, .int (nI nn)])), (hh, .inl (dA, 36, .inl (md_iA hv))), (hw, .inl (dA, 5, .inl (md_iA rw)))] := hD
  refine lv_aload_n hx hb dX0_size_0 rfl (lv_at hl 0 rfl) ?_
  refine lv_iconst (v := nI 1) hx hb dX0_size_1 (by decide) ?_
  refine lv_iload_n hx hb dX0_size_2 rfl (lv_at hl 1 rfl) ?_
  refine lv_ldc hx hb hown (hts _ q56) dX0_size_3 ?_
  refine lv_iand hx hb dX0_size_5 ?_
  refine nv_i (md_m31_and a) ?_
  have hm31_6 := md_m31_lt a
  refine lv_iconst (v := nI 5) hx hb dX0_size_6 (by decide) ?_
  refine nv_rem hx hb (by omega) (by omega) (by omega) dX0_size_7 ?_
  refine nv_add hx hb dX0_size_8 ?_
  refine va_put (D := D) (ci := 0) (v := .int (nI (1 + ((md_m31 a) % 5)))) (ty := .int) (C := RX0) (T := TX0) (N := 6) hx hb hts in_X0 tyX0 tyX0_ok nmX0 hown hK hP hD hS 0 rfl rfl 4 (by decide) (hts _ q37) (fun _ h9 => h9) rfl (by decide +kernel) rfl rfl (Nat.le_of_ble_eq_true rfl) dX0_size_9 (fun H locs hP hD hS => ?_)
  have hP : va_P D vwCl [(h0, .inr (0, [.ref hr, .ref ho, .ref hz, .ref hn, .int (nI (1 + ((md_m31 a) % 5))), .int (nI nc)])), (hr, .inl (dA, 5, .inl (md_iA row))), (ho, .inl (dA, 5, .inl (md_iA col))), (hz, .inl (dA, 5, .inl (md_iA srt))), (hn, .inr (1, [.ref hh, .ref hw, .int (nI nn)])), (hh, .inl (dA, 36, .inl (md_iA hv))), (hw, .inl (dA, 5, .inl (md_iA rw)))] H := hP
  have hD : va_D A [(h0, .inr (0, [.ref hr, .ref ho, .ref hz, .ref hn, .int (nI (1 + ((md_m31 a) % 5))), .int (nI nc)])), (hr, .inl (dA, 5, .inl (md_iA row))), (ho, .inl (dA, 5, .inl (md_iA col))), (hz, .inl (dA, 5, .inl (md_iA srt))), (hn, .inr (1, [.ref hh, .ref hw, .int (nI nn)])), (hh, .inl (dA, 36, .inl (md_iA hv))), (hw, .inl (dA, 5, .inl (md_iA rw)))] := hD
  refine lv_aload_n hx hb dX0_size_12 rfl (lv_at hl 0 rfl) ?_
  refine lv_iconst (v := nI 1) hx hb dX0_size_13 (by decide) ?_
  refine lv_iload_n hx hb dX0_size_14 rfl (lv_at hl 2 rfl) ?_
  refine lv_ldc hx hb hown (hts _ q56) dX0_size_15 ?_
  refine lv_iand hx hb dX0_size_17 ?_
  refine nv_i (md_m31_and b) ?_
  have hm31_18 := md_m31_lt b
  refine lv_iconst (v := nI 5) hx hb dX0_size_18 (by decide) ?_
  refine nv_rem hx hb (by omega) (by omega) (by omega) dX0_size_19 ?_
  refine nv_add hx hb dX0_size_20 ?_
  refine va_put (D := D) (ci := 0) (v := .int (nI (1 + ((md_m31 b) % 5)))) (ty := .int) (C := RX0) (T := TX0) (N := 6) hx hb hts in_X0 tyX0 tyX0_ok nmX0 hown hK hP hD hS 0 rfl rfl 5 (by decide) (hts _ q38) (fun _ h9 => h9) rfl (by decide +kernel) rfl rfl (Nat.le_of_ble_eq_true rfl) dX0_size_21 (fun H locs hP hD hS => ?_)
  have hP : va_P D vwCl [(h0, .inr (0, [.ref hr, .ref ho, .ref hz, .ref hn, .int (nI (1 + ((md_m31 a) % 5))), .int (nI (1 + ((md_m31 b) % 5)))])), (hr, .inl (dA, 5, .inl (md_iA row))), (ho, .inl (dA, 5, .inl (md_iA col))), (hz, .inl (dA, 5, .inl (md_iA srt))), (hn, .inr (1, [.ref hh, .ref hw, .int (nI nn)])), (hh, .inl (dA, 36, .inl (md_iA hv))), (hw, .inl (dA, 5, .inl (md_iA rw)))] H := hP
  have hD : va_D A [(h0, .inr (0, [.ref hr, .ref ho, .ref hz, .ref hn, .int (nI (1 + ((md_m31 a) % 5))), .int (nI (1 + ((md_m31 b) % 5)))])), (hr, .inl (dA, 5, .inl (md_iA row))), (ho, .inl (dA, 5, .inl (md_iA col))), (hz, .inl (dA, 5, .inl (md_iA srt))), (hn, .inr (1, [.ref hh, .ref hw, .int (nI nn)])), (hh, .inl (dA, 36, .inl (md_iA hv))), (hw, .inl (dA, 5, .inl (md_iA rw)))] := hD
  refine lv_iconst (v := nI 0) hx hb dX0_size_24 (by decide) ?_
  refine lv_istore_n (lv' := [(3, .int (nI 0)), (0, .ref h0), (1, .int a), (2, .int b)]) hx hb dX0_size_25 rfl hl (by decide) rfl (fun ls hl => ?_)
  have loop : ∀ (dd q : Nat) (f g : Nat → Nat) (H : Heap) (locs : List Loc) (ls : Array Slot), q + dd = 5 → (∀ k, k < q → f k = 0) → (∀ k, k < q → g k = 0) → va_P D vwCl [(h0, .inr (0, [.ref hr, .ref ho, .ref hz, .ref hn, .int (nI (1 + md_m31 a % 5)), .int (nI (1 + md_m31 b % 5))])), (hr, .inl (dA, 5, .inl (md_iA f))), (ho, .inl (dA, 5, .inl (md_iA g))), (hz, .inl (dA, 5, .inl (md_iA srt))), (hn, .inr (1, [.ref hh, .ref hw, .int (nI nn)])), (hh, .inl (dA, 36, .inl (md_iA hv))), (hw, .inl (dA, 5, .inl (md_iA rw)))] H → va_D A [(h0, .inr (0, [.ref hr, .ref ho, .ref hz, .ref hn, .int (nI (1 + md_m31 a % 5)), .int (nI (1 + md_m31 b % 5))])), (hr, .inl (dA, 5, .inl (md_iA f))), (ho, .inl (dA, 5, .inl (md_iA g))), (hz, .inl (dA, 5, .inl (md_iA srt))), (hn, .inr (1, [.ref hh, .ref hw, .int (nI nn)])), (hh, .inl (dA, 36, .inl (md_iA hv))), (hw, .inl (dA, 5, .inl (md_iA rw)))] → va_S A s.heap H locs → lv_has ls 4 [(0, .ref h0), (3, .int (nI q))] → W p l e R s m args below meth c H locs 0 0 Q (F0 m 26 ls []) := by
    intro dd
    induction dd with
    | zero =>
      intro q f g H locs ls hq hf hg hP hD hS hl
      refine lv_iload_n hx hb dX0_size_26 rfl (lv_at hl 1 rfl) ?_
      refine lv_iconst (v := nI 5) hx hb dX0_size_27 (by decide) ?_
      refine nv_ge (tgt := 51) hx hb (by omega) (by omega) dX0_size_28 (by decide) (fun hc => ?_) (fun hc => ?_)
      · exact hret _ _ _ _ (f, g) dX0_size_51 ⟨fun k hk => hf k (by omega), fun k hk => hg k (by omega)⟩ hP hD hS
      · exact absurd hc (by omega)
    | succ dd ih =>
      intro q f g H locs ls hq hf hg hP hD hS hl
      refine lv_iload_n hx hb dX0_size_26 rfl (lv_at hl 1 rfl) ?_
      refine lv_iconst (v := nI 5) hx hb dX0_size_27 (by decide) ?_
      refine nv_ge (tgt := 51) hx hb (by omega) (by omega) dX0_size_28 (by decide) (fun hc => ?_) (fun hc => ?_)
      · exact absurd hc (by omega)
      · refine lv_aload_n hx hb dX0_size_31 rfl (lv_at hl 0 rfl) ?_
        refine va_get (D := D) (ci := 0) (v := .ref hr) (C := RX0) (T := TX0) (N := 6) hx hb hts in_X0 hown hK hP 0 rfl rfl 0 (by decide) (hts _ q33) (fun _ h9 => h9) rfl dX0_size_32 ?_
        refine lv_iload_n hx hb dX0_size_35 rfl (lv_at hl 1 rfl) ?_
        refine lv_iconst (v := nI 0) hx hb dX0_size_36 (by decide) ?_
        refine nv_iast hx hb hK hP hD hS 1 0 rfl rfl (by omega) (by decide) dX0_size_37 (fun H locs hP hD hS => ?_)
        have hP : va_P D vwCl [(h0, .inr (0, [.ref hr, .ref ho, .ref hz, .ref hn, .int (nI (1 + md_m31 a % 5)), .int (nI (1 + md_m31 b % 5))])), (hr, .inl (dA, 5, .inl (md_iA (md_up f q 0)))), (ho, .inl (dA, 5, .inl (md_iA g))), (hz, .inl (dA, 5, .inl (md_iA srt))), (hn, .inr (1, [.ref hh, .ref hw, .int (nI nn)])), (hh, .inl (dA, 36, .inl (md_iA hv))), (hw, .inl (dA, 5, .inl (md_iA rw)))] H := hP
        have hD : va_D A [(h0, .inr (0, [.ref hr, .ref ho, .ref hz, .ref hn, .int (nI (1 + md_m31 a % 5)), .int (nI (1 + md_m31 b % 5))])), (hr, .inl (dA, 5, .inl (md_iA (md_up f q 0)))), (ho, .inl (dA, 5, .inl (md_iA g))), (hz, .inl (dA, 5, .inl (md_iA srt))), (hn, .inr (1, [.ref hh, .ref hw, .int (nI nn)])), (hh, .inl (dA, 36, .inl (md_iA hv))), (hw, .inl (dA, 5, .inl (md_iA rw)))] := hD
        refine lv_aload_n hx hb dX0_size_38 rfl (lv_at hl 0 rfl) ?_
        refine va_get (D := D) (ci := 0) (v := .ref ho) (C := RX0) (T := TX0) (N := 6) hx hb hts in_X0 hown hK hP 0 rfl rfl 1 (by decide) (hts _ q34) (fun _ h9 => h9) rfl dX0_size_39 ?_
        refine lv_iload_n hx hb dX0_size_42 rfl (lv_at hl 1 rfl) ?_
        refine lv_iconst (v := nI 0) hx hb dX0_size_43 (by decide) ?_
        refine nv_iast hx hb hK hP hD hS 2 0 rfl rfl (by omega) (by decide) dX0_size_44 (fun H locs hP hD hS => ?_)
        have hP : va_P D vwCl [(h0, .inr (0, [.ref hr, .ref ho, .ref hz, .ref hn, .int (nI (1 + md_m31 a % 5)), .int (nI (1 + md_m31 b % 5))])), (hr, .inl (dA, 5, .inl (md_iA (md_up f q 0)))), (ho, .inl (dA, 5, .inl (md_iA (md_up g q 0)))), (hz, .inl (dA, 5, .inl (md_iA srt))), (hn, .inr (1, [.ref hh, .ref hw, .int (nI nn)])), (hh, .inl (dA, 36, .inl (md_iA hv))), (hw, .inl (dA, 5, .inl (md_iA rw)))] H := hP
        have hD : va_D A [(h0, .inr (0, [.ref hr, .ref ho, .ref hz, .ref hn, .int (nI (1 + md_m31 a % 5)), .int (nI (1 + md_m31 b % 5))])), (hr, .inl (dA, 5, .inl (md_iA (md_up f q 0)))), (ho, .inl (dA, 5, .inl (md_iA (md_up g q 0)))), (hz, .inl (dA, 5, .inl (md_iA srt))), (hn, .inr (1, [.ref hh, .ref hw, .int (nI nn)])), (hh, .inl (dA, 36, .inl (md_iA hv))), (hw, .inl (dA, 5, .inl (md_iA rw)))] := hD
        refine lv_iinc (v := (nI (q + 1))) (lv' := [(3, .int (nI (q + 1))), (0, .ref h0)]) hx hb dX0_size_45 hl (k := 1) rfl (nv_inc1 _) (by decide) rfl (fun ls hl => ?_)
        refine lv_goto (tgt := 26) hx hb dX0_size_48 (by decide) ?_
        refine ih (q + 1) _ _ _ _ ls (by omega) (fun k hk => ?_) (fun k hk => ?_) hP hD hS (lv_sub hl [1, 0] rfl)
        · by_cases e1 : k = q
          · subst e1; rw [md_up_s]
          · rw [md_up_n e1]; exact hf k (by omega)
        · by_cases e1 : k = q
          · subst e1; rw [md_up_s]
          · rw [md_up_n e1]; exact hg k (by omega)
  exact loop 5 0 row col _ _ ls (by omega) (fun k hk => by omega) (fun k hk => by omega) hP hD hS (lv_sub hl [1, 0] rfl)
set_option maxHeartbeats 4000000 in
set_option maxRecDepth 100000 in
/-- row(i, v) -/
theorem mX0_row (l : Launch) (D : va_G) (dA dL : ClassId) (h0 hr ho hz hn hh hw sz nr nc nn : Nat) (row col srt hv rw : Nat → Nat) (a b : Int32) (hk0 : 0 < nr) (hk5 : nr ≤ 5) : Met l yX0_row (ws_ yX0_row cX0_row 3 none) ({ frames := 0, cells := 0, slots := 0, locals := 0 }) (va_Pc [.ref h0, .int a, .int b] (mdPre D dA dL (md_wD dA h0 hr ho hz hn hh hw nr nc nn row col srt hv rw) sz))
    (va_Qv (fun _ : Unit => True) (fun u t => mdB D dA dL (va_A (md_wD dA h0 hr ho hz hn hh hw nr nc nn row col srt hv rw) sz) (md_wD dA h0 hr ho hz hn hh hw nr nc nn (md_up row (md_m31 a % nr) (md_m31 b % 6)) col srt hv rw) t) (va_A (md_wD dA h0 hr ho hz hn hh hw nr nc nn row col srt hv rw) sz)) 0 0 (va_A (md_wD dA h0 hr ho hz hn hh hw nr nc nn row col srt hv rw) sz) := by
  refine md_MetV (w1 := fun _ : Unit => md_wD dA h0 hr ho hz hn hh hw nr nc nn (md_up row (md_m31 a % nr) (md_m31 b % 6)) col srt hv rw) (by decide) (Nat.le_of_ble_eq_true rfl) ?_
  intro p e s m below meth c ls args A Q R hR hx hb hml hts hown hname hA hP hK hD hS hl hret
  have hown : s.vm.findClass RX0 = some m.cls := hown
  have hl : lv_has ls 3 [(0, .ref h0), (1, .int a), (2, .int b)] := hl
  have hP : va_P D vwCl [(h0, .inr (0, [.ref hr, .ref ho, .ref hz, .ref hn, .int (nI nr), .int (nI nc)])), (hr, .inl (dA, 5, .inl (md_iA row))), (ho, .inl (dA, 5, .inl (md_iA col))), (hz, .inl (dA, 5, .inl (md_iA srt))), (hn, .inr (1, [.ref hh, .ref hw, .int (nI nn)])), (hh, .inl (dA, 36, .inl (md_iA hv))), (hw, .inl (dA, 5, .inl (md_iA rw)))] s.heap := hP
  have hD : va_D A [(h0, .inr (0, [.ref hr, .ref ho, .ref hz, .ref hn, .int (nI nr), .int (nI nc)])), (hr, .inl (dA, 5, .inl (md_iA row))), (ho, .inl (dA, 5, .inl (md_iA col))), (hz, .inl (dA, 5, .inl (md_iA srt))), (hn, .inr (1, [.ref hh, .ref hw, .int (nI nn)])), (hh, .inl (dA, 36, .inl (md_iA hv))), (hw, .inl (dA, 5, .inl (md_iA rw)))] := hD
  refine lv_aload_n hx hb dX0_row_0 rfl (lv_at hl 0 rfl) ?_
  refine va_get (D := D) (ci := 0) (v := .ref hr) (C := RX0) (T := TX0) (N := 6) hx hb hts in_X0 hown hK hP 0 rfl rfl 0 (by decide) (hts _ q33) (fun _ h9 => h9) rfl dX0_row_1 ?_
  refine lv_iload_n hx hb dX0_row_4 rfl (lv_at hl 1 rfl) ?_
  refine lv_ldc hx hb hown (hts _ q56) dX0_row_5 ?_
  refine lv_iand hx hb dX0_row_7 ?_
  refine nv_i (md_m31_and a) ?_
  have hm31_8 := md_m31_lt a
  refine lv_aload_n hx hb dX0_row_8 rfl (lv_at hl 0 rfl) ?_
  refine va_get (D := D) (ci := 0) (v := .int (nI nr)) (C := RX0) (T := TX0) (N := 6) hx hb hts in_X0 hown hK hP 0 rfl rfl 4 (by decide) (hts _ q37) (fun _ h9 => h9) rfl dX0_row_9 ?_
  have hmod : md_m31 a % nr < nr := Nat.mod_lt _ hk0
  refine nv_rem hx hb (by omega) (by omega) (by omega) dX0_row_12 ?_
  refine lv_iload_n hx hb dX0_row_13 rfl (lv_at hl 2 rfl) ?_
  refine lv_ldc hx hb hown (hts _ q56) dX0_row_14 ?_
  refine lv_iand hx hb dX0_row_16 ?_
  refine nv_i (md_m31_and b) ?_
  have hm31_17 := md_m31_lt b
  refine lv_bipush (v := nI 6) hx hb dX0_row_17 (by decide) ?_
  refine nv_rem hx hb (by omega) (by omega) (by omega) dX0_row_19 ?_
  refine nv_iast hx hb hK hP hD hS 1 0 rfl rfl (by omega) (by decide) dX0_row_20 (fun H locs hP hD hS => ?_)
  have hP : va_P D vwCl [(h0, .inr (0, [.ref hr, .ref ho, .ref hz, .ref hn, .int (nI nr), .int (nI nc)])), (hr, .inl (dA, 5, .inl (md_iA (md_up row ((md_m31 a) % nr) ((md_m31 b) % 6))))), (ho, .inl (dA, 5, .inl (md_iA col))), (hz, .inl (dA, 5, .inl (md_iA srt))), (hn, .inr (1, [.ref hh, .ref hw, .int (nI nn)])), (hh, .inl (dA, 36, .inl (md_iA hv))), (hw, .inl (dA, 5, .inl (md_iA rw)))] H := hP
  have hD : va_D A [(h0, .inr (0, [.ref hr, .ref ho, .ref hz, .ref hn, .int (nI nr), .int (nI nc)])), (hr, .inl (dA, 5, .inl (md_iA (md_up row ((md_m31 a) % nr) ((md_m31 b) % 6))))), (ho, .inl (dA, 5, .inl (md_iA col))), (hz, .inl (dA, 5, .inl (md_iA srt))), (hn, .inr (1, [.ref hh, .ref hw, .int (nI nn)])), (hh, .inl (dA, 36, .inl (md_iA hv))), (hw, .inl (dA, 5, .inl (md_iA rw)))] := hD
  exact hret _ _ _ _ () dX0_row_21 trivial hP hD hS
set_option maxHeartbeats 4000000 in
set_option maxRecDepth 100000 in
/-- column(i, v) -/
theorem mX0_column (l : Launch) (D : va_G) (dA dL : ClassId) (h0 hr ho hz hn hh hw sz nr nc nn : Nat) (row col srt hv rw : Nat → Nat) (a b : Int32) (hk0 : 0 < nc) (hk5 : nc ≤ 5) : Met l yX0_column (ws_ yX0_column cX0_column 3 none) ({ frames := 0, cells := 0, slots := 0, locals := 0 }) (va_Pc [.ref h0, .int a, .int b] (mdPre D dA dL (md_wD dA h0 hr ho hz hn hh hw nr nc nn row col srt hv rw) sz))
    (va_Qv (fun _ : Unit => True) (fun u t => mdB D dA dL (va_A (md_wD dA h0 hr ho hz hn hh hw nr nc nn row col srt hv rw) sz) (md_wD dA h0 hr ho hz hn hh hw nr nc nn row (md_up col (md_m31 a % nc) (md_m31 b % 6)) srt hv rw) t) (va_A (md_wD dA h0 hr ho hz hn hh hw nr nc nn row col srt hv rw) sz)) 0 0 (va_A (md_wD dA h0 hr ho hz hn hh hw nr nc nn row col srt hv rw) sz) := by
  refine md_MetV (w1 := fun _ : Unit => md_wD dA h0 hr ho hz hn hh hw nr nc nn row (md_up col (md_m31 a % nc) (md_m31 b % 6)) srt hv rw) (by decide) (Nat.le_of_ble_eq_true rfl) ?_
  intro p e s m below meth c ls args A Q R hR hx hb hml hts hown hname hA hP hK hD hS hl hret
  have hown : s.vm.findClass RX0 = some m.cls := hown
  have hl : lv_has ls 3 [(0, .ref h0), (1, .int a), (2, .int b)] := hl
  have hP : va_P D vwCl [(h0, .inr (0, [.ref hr, .ref ho, .ref hz, .ref hn, .int (nI nr), .int (nI nc)])), (hr, .inl (dA, 5, .inl (md_iA row))), (ho, .inl (dA, 5, .inl (md_iA col))), (hz, .inl (dA, 5, .inl (md_iA srt))), (hn, .inr (1, [.ref hh, .ref hw, .int (nI nn)])), (hh, .inl (dA, 36, .inl (md_iA hv))), (hw, .inl (dA, 5, .inl (md_iA rw)))] s.heap := hP
  have hD : va_D A [(h0, .inr (0, [.ref hr, .ref ho, .ref hz, .ref hn, .int (nI nr), .int (nI nc)])), (hr, .inl (dA, 5, .inl (md_iA row))), (ho, .inl (dA, 5, .inl (md_iA col))), (hz, .inl (dA, 5, .inl (md_iA srt))), (hn, .inr (1, [.ref hh, .ref hw, .int (nI nn)])), (hh, .inl (dA, 36, .inl (md_iA hv))), (hw, .inl (dA, 5, .inl (md_iA rw)))] := hD
  refine lv_aload_n hx hb dX0_column_0 rfl (lv_at hl 0 rfl) ?_
  refine va_get (D := D) (ci := 0) (v := .ref ho) (C := RX0) (T := TX0) (N := 6) hx hb hts in_X0 hown hK hP 0 rfl rfl 1 (by decide) (hts _ q34) (fun _ h9 => h9) rfl dX0_column_1 ?_
  refine lv_iload_n hx hb dX0_column_4 rfl (lv_at hl 1 rfl) ?_
  refine lv_ldc hx hb hown (hts _ q56) dX0_column_5 ?_
  refine lv_iand hx hb dX0_column_7 ?_
  refine nv_i (md_m31_and a) ?_
  have hm31_8 := md_m31_lt a
  refine lv_aload_n hx hb dX0_column_8 rfl (lv_at hl 0 rfl) ?_
  refine va_get (D := D) (ci := 0) (v := .int (nI nc)) (C := RX0) (T := TX0) (N := 6) hx hb hts in_X0 hown hK hP 0 rfl rfl 5 (by decide) (hts _ q38) (fun _ h9 => h9) rfl dX0_column_9 ?_
  have hmod : md_m31 a % nc < nc := Nat.mod_lt _ hk0
  refine nv_rem hx hb (by omega) (by omega) (by omega) dX0_column_12 ?_
  refine lv_iload_n hx hb dX0_column_13 rfl (lv_at hl 2 rfl) ?_
  refine lv_ldc hx hb hown (hts _ q56) dX0_column_14 ?_
  refine lv_iand hx hb dX0_column_16 ?_
  refine nv_i (md_m31_and b) ?_
  have hm31_17 := md_m31_lt b
  refine lv_bipush (v := nI 6) hx hb dX0_column_17 (by decide) ?_
  refine nv_rem hx hb (by omega) (by omega) (by omega) dX0_column_19 ?_
  refine nv_iast hx hb hK hP hD hS 2 0 rfl rfl (by omega) (by decide) dX0_column_20 (fun H locs hP hD hS => ?_)
  have hP : va_P D vwCl [(h0, .inr (0, [.ref hr, .ref ho, .ref hz, .ref hn, .int (nI nr), .int (nI nc)])), (hr, .inl (dA, 5, .inl (md_iA row))), (ho, .inl (dA, 5, .inl (md_iA (md_up col ((md_m31 a) % nc) ((md_m31 b) % 6))))), (hz, .inl (dA, 5, .inl (md_iA srt))), (hn, .inr (1, [.ref hh, .ref hw, .int (nI nn)])), (hh, .inl (dA, 36, .inl (md_iA hv))), (hw, .inl (dA, 5, .inl (md_iA rw)))] H := hP
  have hD : va_D A [(h0, .inr (0, [.ref hr, .ref ho, .ref hz, .ref hn, .int (nI nr), .int (nI nc)])), (hr, .inl (dA, 5, .inl (md_iA row))), (ho, .inl (dA, 5, .inl (md_iA (md_up col ((md_m31 a) % nc) ((md_m31 b) % 6))))), (hz, .inl (dA, 5, .inl (md_iA srt))), (hn, .inr (1, [.ref hh, .ref hw, .int (nI nn)])), (hh, .inl (dA, 36, .inl (md_iA hv))), (hw, .inl (dA, 5, .inl (md_iA rw)))] := hD
  exact hret _ _ _ _ () dX0_column_21 trivial hP hD hS
set_option maxHeartbeats 4000000 in
set_option maxRecDepth 100000 in
/-- count() -/
theorem mX0_count (l : Launch) (D : va_G) (dA dL : ClassId) (h0 hr ho hz hn hh hw sz nr nc nn : Nat) (row col srt hv rw : Nat → Nat) (hn5 : nr ≤ 5) (hm5 : nc ≤ 5) (hrw : ∀ i, i < 5 → rw i ≤ 5) (hrow : ∀ i, i < 5 → row i ≤ 5) (hcol : ∀ i, i < 5 → col i ≤ 5) : Met l yX0_count (ws_ yX0_count cX0_count 1 (some .long)) ({ frames := 38, cells := 0, slots := 0, locals := 1505 }) (va_Pc [.ref h0] (mdPre D dA dL (md_wD dA h0 hr ho hz hn hh hw nr nc nn row col srt hv rw) sz))
    (va_Ql (fun (r : Int64) (u : (Nat → Nat) × (Nat → Nat)) => r = lN (md_from (md_rl row 0 nr) (md_hist col nc)) ∧ ∀ i, i < 5 → u.2 i ≤ 5) (fun u t => mdB D dA dL (va_A (md_wD dA h0 hr ho hz hn hh hw nr nc nn row col srt hv rw) sz) (md_wD dA h0 hr ho hz hn hh hw nr nc nr row col srt u.1 u.2) t) (va_A (md_wD dA h0 hr ho hz hn hh hw nr nc nn row col srt hv rw) sz)) 0 0 (va_A (md_wD dA h0 hr ho hz hn hh hw nr nc nn row col srt hv rw) sz) := by
  refine md_MetL (w1 := fun u : (Nat → Nat) × (Nat → Nat) => md_wD dA h0 hr ho hz hn hh hw nr nc nr row col srt u.1 u.2) (by decide) (Nat.le_of_ble_eq_true rfl) ?_
  intro p e s m below meth c ls args A Q R hR hx hb hml hts hown hname hA hP hK hD hS hl hret
  have hown : s.vm.findClass RX0 = some m.cls := hown
  have hl : lv_has ls 1 [(0, .ref h0)] := hl
  have hP : va_P D vwCl [(h0, .inr (0, [.ref hr, .ref ho, .ref hz, .ref hn, .int (nI nr), .int (nI nc)])), (hr, .inl (dA, 5, .inl (md_iA row))), (ho, .inl (dA, 5, .inl (md_iA col))), (hz, .inl (dA, 5, .inl (md_iA srt))), (hn, .inr (1, [.ref hh, .ref hw, .int (nI nn)])), (hh, .inl (dA, 36, .inl (md_iA hv))), (hw, .inl (dA, 5, .inl (md_iA rw)))] s.heap := hP
  have hD : va_D A [(h0, .inr (0, [.ref hr, .ref ho, .ref hz, .ref hn, .int (nI nr), .int (nI nc)])), (hr, .inl (dA, 5, .inl (md_iA row))), (ho, .inl (dA, 5, .inl (md_iA col))), (hz, .inl (dA, 5, .inl (md_iA srt))), (hn, .inr (1, [.ref hh, .ref hw, .int (nI nn)])), (hh, .inl (dA, 36, .inl (md_iA hv))), (hw, .inl (dA, 5, .inl (md_iA rw)))] := hD
  refine lv_aload_n hx hb dX0_count_0 rfl (lv_at hl 0 rfl) ?_
  refine va_get (D := D) (ci := 0) (v := .ref hn) (C := RX0) (T := TX0) (N := 6) hx hb hts in_X0 hown hK hP 0 rfl rfl 3 (by decide) (hts _ q36) (fun _ h9 => h9) rfl dX0_count_1 ?_
  refine lv_aload_n hx hb dX0_count_4 rfl (lv_at hl 0 rfl) ?_
  refine va_get (D := D) (ci := 0) (v := .ref hr) (C := RX0) (T := TX0) (N := 6) hx hb hts in_X0 hown hK hP 0 rfl rfl 0 (by decide) (hts _ q33) (fun _ h9 => h9) rfl dX0_count_5 ?_
  refine lv_aload_n hx hb dX0_count_8 rfl (lv_at hl 0 rfl) ?_
  refine va_get (D := D) (ci := 0) (v := .int (nI nr)) (C := RX0) (T := TX0) (N := 6) hx hb hts in_X0 hown hK hP 0 rfl rfl 4 (by decide) (hts _ q37) (fun _ h9 => h9) rfl dX0_count_9 ?_
  refine lv_aload_n hx hb dX0_count_12 rfl (lv_at hl 0 rfl) ?_
  refine va_get (D := D) (ci := 0) (v := .ref ho) (C := RX0) (T := TX0) (N := 6) hx hb hts in_X0 hown hK hP 0 rfl rfl 1 (by decide) (hts _ q34) (fun _ h9 => h9) rfl dX0_count_13 ?_
  refine lv_aload_n hx hb dX0_count_16 rfl (lv_at hl 0 rfl) ?_
  refine va_get (D := D) (ci := 0) (v := .int (nI nc)) (C := RX0) (T := TX0) (N := 6) hx hb hts in_X0 hown hK hP 0 rfl rfl 5 (by decide) (hts _ q38) (fun _ h9 => h9) rfl dX0_count_17 ?_
  refine md_cVl (wr := [(h0, .inr (0, [.ref hr, .ref ho, .ref hz, .ref hn, .int (nI nr), .int (nI nc)])), (hz, .inl (dA, 5, .inl (md_iA srt)))]) hx hb hml hown hts hK hP hD hS hA [4, 5, 6, 1, 2] [0, 3] rfl rfl (by decide) (by decide) (by decide) (mX1_count l D dA dL hn hh hw hr ho s.heap.size nn nr nc hv rw row col hn5 hm5 hrw hrow hcol) (cwV 4 hts (lw_V q69 q70 q71 q5 q72) rfl rfl rfl (by decide +kernel) (by subst hR; exact ⟨Nat.le_of_ble_eq_true rfl, Nat.le_of_ble_eq_true rfl⟩)) (q0 := 0) (ci := 1) rfl rfl rfl rfl hl.1 rfl (Nat.le_of_ble_eq_true rfl) dX0_count_20 (by subst hR; exact ⟨Nat.le_refl _, Nat.le_refl _⟩) (fun r u H locs hw1 hP hD hS => ?_)
  have hP := hP.sub (ws' := [(h0, .inr (0, [.ref hr, .ref ho, .ref hz, .ref hn, .int (nI nr), .int (nI nc)])), (hr, .inl (dA, 5, .inl (md_iA row))), (ho, .inl (dA, 5, .inl (md_iA col))), (hz, .inl (dA, 5, .inl (md_iA srt))), (hn, .inr (1, [.ref hh, .ref hw, .int (nI nr)])), (hh, .inl (dA, 36, .inl (md_iA u.1))), (hw, .inl (dA, 5, .inl (md_iA u.2)))]) [0, 5, 6, 1, 2, 3, 4] rfl
  have hD := hD.sub (ws' := [(h0, .inr (0, [.ref hr, .ref ho, .ref hz, .ref hn, .int (nI nr), .int (nI nc)])), (hr, .inl (dA, 5, .inl (md_iA row))), (ho, .inl (dA, 5, .inl (md_iA col))), (hz, .inl (dA, 5, .inl (md_iA srt))), (hn, .inr (1, [.ref hh, .ref hw, .int (nI nr)])), (hh, .inl (dA, 36, .inl (md_iA u.1))), (hw, .inl (dA, 5, .inl (md_iA u.2)))]) [0, 5, 6, 1, 2, 3, 4] (by decide) rfl
  exact hret _ _ _ _ r u dX0_count_23 hw1 hP hD hS
end
section
set_option maxHeartbeats 4000000 in
set_option maxRecDepth 100000 in
/-- any(): by Gale and Ryser -/
theorem mX0_any (l : Launch) (D : va_G) (dA dL : ClassId) (h0 hr ho hz hn hh hw sz nr nc nn : Nat) (row col srt hv rw : Nat → Nat) (hn5 : nr ≤ 5) (hm5 : nc ≤ 5) (hrow : ∀ i, i < 5 → row i ≤ 5) (hcol : ∀ i, i < 5 → col i ≤ 5) (hsrt : ∀ i, i < 5 → srt i ≤ 5) : Met l yX0_any (ws_ yX0_any cX0_any 5 (some .boolean)) ({ frames := 2, cells := 0, slots := 0, locals := 43 }) (va_Pc [.ref h0] (mdPre D dA dL (md_wD dA h0 hr ho hz hn hh hw nr nc nn row col srt hv rw) sz))
    (va_Qi (fun (r : Int32) (u : Nat → Nat) => (md_GR nr nc row col (md_sort row nr srt) → r = 1) ∧ (¬ md_GR nr nc row col (md_sort row nr srt) → r = 0) ∧ ∀ i, i < 5 → u i ≤ 5) (fun u t => mdB D dA dL (va_A (md_wD dA h0 hr ho hz hn hh hw nr nc nn row col srt hv rw) sz) (md_wD dA h0 hr ho hz hn hh hw nr nc nn row col u hv rw) t) (va_A (md_wD dA h0 hr ho hz hn hh hw nr nc nn row col srt hv rw) sz)) 0 0 (va_A (md_wD dA h0 hr ho hz hn hh hw nr nc nn row col srt hv rw) sz) := by
  refine md_MetI (w1 := fun u : Nat → Nat => md_wD dA h0 hr ho hz hn hh hw nr nc nn row col u hv rw) (by decide) (Nat.le_of_ble_eq_true rfl) ?_
  intro p e s m below meth c ls args A Q R hR hx hb hml hts hown hname hA hP hK hD hS hl hret
  have hown : s.vm.findClass RX0 = some m.cls := hown
  have hl : lv_has ls 5 [(0, .ref h0)] := hl
  have hP : va_P D vwCl [(h0, .inr (0, [.ref hr, .ref ho, .ref hz, .ref hn, .int (nI nr), .int (nI nc)])), (hr, .inl (dA, 5, .inl (md_iA row))), (ho, .inl (dA, 5, .inl (md_iA col))), (hz, .inl (dA, 5, .inl (md_iA srt))), (hn, .inr (1, [.ref hh, .ref hw, .int (nI nn)])), (hh, .inl (dA, 36, .inl (md_iA hv))), (hw, .inl (dA, 5, .inl (md_iA rw)))] s.heap := hP
  have hD : va_D A [(h0, .inr (0, [.ref hr, .ref ho, .ref hz, .ref hn, .int (nI nr), .int (nI nc)])), (hr, .inl (dA, 5, .inl (md_iA row))), (ho, .inl (dA, 5, .inl (md_iA col))), (hz, .inl (dA, 5, .inl (md_iA srt))), (hn, .inr (1, [.ref hh, .ref hw, .int (nI nn)])), (hh, .inl (dA, 36, .inl (md_iA hv))), (hw, .inl (dA, 5, .inl (md_iA rw)))] := hD
  have hf5 := hsrt
  have hsr : md_sum row nr ≤ nr * 5 := md_sum_le (fun i hi => hrow i (by omega))
  have hsc : md_sum col nc ≤ nc * 5 := md_sum_le (fun i hi => hcol i (by omega))
  refine lv_aload_n hx hb dX0_any_0 rfl (lv_at hl 0 rfl) ?_
  refine md_cVi (wr := []) hx hb hml hown hts hK hP hD hS hA [0, 1, 2, 3, 4, 5, 6] [] rfl rfl (by decide) (by decide) (by decide) (mX0_rows l D dA dL h0 hr ho hz hn hh hw _ nr nc nn row col srt hv rw (by omega)) (cwV 0 hts (lw_V q89 q90 q91 q4 q92) rfl rfl rfl (by decide +kernel) (by subst hR; exact ⟨Nat.le_of_ble_eq_true rfl, Nat.le_of_ble_eq_true rfl⟩)) (q0 := 0) (ci := 0) rfl rfl rfl rfl hl.1 rfl (Nat.le_of_ble_eq_true rfl) dX0_any_1 (by subst hR; exact ⟨Nat.le_refl _, Nat.le_refl _⟩) (fun r _ H locs hw1 hP hD hS => ?_)
  subst hw1
  have hP : va_P D vwCl [(h0, .inr (0, [.ref hr, .ref ho, .ref hz, .ref hn, .int (nI nr), .int (nI nc)])), (hr, .inl (dA, 5, .inl (md_iA row))), (ho, .inl (dA, 5, .inl (md_iA col))), (hz, .inl (dA, 5, .inl (md_iA srt))), (hn, .inr (1, [.ref hh, .ref hw, .int (nI nn)])), (hh, .inl (dA, 36, .inl (md_iA hv))), (hw, .inl (dA, 5, .inl (md_iA rw)))] H := hP
  have hD : va_D A [(h0, .inr (0, [.ref hr, .ref ho, .ref hz, .ref hn, .int (nI nr), .int (nI nc)])), (hr, .inl (dA, 5, .inl (md_iA row))), (ho, .inl (dA, 5, .inl (md_iA col))), (hz, .inl (dA, 5, .inl (md_iA srt))), (hn, .inr (1, [.ref hh, .ref hw, .int (nI nn)])), (hh, .inl (dA, 36, .inl (md_iA hv))), (hw, .inl (dA, 5, .inl (md_iA rw)))] := hD
  refine lv_aload_n hx hb dX0_any_4 rfl (lv_at hl 0 rfl) ?_
  refine md_cVi (wr := []) hx hb hml hown hts hK hP hD hS hA [0, 1, 2, 3, 4, 5, 6] [] rfl rfl (by decide) (by decide) (by decide) (mX0_columns l D dA dL h0 hr ho hz hn hh hw _ nr nc nn row col srt hv rw (by omega)) (cwV 0 hts (lw_V q96 q97 q98 q4 q99) rfl rfl rfl (by decide +kernel) (by subst hR; exact ⟨Nat.le_of_ble_eq_true rfl, Nat.le_of_ble_eq_true rfl⟩)) (q0 := 0) (ci := 0) rfl rfl rfl rfl hl.1 rfl (Nat.le_of_ble_eq_true rfl) dX0_any_5 (by subst hR; exact ⟨Nat.le_refl _, Nat.le_refl _⟩) (fun r _ H locs hw1 hP hD hS => ?_)
  subst hw1
  have hP : va_P D vwCl [(h0, .inr (0, [.ref hr, .ref ho, .ref hz, .ref hn, .int (nI nr), .int (nI nc)])), (hr, .inl (dA, 5, .inl (md_iA row))), (ho, .inl (dA, 5, .inl (md_iA col))), (hz, .inl (dA, 5, .inl (md_iA srt))), (hn, .inr (1, [.ref hh, .ref hw, .int (nI nn)])), (hh, .inl (dA, 36, .inl (md_iA hv))), (hw, .inl (dA, 5, .inl (md_iA rw)))] H := hP
  have hD : va_D A [(h0, .inr (0, [.ref hr, .ref ho, .ref hz, .ref hn, .int (nI nr), .int (nI nc)])), (hr, .inl (dA, 5, .inl (md_iA row))), (ho, .inl (dA, 5, .inl (md_iA col))), (hz, .inl (dA, 5, .inl (md_iA srt))), (hn, .inr (1, [.ref hh, .ref hw, .int (nI nn)])), (hh, .inl (dA, 36, .inl (md_iA hv))), (hw, .inl (dA, 5, .inl (md_iA rw)))] := hD
  refine nv_eq (tgt := 13) hx hb (by omega) (by omega) dX0_any_8 (by decide) (fun hc1 => ?_) (fun hc1 => ?_)
  · obtain ⟨G, eG⟩ : ∃ G, G = md_sort row nr srt := ⟨_, rfl⟩
    have loopD : (∀ j, j < nc → col j ≤ nr) → (∀ i, i < 5 → G i ≤ 5) → ∀ (dd k : Nat) (H : Heap) (locs : List Loc) (ls : Array Slot), k + dd = nr → (∀ i, i < k → md_sum G (i + 1) ≤ md_sum (fun j => min (col j) (i + 1)) nc) → va_P D vwCl [(h0, .inr (0, [.ref hr, .ref ho, .ref hz, .ref hn, .int (nI nr), .int (nI nc)])), (hr, .inl (dA, 5, .inl (md_iA row))), (ho, .inl (dA, 5, .inl (md_iA col))), (hz, .inl (dA, 5, .inl (md_iA G))), (hn, .inr (1, [.ref hh, .ref hw, .int (nI nn)])), (hh, .inl (dA, 36, .inl (md_iA hv))), (hw, .inl (dA, 5, .inl (md_iA rw)))] H → va_D A [(h0, .inr (0, [.ref hr, .ref ho, .ref hz, .ref hn, .int (nI nr), .int (nI nc)])), (hr, .inl (dA, 5, .inl (md_iA row))), (ho, .inl (dA, 5, .inl (md_iA col))), (hz, .inl (dA, 5, .inl (md_iA G))), (hn, .inr (1, [.ref hh, .ref hw, .int (nI nn)])), (hh, .inl (dA, 36, .inl (md_iA hv))), (hw, .inl (dA, 5, .inl (md_iA rw)))] → va_S A s.heap H locs → lv_has ls 5 [(0, .ref h0), (1, .int (nI (md_sum G k))), (2, .int (nI (k + 1)))] → W p l e R s m args below meth c H locs 0 0 Q (F0 m 119 ls []) := by
      intro hc2 hf5 dd
      induction dd with
      | zero =>
        intro k H locs ls hk hc3 hP hD hS hl
        have hk : k = nr := by omega
        refine lv_iload_n hx hb dX0_any_119 rfl (lv_at hl 2 rfl) ?_
        refine lv_aload_n hx hb dX0_any_120 rfl (lv_at hl 0 rfl) ?_
        refine va_get (D := D) (ci := 0) (v := .int (nI nr)) (C := RX0) (T := TX0) (N := 6) hx hb hts in_X0 hown hK hP 0 rfl rfl 4 (by decide) (hts _ q37) (fun _ h9 => h9) rfl dX0_any_121 ?_
        refine nv_gt (tgt := 185) hx hb (by omega) (by omega) dX0_any_124 (by decide) (fun hc => ?_) (fun hc => ?_)
        · refine lv_iconst (v := nI 1) hx hb dX0_any_185 (by decide) ?_
          exact hret _ _ _ _ _ G dX0_any_186 rfl ⟨fun _ => rfl, fun hG => absurd ⟨hc1, hc2, fun i hi => by rw [← eG]; exact hc3 i (by omega)⟩ hG, hf5⟩ hP hD hS
        · exact absurd hc (by omega)
      | succ dd ih =>
        intro k H locs ls hk hc3 hP hD hS hl
        refine lv_iload_n hx hb dX0_any_119 rfl (lv_at hl 2 rfl) ?_
        refine lv_aload_n hx hb dX0_any_120 rfl (lv_at hl 0 rfl) ?_
        refine va_get (D := D) (ci := 0) (v := .int (nI nr)) (C := RX0) (T := TX0) (N := 6) hx hb hts in_X0 hown hK hP 0 rfl rfl 4 (by decide) (hts _ q37) (fun _ h9 => h9) rfl dX0_any_121 ?_
        refine nv_gt (tgt := 185) hx hb (by omega) (by omega) dX0_any_124 (by decide) (fun hc => ?_) (fun hc => ?_)
        · exact absurd hc (by omega)
        · have hsg : md_sum G (k + 1) ≤ (k + 1) * 5 := md_sum_le (fun i hi => hf5 i (by omega))
          refine lv_iload_n hx hb dX0_any_127 rfl (lv_at hl 1 rfl) ?_
          refine lv_aload_n hx hb dX0_any_128 rfl (lv_at hl 0 rfl) ?_
          refine va_get (D := D) (ci := 0) (v := .ref hz) (C := RX0) (T := TX0) (N := 6) hx hb hts in_X0 hown hK hP 0 rfl rfl 2 (by decide) (hts _ q35) (fun _ h9 => h9) rfl dX0_any_129 ?_
          refine lv_iload_n hx hb dX0_any_132 rfl (lv_at hl 2 rfl) ?_
          refine lv_iconst (v := nI 1) hx hb dX0_any_133 (by decide) ?_
          refine nv_sub hx hb (by omega) dX0_any_134 ?_
          refine nv_i (y := nI k) (by rw [Nat.add_sub_cancel]) ?_
          refine nv_iald hx hb hK hP 3 0 rfl rfl (by omega) (by decide) dX0_any_135 ?_
          refine nv_add hx hb dX0_any_136 ?_
          refine nv_i (y := nI (md_sum G (k + 1))) rfl ?_
          have loopE : ∀ (d2 q : Nat) (ls : Array Slot), q + d2 = nc → lv_has ls 5 [(0, .ref h0), (1, .int (nI (md_sum G (k + 1)))), (2, .int (nI (k + 1))), (3, .int (nI (md_sum (fun j => min (col j) (k + 1)) q))), (4, .int (nI q))] → W p l e R s m args below meth c H locs 0 0 Q (F0 m 143 ls []) := by
            intro d2
            induction d2 with
            | zero =>
              intro q ls hq hl
              have hq : q = nc := by omega
              subst hq
              have hsm : md_sum (fun j => min (col j) (k + 1)) q ≤ q * 5 := md_sum_le (fun i hi => Nat.le_trans (Nat.min_le_left _ _) (hcol i (by omega)))
              refine lv_iload hx hb dX0_any_143 (lv_at hl 4 rfl) ?_
              refine lv_aload_n hx hb dX0_any_145 rfl (lv_at hl 0 rfl) ?_
              refine va_get (D := D) (ci := 0) (v := .int (nI q)) (C := RX0) (T := TX0) (N := 6) hx hb hts in_X0 hown hK hP 0 rfl rfl 5 (by decide) (hts _ q38) (fun _ h9 => h9) rfl dX0_any_146 ?_
              refine nv_ge (tgt := 172) hx hb (by omega) (by omega) dX0_any_149 (by decide) (fun hc => ?_) (fun hc => ?_)
              · refine lv_iload_n hx hb dX0_any_172 rfl (lv_at hl 1 rfl) ?_
                refine lv_iload_n hx hb dX0_any_173 rfl (lv_at hl 3 rfl) ?_
                refine nv_le (tgt := 179) hx hb (by omega) (by omega) dX0_any_174 (by decide) (fun hc => ?_) (fun hc => ?_)
                · refine lv_iinc (v := (nI (k + 1 + 1))) (lv' := [(2, .int (nI (k + 1 + 1))), (0, .ref h0), (1, .int (nI (md_sum G (k + 1)))), (3, .int (nI (md_sum (fun j => min (col j) (k + 1)) q))), (4, .int (nI q))]) hx hb dX0_any_179 hl (k := 2) rfl (nv_inc1 _) (by decide) rfl (fun ls hl => ?_)
                  refine lv_goto (tgt := 119) hx hb dX0_any_182 (by decide) ?_
                  refine ih (k + 1) _ _ ls (by omega) (fun i hi => ?_) hP hD hS (lv_sub hl [1, 2, 0] rfl)
                  by_cases e1 : i = k
                  · subst e1; exact hc
                  · exact hc3 i (by omega)
                · refine lv_iconst (v := nI 0) hx hb dX0_any_177 (by decide) ?_
                  exact hret _ _ _ _ _ G dX0_any_178 rfl ⟨fun hG => absurd hG (fun hG => by have := hG.2.2 k (by omega); rw [← eG] at this; omega), fun _ => rfl, hf5⟩ hP hD hS
              · exact absurd hc (by omega)
            | succ d2 ih2 =>
              intro q ls hq hl
              refine lv_iload hx hb dX0_any_143 (lv_at hl 4 rfl) ?_
              refine lv_aload_n hx hb dX0_any_145 rfl (lv_at hl 0 rfl) ?_
              refine va_get (D := D) (ci := 0) (v := .int (nI nc)) (C := RX0) (T := TX0) (N := 6) hx hb hts in_X0 hown hK hP 0 rfl rfl 5 (by decide) (hts _ q38) (fun _ h9 => h9) rfl dX0_any_146 ?_
              refine nv_ge (tgt := 172) hx hb (by omega) (by omega) dX0_any_149 (by decide) (fun hc => ?_) (fun hc => ?_)
              · exact absurd hc (by omega)
              · have hcq := hcol q (by omega)
                refine lv_iload_n hx hb dX0_any_152 rfl (lv_at hl 3 rfl) ?_
                refine lv_aload_n hx hb dX0_any_153 rfl (lv_at hl 0 rfl) ?_
                refine va_get (D := D) (ci := 0) (v := .ref ho) (C := RX0) (T := TX0) (N := 6) hx hb hts in_X0 hown hK hP 0 rfl rfl 1 (by decide) (hts _ q34) (fun _ h9 => h9) rfl dX0_any_154 ?_
                refine lv_iload hx hb dX0_any_157 (lv_at hl 4 rfl) ?_
                refine nv_iald hx hb hK hP 2 0 rfl rfl (by omega) (by decide) dX0_any_159 ?_
                refine lv_iload_n hx hb dX0_any_160 rfl (lv_at hl 2 rfl) ?_
                refine va_mmin hx hb (by rw [hml]; exact hl.1.symm) hown (hts _ q100) (hts _ q101) (hts _ q7) (hts _ q102) (by subst hR; exact Nat.le_of_ble_eq_true rfl) (by subst hR; exact Nat.le_of_ble_eq_true rfl) (by subst hR; exact Nat.le_refl _) (by subst hR; exact Nat.le_refl _) dX0_any_161 ?_
                refine nv_i (y := nI (min (col q) (k + 1))) ?_ ?_
                · by_cases h9 : k + 1 < col q
                  · rw [if_pos ((nI_ltI (by omega) (by omega)).mpr h9), Nat.min_eq_right (by omega)]
                  · rw [if_neg (fun z => h9 ((nI_ltI (by omega) (by omega)).mp z)), Nat.min_eq_left (by omega)]
                refine nv_add hx hb dX0_any_164 ?_
                refine nv_i (y := nI (md_sum (fun j => min (col j) (k + 1)) (q + 1))) rfl ?_
                refine lv_istore_n (lv' := [(3, .int (nI (md_sum (fun j => min (col j) (k + 1)) (q + 1)))), (0, .ref h0), (1, .int (nI (md_sum G (k + 1)))), (2, .int (nI (k + 1))), (4, .int (nI q))]) hx hb dX0_any_165 rfl hl (by decide) rfl (fun ls hl => ?_)
                refine lv_iinc (v := (nI (q + 1))) (lv' := [(4, .int (nI (q + 1))), (3, .int (nI (md_sum (fun j => min (col j) (k + 1)) (q + 1)))), (0, .ref h0), (1, .int (nI (md_sum G (k + 1)))), (2, .int (nI (k + 1)))]) hx hb dX0_any_166 hl (k := 4) rfl (nv_inc1 _) (by decide) rfl (fun ls hl => ?_)
                refine lv_goto (tgt := 143) hx hb dX0_any_169 (by decide) ?_
                exact ih2 (q + 1) ls (by omega) (lv_sub hl [2, 3, 4, 1, 0] rfl)
          refine lv_istore_n (lv' := [(1, .int (nI (md_sum G (k + 1)))), (0, .ref h0), (2, .int (nI (k + 1)))]) hx hb dX0_any_137 rfl hl (by decide) rfl (fun ls hl => ?_)
          refine lv_iconst (v := nI 0) hx hb dX0_any_138 (by decide) ?_
          refine lv_istore_n (lv' := [(3, .int (nI 0)), (1, .int (nI (md_sum G (k + 1)))), (0, .ref h0), (2, .int (nI (k + 1)))]) hx hb dX0_any_139 rfl hl (by decide) rfl (fun ls hl => ?_)
          refine lv_iconst (v := nI 0) hx hb dX0_any_140 (by decide) ?_
          refine lv_istore (lv' := [(4, .int (nI 0)), (3, .int (nI 0)), (1, .int (nI (md_sum G (k + 1)))), (0, .ref h0), (2, .int (nI (k + 1)))]) hx hb dX0_any_141 hl (by decide) rfl (fun ls hl => ?_)
          exact loopE nc 0 ls (by omega) (lv_sub hl [3, 2, 4, 1, 0] rfl)
    have loopB : (∀ j, j < nc → col j ≤ nr) → ∀ (dd i : Nat) (f : Nat → Nat) (H : Heap) (locs : List Loc) (ls : Array Slot), i + dd = nr → f = md_sort row i srt → (∀ j, j < 5 → f j ≤ 5) → va_P D vwCl [(h0, .inr (0, [.ref hr, .ref ho, .ref hz, .ref hn, .int (nI nr), .int (nI nc)])), (hr, .inl (dA, 5, .inl (md_iA row))), (ho, .inl (dA, 5, .inl (md_iA col))), (hz, .inl (dA, 5, .inl (md_iA f))), (hn, .inr (1, [.ref hh, .ref hw, .int (nI nn)])), (hh, .inl (dA, 36, .inl (md_iA hv))), (hw, .inl (dA, 5, .inl (md_iA rw)))] H → va_D A [(h0, .inr (0, [.ref hr, .ref ho, .ref hz, .ref hn, .int (nI nr), .int (nI nc)])), (hr, .inl (dA, 5, .inl (md_iA row))), (ho, .inl (dA, 5, .inl (md_iA col))), (hz, .inl (dA, 5, .inl (md_iA f))), (hn, .inr (1, [.ref hh, .ref hw, .int (nI nn)])), (hh, .inl (dA, 36, .inl (md_iA hv))), (hw, .inl (dA, 5, .inl (md_iA rw)))] → va_S A s.heap H locs → lv_has ls 5 [(0, .ref h0), (1, .int (nI i))] → W p l e R s m args below meth c H locs 0 0 Q (F0 m 46 ls []) := by
      intro hc2 dd
      induction dd with
      | zero =>
        intro i f H locs ls hi ef hf5 hP hD hS hl
        have hi : i = nr := by omega
        subst hi
        rw [← eG] at ef
        subst ef
        refine lv_iload_n hx hb dX0_any_46 rfl (lv_at hl 1 rfl) ?_
        refine lv_aload_n hx hb dX0_any_47 rfl (lv_at hl 0 rfl) ?_
        refine va_get (D := D) (ci := 0) (v := .int (nI i)) (C := RX0) (T := TX0) (N := 6) hx hb hts in_X0 hown hK hP 0 rfl rfl 4 (by decide) (hts _ q37) (fun _ h9 => h9) rfl dX0_any_48 ?_
        refine nv_ge (tgt := 115) hx hb (by omega) (by omega) dX0_any_51 (by decide) (fun hc => ?_) (fun hc => ?_)
        · refine lv_iconst (v := nI 0) hx hb dX0_any_115 (by decide) ?_
          refine lv_istore_n (lv' := [(1, .int (nI 0)), (0, .ref h0)]) hx hb dX0_any_116 rfl hl (by decide) rfl (fun ls hl => ?_)
          refine lv_iconst (v := nI 1) hx hb dX0_any_117 (by decide) ?_
          refine lv_istore_n (lv' := [(2, .int (nI 1)), (1, .int (nI 0)), (0, .ref h0)]) hx hb dX0_any_118 rfl hl (by decide) rfl (fun ls hl => ?_)
          exact loopD hc2 hf5 i 0 _ _ ls (by omega) (fun _ h => by omega) hP hD hS (lv_sub hl [2, 1, 0] rfl)
        · exact absurd hc (by omega)
      | succ dd ih =>
        intro i f H locs ls hi ef hf5 hP hD hS hl
        refine lv_iload_n hx hb dX0_any_46 rfl (lv_at hl 1 rfl) ?_
        refine lv_aload_n hx hb dX0_any_47 rfl (lv_at hl 0 rfl) ?_
        refine va_get (D := D) (ci := 0) (v := .int (nI nr)) (C := RX0) (T := TX0) (N := 6) hx hb hts in_X0 hown hK hP 0 rfl rfl 4 (by decide) (hts _ q37) (fun _ h9 => h9) rfl dX0_any_48 ?_
        refine nv_ge (tgt := 115) hx hb (by omega) (by omega) dX0_any_51 (by decide) (fun hc => ?_) (fun hc => ?_)
        · exact absurd hc (by omega)
        · have hri := hrow i (by omega)
          obtain ⟨f0, ef0⟩ : ∃ z, z = md_sort row (i + 1) srt := ⟨_, rfl⟩
          have ef1 : md_shift (row i) i f = f0 := by rw [ef0, ef]; rfl
          have put : ∀ (k : Nat) (g : Nat → Nat) (H : Heap) (locs : List Loc) (ls : Array Slot), k ≤ i → md_up g k (row i) = f0 → (∀ j, j < 5 → g j ≤ 5) → va_P D vwCl [(h0, .inr (0, [.ref hr, .ref ho, .ref hz, .ref hn, .int (nI nr), .int (nI nc)])), (hr, .inl (dA, 5, .inl (md_iA row))), (ho, .inl (dA, 5, .inl (md_iA col))), (hz, .inl (dA, 5, .inl (md_iA g))), (hn, .inr (1, [.ref hh, .ref hw, .int (nI nn)])), (hh, .inl (dA, 36, .inl (md_iA hv))), (hw, .inl (dA, 5, .inl (md_iA rw)))] H → va_D A [(h0, .inr (0, [.ref hr, .ref ho, .ref hz, .ref hn, .int (nI nr), .int (nI nc)])), (hr, .inl (dA, 5, .inl (md_iA row))), (ho, .inl (dA, 5, .inl (md_iA col))), (hz, .inl (dA, 5, .inl (md_iA g))), (hn, .inr (1, [.ref hh, .ref hw, .int (nI nn)])), (hh, .inl (dA, 36, .inl (md_iA hv))), (hw, .inl (dA, 5, .inl (md_iA rw)))] → va_S A s.heap H locs → lv_has ls 5 [(0, .ref h0), (1, .int (nI i)), (2, .int (nI k))] → W p l e R s m args below meth c H locs 0 0 Q (F0 m 97 ls []) := by
            intro k g H locs ls hki hg hg5 hP hD hS hl
            refine lv_aload_n hx hb dX0_any_97 rfl (lv_at hl 0 rfl) ?_
            refine va_get (D := D) (ci := 0) (v := .ref hz) (C := RX0) (T := TX0) (N := 6) hx hb hts in_X0 hown hK hP 0 rfl rfl 2 (by decide) (hts _ q35) (fun _ h9 => h9) rfl dX0_any_98 ?_
            refine lv_iload_n hx hb dX0_any_101 rfl (lv_at hl 2 rfl) ?_
            refine lv_aload_n hx hb dX0_any_102 rfl (lv_at hl 0 rfl) ?_
            refine va_get (D := D) (ci := 0) (v := .ref hr) (C := RX0) (T := TX0) (N := 6) hx hb hts in_X0 hown hK hP 0 rfl rfl 0 (by decide) (hts _ q33) (fun _ h9 => h9) rfl dX0_any_103 ?_
            refine lv_iload_n hx hb dX0_any_106 rfl (lv_at hl 1 rfl) ?_
            refine nv_iald hx hb hK hP 1 0 rfl rfl (by omega) (by decide) dX0_any_107 ?_
            refine nv_iast hx hb hK hP hD hS 3 0 rfl rfl (by omega) (by decide) dX0_any_108 (fun H locs hP hD hS => ?_)
            have hP : va_P D vwCl [(h0, .inr (0, [.ref hr, .ref ho, .ref hz, .ref hn, .int (nI nr), .int (nI nc)])), (hr, .inl (dA, 5, .inl (md_iA row))), (ho, .inl (dA, 5, .inl (md_iA col))), (hz, .inl (dA, 5, .inl (md_iA (md_up g k (row i))))), (hn, .inr (1, [.ref hh, .ref hw, .int (nI nn)])), (hh, .inl (dA, 36, .inl (md_iA hv))), (hw, .inl (dA, 5, .inl (md_iA rw)))] H := hP
            have hD : va_D A [(h0, .inr (0, [.ref hr, .ref ho, .ref hz, .ref hn, .int (nI nr), .int (nI nc)])), (hr, .inl (dA, 5, .inl (md_iA row))), (ho, .inl (dA, 5, .inl (md_iA col))), (hz, .inl (dA, 5, .inl (md_iA (md_up g k (row i))))), (hn, .inr (1, [.ref hh, .ref hw, .int (nI nn)])), (hh, .inl (dA, 36, .inl (md_iA hv))), (hw, .inl (dA, 5, .inl (md_iA rw)))] := hD
            refine lv_iinc (v := (nI (i + 1))) (lv' := [(1, .int (nI (i + 1))), (0, .ref h0), (2, .int (nI k))]) hx hb dX0_any_109 hl (k := 1) rfl (nv_inc1 _) (by decide) rfl (fun ls hl => ?_)
            refine lv_goto (tgt := 46) hx hb dX0_any_112 (by decide) ?_
            refine ih (i + 1) _ _ _ ls (by omega) (by rw [hg, ef0]) (fun j hj => ?_) hP hD hS (lv_sub hl [1, 0] rfl)
            by_cases e1 : j = k
            · subst e1; rw [md_up_s]; exact hri
            · rw [md_up_n e1]; exact hg5 j hj
          have loopC : ∀ (k : Nat) (g : Nat → Nat) (H : Heap) (locs : List Loc) (ls : Array Slot), k ≤ i → md_shift (row i) k g = f0 → (∀ j, j < 5 → g j ≤ 5) → va_P D vwCl [(h0, .inr (0, [.ref hr, .ref ho, .ref hz, .ref hn, .int (nI nr), .int (nI nc)])), (hr, .inl (dA, 5, .inl (md_iA row))), (ho, .inl (dA, 5, .inl (md_iA col))), (hz, .inl (dA, 5, .inl (md_iA g))), (hn, .inr (1, [.ref hh, .ref hw, .int (nI nn)])), (hh, .inl (dA, 36, .inl (md_iA hv))), (hw, .inl (dA, 5, .inl (md_iA rw)))] H → va_D A [(h0, .inr (0, [.ref hr, .ref ho, .ref hz, .ref hn, .int (nI nr), .int (nI nc)])), (hr, .inl (dA, 5, .inl (md_iA row))), (ho, .inl (dA, 5, .inl (md_iA col))), (hz, .inl (dA, 5, .inl (md_iA g))), (hn, .inr (1, [.ref hh, .ref hw, .int (nI nn)])), (hh, .inl (dA, 36, .inl (md_iA hv))), (hw, .inl (dA, 5, .inl (md_iA rw)))] → va_S A s.heap H locs → lv_has ls 5 [(0, .ref h0), (1, .int (nI i)), (2, .int (nI k))] → W p l e R s m args below meth c H locs 0 0 Q (F0 m 56 ls []) := by
            intro k
            induction k with
            | zero =>
              intro g H locs ls hki hg hg5 hP hD hS hl
              refine lv_iload_n hx hb dX0_any_56 rfl (lv_at hl 2 rfl) ?_
              refine nv_ifle (tgt := 97) hx hb (by omega) dX0_any_57 (by decide) (fun hc => ?_) (fun hc => ?_)
              · exact put 0 g H locs ls hki hg hg5 hP hD hS hl
              · exact absurd hc (by omega)
            | succ k ih3 =>
              intro g H locs ls hki hg hg5 hP hD hS hl
              refine lv_iload_n hx hb dX0_any_56 rfl (lv_at hl 2 rfl) ?_
              refine nv_ifle (tgt := 97) hx hb (by omega) dX0_any_57 (by decide) (fun hc => ?_) (fun hc => ?_)
              · exact absurd hc (by omega)
              · have hgk := hg5 k (by omega)
                refine lv_aload_n hx hb dX0_any_60 rfl (lv_at hl 0 rfl) ?_
                refine va_get (D := D) (ci := 0) (v := .ref hz) (C := RX0) (T := TX0) (N := 6) hx hb hts in_X0 hown hK hP 0 rfl rfl 2 (by decide) (hts _ q35) (fun _ h9 => h9) rfl dX0_any_61 ?_
                refine lv_iload_n hx hb dX0_any_64 rfl (lv_at hl 2 rfl) ?_
                refine lv_iconst (v := nI 1) hx hb dX0_any_65 (by decide) ?_
                refine nv_sub hx hb (by omega) dX0_any_66 ?_
                refine nv_i (y := nI k) (by rw [Nat.add_sub_cancel]) ?_
                refine nv_iald hx hb hK hP 3 0 rfl rfl (by omega) (by decide) dX0_any_67 ?_
                refine lv_aload_n hx hb dX0_any_68 rfl (lv_at hl 0 rfl) ?_
                refine va_get (D := D) (ci := 0) (v := .ref hr) (C := RX0) (T := TX0) (N := 6) hx hb hts in_X0 hown hK hP 0 rfl rfl 0 (by decide) (hts _ q33) (fun _ h9 => h9) rfl dX0_any_69 ?_
                refine lv_iload_n hx hb dX0_any_72 rfl (lv_at hl 1 rfl) ?_
                refine nv_iald hx hb hK hP 1 0 rfl rfl (by omega) (by decide) dX0_any_73 ?_
                refine nv_ge (tgt := 97) hx hb (by omega) (by omega) dX0_any_74 (by decide) (fun hc5 => ?_) (fun hc5 => ?_)
                · exact put (k + 1) g H locs ls hki (by rw [← hg]; exact (if_neg (by omega)).symm) hg5 hP hD hS hl
                · refine lv_aload_n hx hb dX0_any_77 rfl (lv_at hl 0 rfl) ?_
                  refine va_get (D := D) (ci := 0) (v := .ref hz) (C := RX0) (T := TX0) (N := 6) hx hb hts in_X0 hown hK hP 0 rfl rfl 2 (by decide) (hts _ q35) (fun _ h9 => h9) rfl dX0_any_78 ?_
                  refine lv_iload_n hx hb dX0_any_81 rfl (lv_at hl 2 rfl) ?_
                  refine lv_aload_n hx hb dX0_any_82 rfl (lv_at hl 0 rfl) ?_
                  refine va_get (D := D) (ci := 0) (v := .ref hz) (C := RX0) (T := TX0) (N := 6) hx hb hts in_X0 hown hK hP 0 rfl rfl 2 (by decide) (hts _ q35) (fun _ h9 => h9) rfl dX0_any_83 ?_
                  refine lv_iload_n hx hb dX0_any_86 rfl (lv_at hl 2 rfl) ?_
                  refine lv_iconst (v := nI 1) hx hb dX0_any_87 (by decide) ?_
                  refine nv_sub hx hb (by omega) dX0_any_88 ?_
                  refine nv_i (y := nI k) (by rw [Nat.add_sub_cancel]) ?_
                  refine nv_iald hx hb hK hP 3 0 rfl rfl (by omega) (by decide) dX0_any_89 ?_
                  refine nv_iast hx hb hK hP hD hS 3 0 rfl rfl (by omega) (by decide) dX0_any_90 (fun H locs hP hD hS => ?_)
                  have hP : va_P D vwCl [(h0, .inr (0, [.ref hr, .ref ho, .ref hz, .ref hn, .int (nI nr), .int (nI nc)])), (hr, .inl (dA, 5, .inl (md_iA row))), (ho, .inl (dA, 5, .inl (md_iA col))), (hz, .inl (dA, 5, .inl (md_iA (md_up g (k + 1) (g k))))), (hn, .inr (1, [.ref hh, .ref hw, .int (nI nn)])), (hh, .inl (dA, 36, .inl (md_iA hv))), (hw, .inl (dA, 5, .inl (md_iA rw)))] H := hP
                  have hD : va_D A [(h0, .inr (0, [.ref hr, .ref ho, .ref hz, .ref hn, .int (nI nr), .int (nI nc)])), (hr, .inl (dA, 5, .inl (md_iA row))), (ho, .inl (dA, 5, .inl (md_iA col))), (hz, .inl (dA, 5, .inl (md_iA (md_up g (k + 1) (g k))))), (hn, .inr (1, [.ref hh, .ref hw, .int (nI nn)])), (hh, .inl (dA, 36, .inl (md_iA hv))), (hw, .inl (dA, 5, .inl (md_iA rw)))] := hD
                  refine lv_iinc (v := (nI k)) (lv' := [(2, .int (nI k)), (0, .ref h0), (1, .int (nI i))]) hx hb dX0_any_91 hl (k := 2) rfl (nv_dec1 _) (by decide) rfl (fun ls hl => ?_)
                  refine lv_goto (tgt := 56) hx hb dX0_any_94 (by decide) ?_
                  refine ih3 _ _ _ ls (by omega) (by rw [← hg]; exact (if_pos hc5).symm) (fun j hj => ?_) hP hD hS (lv_sub hl [1, 2, 0] rfl)
                  by_cases e1 : j = k + 1
                  · subst e1; rw [md_up_s]; exact hgk
                  · rw [md_up_n e1]; exact hg5 j hj
          refine lv_iload_n hx hb dX0_any_54 rfl (lv_at hl 1 rfl) ?_
          refine lv_istore_n (lv' := [(2, .int (nI i)), (0, .ref h0), (1, .int (nI i))]) hx hb dX0_any_55 rfl hl (by decide) rfl (fun ls hl => ?_)
          exact loopC i f _ _ ls (Nat.le_refl _) ef1 hf5 hP hD hS (lv_sub hl [1, 2, 0] rfl)
    have loopA : ∀ (dd q : Nat) (ls : Array Slot), q + dd = nc → (∀ j, j < q → col j ≤ nr) → lv_has ls 5 [(0, .ref h0), (1, .int (nI q))] → W p l e R s m args below meth c H locs 0 0 Q (F0 m 15 ls []) := by
      intro dd
      induction dd with
      | zero =>
        intro q ls hq hc2 hl
        have hq : q = nc := by omega
        subst hq
        refine lv_iload_n hx hb dX0_any_15 rfl (lv_at hl 1 rfl) ?_
        refine lv_aload_n hx hb dX0_any_16 rfl (lv_at hl 0 rfl) ?_
        refine va_get (D := D) (ci := 0) (v := .int (nI q)) (C := RX0) (T := TX0) (N := 6) hx hb hts in_X0 hown hK hP 0 rfl rfl 5 (by decide) (hts _ q38) (fun _ h9 => h9) rfl dX0_any_17 ?_
        refine nv_ge (tgt := 44) hx hb (by omega) (by omega) dX0_any_20 (by decide) (fun hc => ?_) (fun hc => ?_)
        · refine lv_iconst (v := nI 0) hx hb dX0_any_44 (by decide) ?_
          refine lv_istore_n (lv' := [(1, .int (nI 0)), (0, .ref h0)]) hx hb dX0_any_45 rfl hl (by decide) rfl (fun ls hl => ?_)
          exact loopB hc2 nr 0 srt _ _ ls (by omega) rfl hf5 hP hD hS (lv_sub hl [1, 0] rfl)
        · exact absurd hc (by omega)
      | succ dd ih =>
        intro q ls hq hc2 hl
        refine lv_iload_n hx hb dX0_any_15 rfl (lv_at hl 1 rfl) ?_
        refine lv_aload_n hx hb dX0_any_16 rfl (lv_at hl 0 rfl) ?_
        refine va_get (D := D) (ci := 0) (v := .int (nI nc)) (C := RX0) (T := TX0) (N := 6) hx hb hts in_X0 hown hK hP 0 rfl rfl 5 (by decide) (hts _ q38) (fun _ h9 => h9) rfl dX0_any_17 ?_
        refine nv_ge (tgt := 44) hx hb (by omega) (by omega) dX0_any_20 (by decide) (fun hc => ?_) (fun hc => ?_)
        · exact absurd hc (by omega)
        · have hcq := hcol q (by omega)
          refine lv_aload_n hx hb dX0_any_23 rfl (lv_at hl 0 rfl) ?_
          refine va_get (D := D) (ci := 0) (v := .ref ho) (C := RX0) (T := TX0) (N := 6) hx hb hts in_X0 hown hK hP 0 rfl rfl 1 (by decide) (hts _ q34) (fun _ h9 => h9) rfl dX0_any_24 ?_
          refine lv_iload_n hx hb dX0_any_27 rfl (lv_at hl 1 rfl) ?_
          refine nv_iald hx hb hK hP 2 0 rfl rfl (by omega) (by decide) dX0_any_28 ?_
          refine lv_aload_n hx hb dX0_any_29 rfl (lv_at hl 0 rfl) ?_
          refine va_get (D := D) (ci := 0) (v := .int (nI nr)) (C := RX0) (T := TX0) (N := 6) hx hb hts in_X0 hown hK hP 0 rfl rfl 4 (by decide) (hts _ q37) (fun _ h9 => h9) rfl dX0_any_30 ?_
          refine nv_le (tgt := 38) hx hb (by omega) (by omega) dX0_any_33 (by decide) (fun hc4 => ?_) (fun hc4 => ?_)
          · refine lv_iinc (v := (nI (q + 1))) (lv' := [(1, .int (nI (q + 1))), (0, .ref h0)]) hx hb dX0_any_38 hl (k := 1) rfl (nv_inc1 _) (by decide) rfl (fun ls hl => ?_)
            refine lv_goto (tgt := 15) hx hb dX0_any_41 (by decide) ?_
            refine ih (q + 1) ls (by omega) (fun j hj => ?_) (lv_sub hl [1, 0] rfl)
            by_cases e1 : j = q
            · subst e1; exact hc4
            · exact hc2 j (by omega)
          · refine lv_iconst (v := nI 0) hx hb dX0_any_36 (by decide) ?_
            exact hret _ _ _ _ _ srt dX0_any_37 rfl ⟨fun hG => absurd hG (fun hG => by have := hG.2.1 q (by omega); omega), fun _ => rfl, hf5⟩ hP hD hS
    refine lv_iconst (v := nI 0) hx hb dX0_any_13 (by decide) ?_
    refine lv_istore_n (lv' := [(1, .int (nI 0)), (0, .ref h0)]) hx hb dX0_any_14 rfl hl (by decide) rfl (fun ls hl => ?_)
    exact loopA nc 0 ls (by omega) (fun j h => by omega) (lv_sub hl [1, 0] rfl)
  · refine lv_iconst (v := nI 0) hx hb dX0_any_11 (by decide) ?_
    exact hret _ _ _ _ _ srt dX0_any_12 rfl ⟨fun hG => absurd hG (fun hG => hc1 hG.1), fun _ => rfl, hf5⟩ hP hD hS
set_option maxHeartbeats 4000000 in
set_option maxRecDepth 100000 in
/-- MarginDesk(): six cells come -/
theorem mX0_init (l : Launch) (D : va_G) (dA dL : ClassId) (h0 sz : Nat) : Met l yX0_init (ws_ yX0_init cX0_init 1 none) ({ frames := 2, cells := 6, slots := 59, locals := 32 }) (va_Pc [.ref h0] (fun U => va_Nw (.methodLinkNest "MarginDesk" 21 yX1_init "MarginDesk") U ∧ mdPre D dA dL [(h0, .inr (0, [.null, .null, .null, .null, .int (nI 0), .int (nI 0)]))] sz U))
    (va_Qv (fun (_ : Nat × Nat × Nat × Nat × Nat × Nat) => True) (fun u t => mdB D dA dL (va_A [(h0, .inr (0, [.null, .null, .null, .null, .int (nI 0), .int (nI 0)]))] sz) (md_wD dA h0 u.1 u.2.1 u.2.2.1 u.2.2.2.1 u.2.2.2.2.1 u.2.2.2.2.2 3 3 0 (fun _ => 0) (fun _ => 0) (fun _ => 0) (fun _ => 0) (fun _ => 0)) t) (va_A [(h0, .inr (0, [.null, .null, .null, .null, .int (nI 0), .int (nI 0)]))] sz)) 6 59 (va_A [(h0, .inr (0, [.null, .null, .null, .null, .int (nI 0), .int (nI 0)]))] sz) := by
  refine md_MetVX (w1 := fun u : Nat × Nat × Nat × Nat × Nat × Nat => md_wD dA h0 u.1 u.2.1 u.2.2.1 u.2.2.2.1 u.2.2.2.2.1 u.2.2.2.2.2 3 3 0 (fun _ => 0) (fun _ => 0) (fun _ => 0) (fun _ => 0) (fun _ => 0)) (by decide) (Nat.le_of_ble_eq_true rfl) ?_
  intro p e s m below meth c ls args A Q R hR hXs hx hb hml hts hown hname hA hP hK hD hS hl hret
  have hown : s.vm.findClass RX0 = some m.cls := hown
  have hl : lv_has ls 1 [(0, .ref h0)] := hl
  have hP : va_P D vwCl [(h0, .inr (0, [.null, .null, .null, .null, .int (nI 0), .int (nI 0)]))] s.heap := hP
  have hD : va_D A [(h0, .inr (0, [.null, .null, .null, .null, .int (nI 0), .int (nI 0)]))] := hD
  refine lv_aload_n hx hb dX0_init_0 rfl (lv_at hl 0 rfl) ?_
  refine W.objInit hx hb hown (hts _ q13) (hts _ q14) (hts _ q15) rfl (by rw [hml]; exact hl.1) rfl dX0_init_1 (by subst hR; exact Nat.le_of_ble_eq_true rfl) (by subst hR; exact Nat.le_of_ble_eq_true rfl) ?_
  refine W.eq (g2 := F0 m 4 ls []) rfl ?_
  refine lv_aload_n hx hb dX0_init_4 rfl (lv_at hl 0 rfl) ?_
  refine lv_iconst (v := nI 5) hx hb dX0_init_5 (by decide) ?_
  refine nv_newai hx hb (hts _ q32) hK hP hD hS hA (by decide) (by subst hR; exact Nat.le_of_ble_eq_true rfl) (by subst hR; exact Nat.le_of_ble_eq_true rfl) dX0_init_6 (fun hr H hP hD hS => ?_)
  have hP : va_P D vwCl [(h0, .inr (0, [.null, .null, .null, .null, .int (nI 0), .int (nI 0)])), (hr, .inl (dA, 5, .inl (md_iA (fun _ => 0))))] H := hP
  have hD : va_D A [(h0, .inr (0, [.null, .null, .null, .null, .int (nI 0), .int (nI 0)])), (hr, .inl (dA, 5, .inl (md_iA (fun _ => 0))))] := hD
  refine va_putF (D := D) (ci := 0) (v := .ref hr) (ty := .array .int) (C := RX0) (T := TX0) (N := 6) hx hb hts in_X0 tyX0 tyX0_ok nmX0 hown hK hP hD hS 0 rfl rfl 0 (by decide) (hts _ q33) (fun _ h9 => h9) rfl hname rfl (by decide +kernel) rfl rfl (Nat.le_of_ble_eq_true rfl) dX0_init_8 (fun H locs hP hD hS => ?_)
  have hP : va_P D vwCl [(h0, .inr (0, [.ref hr, .null, .null, .null, .int (nI 0), .int (nI 0)])), (hr, .inl (dA, 5, .inl (md_iA (fun _ => 0))))] H := hP
  have hD : va_D A [(h0, .inr (0, [.ref hr, .null, .null, .null, .int (nI 0), .int (nI 0)])), (hr, .inl (dA, 5, .inl (md_iA (fun _ => 0))))] := hD
  refine lv_aload_n hx hb dX0_init_11 rfl (lv_at hl 0 rfl) ?_
  refine lv_iconst (v := nI 5) hx hb dX0_init_12 (by decide) ?_
  refine nv_newai hx hb (hts _ q32) hK hP hD hS hA (by decide) (by subst hR; exact Nat.le_of_ble_eq_true rfl) (by subst hR; exact Nat.le_of_ble_eq_true rfl) dX0_init_13 (fun ho H hP hD hS => ?_)
  have hP : va_P D vwCl [(h0, .inr (0, [.ref hr, .null, .null, .null, .int (nI 0), .int (nI 0)])), (hr, .inl (dA, 5, .inl (md_iA (fun _ => 0)))), (ho, .inl (dA, 5, .inl (md_iA (fun _ => 0))))] H := hP
  have hD : va_D A [(h0, .inr (0, [.ref hr, .null, .null, .null, .int (nI 0), .int (nI 0)])), (hr, .inl (dA, 5, .inl (md_iA (fun _ => 0)))), (ho, .inl (dA, 5, .inl (md_iA (fun _ => 0))))] := hD
  refine va_putF (D := D) (ci := 0) (v := .ref ho) (ty := .array .int) (C := RX0) (T := TX0) (N := 6) hx hb hts in_X0 tyX0 tyX0_ok nmX0 hown hK hP hD hS 0 rfl rfl 1 (by decide) (hts _ q34) (fun _ h9 => h9) rfl hname rfl (by decide +kernel) rfl rfl (Nat.le_of_ble_eq_true rfl) dX0_init_15 (fun H locs hP hD hS => ?_)
  have hP : va_P D vwCl [(h0, .inr (0, [.ref hr, .ref ho, .null, .null, .int (nI 0), .int (nI 0)])), (hr, .inl (dA, 5, .inl (md_iA (fun _ => 0)))), (ho, .inl (dA, 5, .inl (md_iA (fun _ => 0))))] H := hP
  have hD : va_D A [(h0, .inr (0, [.ref hr, .ref ho, .null, .null, .int (nI 0), .int (nI 0)])), (hr, .inl (dA, 5, .inl (md_iA (fun _ => 0)))), (ho, .inl (dA, 5, .inl (md_iA (fun _ => 0))))] := hD
  refine lv_aload_n hx hb dX0_init_18 rfl (lv_at hl 0 rfl) ?_
  refine lv_iconst (v := nI 5) hx hb dX0_init_19 (by decide) ?_
  refine nv_newai hx hb (hts _ q32) hK hP hD hS hA (by decide) (by subst hR; exact Nat.le_of_ble_eq_true rfl) (by subst hR; exact Nat.le_of_ble_eq_true rfl) dX0_init_20 (fun hz H hP hD hS => ?_)
  have hP : va_P D vwCl [(h0, .inr (0, [.ref hr, .ref ho, .null, .null, .int (nI 0), .int (nI 0)])), (hr, .inl (dA, 5, .inl (md_iA (fun _ => 0)))), (ho, .inl (dA, 5, .inl (md_iA (fun _ => 0)))), (hz, .inl (dA, 5, .inl (md_iA (fun _ => 0))))] H := hP
  have hD : va_D A [(h0, .inr (0, [.ref hr, .ref ho, .null, .null, .int (nI 0), .int (nI 0)])), (hr, .inl (dA, 5, .inl (md_iA (fun _ => 0)))), (ho, .inl (dA, 5, .inl (md_iA (fun _ => 0)))), (hz, .inl (dA, 5, .inl (md_iA (fun _ => 0))))] := hD
  refine va_putF (D := D) (ci := 0) (v := .ref hz) (ty := .array .int) (C := RX0) (T := TX0) (N := 6) hx hb hts in_X0 tyX0 tyX0_ok nmX0 hown hK hP hD hS 0 rfl rfl 2 (by decide) (hts _ q35) (fun _ h9 => h9) rfl hname rfl (by decide +kernel) rfl rfl (Nat.le_of_ble_eq_true rfl) dX0_init_22 (fun H locs hP hD hS => ?_)
  have hP : va_P D vwCl [(h0, .inr (0, [.ref hr, .ref ho, .ref hz, .null, .int (nI 0), .int (nI 0)])), (hr, .inl (dA, 5, .inl (md_iA (fun _ => 0)))), (ho, .inl (dA, 5, .inl (md_iA (fun _ => 0)))), (hz, .inl (dA, 5, .inl (md_iA (fun _ => 0))))] H := hP
  have hD : va_D A [(h0, .inr (0, [.ref hr, .ref ho, .ref hz, .null, .int (nI 0), .int (nI 0)])), (hr, .inl (dA, 5, .inl (md_iA (fun _ => 0)))), (ho, .inl (dA, 5, .inl (md_iA (fun _ => 0)))), (hz, .inl (dA, 5, .inl (md_iA (fun _ => 0))))] := hD
  refine lv_aload_n hx hb dX0_init_25 rfl (lv_at hl 0 rfl) ?_
  refine va_new (ci := 1) (fs := [.null, .null, .int (nI 0)]) (C := RX1) (T := TX1) (N := 3) hx hb hts in_X1 tyX1 tyX1_ok hown (hts _ q16) (hts _ q17) (hts _ q5) hK hP hD hS hA rfl (fun j hj => by rcases (show j = 0 ∨ j = 1 ∨ j = 2 by omega) with rfl | rfl | rfl <;> rfl) (by subst hR; exact Nat.le_of_ble_eq_true rfl) (by subst hR; exact Nat.le_of_ble_eq_true rfl) dX0_init_26 (fun hn H hP hD hS => ?_)
  have hP : va_P D vwCl [(h0, .inr (0, [.ref hr, .ref ho, .ref hz, .null, .int (nI 0), .int (nI 0)])), (hr, .inl (dA, 5, .inl (md_iA (fun _ => 0)))), (ho, .inl (dA, 5, .inl (md_iA (fun _ => 0)))), (hz, .inl (dA, 5, .inl (md_iA (fun _ => 0)))), (hn, .inr (1, [.null, .null, .int (nI 0)]))] H := hP
  have hD : va_D A [(h0, .inr (0, [.ref hr, .ref ho, .ref hz, .null, .int (nI 0), .int (nI 0)])), (hr, .inl (dA, 5, .inl (md_iA (fun _ => 0)))), (ho, .inl (dA, 5, .inl (md_iA (fun _ => 0)))), (hz, .inl (dA, 5, .inl (md_iA (fun _ => 0)))), (hn, .inr (1, [.null, .null, .int (nI 0)]))] := hD
  refine lv_dup hx hb dX0_init_29 rfl ?_
  refine md_cNI (wr := [(h0, .inr (0, [.ref hr, .ref ho, .ref hz, .null, .int (nI 0), .int (nI 0)])), (hr, .inl (dA, 5, .inl (md_iA (fun _ => 0)))), (ho, .inl (dA, 5, .inl (md_iA (fun _ => 0)))), (hz, .inl (dA, 5, .inl (md_iA (fun _ => 0))))]) hx hb hml hown hts hK hP hD hS hA [4] [0, 1, 2, 3] rfl rfl (by decide) (by decide) (by decide) (mX1_init l D dA dL hn H.size) ⟨va_cnB 0 hts (lw_meth q20) rfl rfl rfl hXs (hts _ q5) (by decide +kernel) (by subst hR; exact ⟨Nat.le_of_ble_eq_true rfl, Nat.le_of_ble_eq_true rfl⟩), rfl, hts _ q19⟩ rfl hl.1 rfl (Nat.le_of_ble_eq_true rfl) dX0_init_30 (by subst hR; exact ⟨Nat.le_of_ble_eq_true rfl, Nat.le_of_ble_eq_true rfl⟩) (fun u H locs _ hP hD hS => ?_)
  obtain ⟨hh, hw⟩ := u
  have hP : va_P D vwCl [(h0, .inr (0, [.ref hr, .ref ho, .ref hz, .null, .int (nI 0), .int (nI 0)])), (hr, .inl (dA, 5, .inl (md_iA (fun _ => 0)))), (ho, .inl (dA, 5, .inl (md_iA (fun _ => 0)))), (hz, .inl (dA, 5, .inl (md_iA (fun _ => 0)))), (hn, .inr (1, [.ref hh, .ref hw, .int (nI 0)])), (hh, .inl (dA, 36, .inl (md_iA (fun _ => 0)))), (hw, .inl (dA, 5, .inl (md_iA (fun _ => 0))))] H := hP
  have hD : va_D A [(h0, .inr (0, [.ref hr, .ref ho, .ref hz, .null, .int (nI 0), .int (nI 0)])), (hr, .inl (dA, 5, .inl (md_iA (fun _ => 0)))), (ho, .inl (dA, 5, .inl (md_iA (fun _ => 0)))), (hz, .inl (dA, 5, .inl (md_iA (fun _ => 0)))), (hn, .inr (1, [.ref hh, .ref hw, .int (nI 0)])), (hh, .inl (dA, 36, .inl (md_iA (fun _ => 0)))), (hw, .inl (dA, 5, .inl (md_iA (fun _ => 0))))] := hD
  refine va_putF (D := D) (ci := 0) (v := .ref hn) (ty := .object "MarginDesk$Needs") (C := RX0) (T := TX0) (N := 6) hx hb hts in_X0 tyX0 tyX0_ok nmX0 hown hK hP hD hS 0 rfl rfl 3 (by decide) (hts _ q36) (fun _ h9 => h9) rfl hname rfl (by decide +kernel) rfl rfl (Nat.le_of_ble_eq_true rfl) dX0_init_33 (fun H locs hP hD hS => ?_)
  have hP : va_P D vwCl [(h0, .inr (0, [.ref hr, .ref ho, .ref hz, .ref hn, .int (nI 0), .int (nI 0)])), (hr, .inl (dA, 5, .inl (md_iA (fun _ => 0)))), (ho, .inl (dA, 5, .inl (md_iA (fun _ => 0)))), (hz, .inl (dA, 5, .inl (md_iA (fun _ => 0)))), (hn, .inr (1, [.ref hh, .ref hw, .int (nI 0)])), (hh, .inl (dA, 36, .inl (md_iA (fun _ => 0)))), (hw, .inl (dA, 5, .inl (md_iA (fun _ => 0))))] H := hP
  have hD : va_D A [(h0, .inr (0, [.ref hr, .ref ho, .ref hz, .ref hn, .int (nI 0), .int (nI 0)])), (hr, .inl (dA, 5, .inl (md_iA (fun _ => 0)))), (ho, .inl (dA, 5, .inl (md_iA (fun _ => 0)))), (hz, .inl (dA, 5, .inl (md_iA (fun _ => 0)))), (hn, .inr (1, [.ref hh, .ref hw, .int (nI 0)])), (hh, .inl (dA, 36, .inl (md_iA (fun _ => 0)))), (hw, .inl (dA, 5, .inl (md_iA (fun _ => 0))))] := hD
  refine lv_aload_n hx hb dX0_init_36 rfl (lv_at hl 0 rfl) ?_
  refine lv_iconst (v := nI 3) hx hb dX0_init_37 (by decide) ?_
  refine va_put (D := D) (ci := 0) (v := .int (nI 3)) (ty := .int) (C := RX0) (T := TX0) (N := 6) hx hb hts in_X0 tyX0 tyX0_ok nmX0 hown hK hP hD hS 0 rfl rfl 4 (by decide) (hts _ q37) (fun _ h9 => h9) rfl (by decide +kernel) rfl rfl (Nat.le_of_ble_eq_true rfl) dX0_init_38 (fun H locs hP hD hS => ?_)
  have hP : va_P D vwCl [(h0, .inr (0, [.ref hr, .ref ho, .ref hz, .ref hn, .int (nI 3), .int (nI 0)])), (hr, .inl (dA, 5, .inl (md_iA (fun _ => 0)))), (ho, .inl (dA, 5, .inl (md_iA (fun _ => 0)))), (hz, .inl (dA, 5, .inl (md_iA (fun _ => 0)))), (hn, .inr (1, [.ref hh, .ref hw, .int (nI 0)])), (hh, .inl (dA, 36, .inl (md_iA (fun _ => 0)))), (hw, .inl (dA, 5, .inl (md_iA (fun _ => 0))))] H := hP
  have hD : va_D A [(h0, .inr (0, [.ref hr, .ref ho, .ref hz, .ref hn, .int (nI 3), .int (nI 0)])), (hr, .inl (dA, 5, .inl (md_iA (fun _ => 0)))), (ho, .inl (dA, 5, .inl (md_iA (fun _ => 0)))), (hz, .inl (dA, 5, .inl (md_iA (fun _ => 0)))), (hn, .inr (1, [.ref hh, .ref hw, .int (nI 0)])), (hh, .inl (dA, 36, .inl (md_iA (fun _ => 0)))), (hw, .inl (dA, 5, .inl (md_iA (fun _ => 0))))] := hD
  refine lv_aload_n hx hb dX0_init_41 rfl (lv_at hl 0 rfl) ?_
  refine lv_iconst (v := nI 3) hx hb dX0_init_42 (by decide) ?_
  refine va_put (D := D) (ci := 0) (v := .int (nI 3)) (ty := .int) (C := RX0) (T := TX0) (N := 6) hx hb hts in_X0 tyX0 tyX0_ok nmX0 hown hK hP hD hS 0 rfl rfl 5 (by decide) (hts _ q38) (fun _ h9 => h9) rfl (by decide +kernel) rfl rfl (Nat.le_of_ble_eq_true rfl) dX0_init_43 (fun H locs hP hD hS => ?_)
  have hP : va_P D vwCl [(h0, .inr (0, [.ref hr, .ref ho, .ref hz, .ref hn, .int (nI 3), .int (nI 3)])), (hr, .inl (dA, 5, .inl (md_iA (fun _ => 0)))), (ho, .inl (dA, 5, .inl (md_iA (fun _ => 0)))), (hz, .inl (dA, 5, .inl (md_iA (fun _ => 0)))), (hn, .inr (1, [.ref hh, .ref hw, .int (nI 0)])), (hh, .inl (dA, 36, .inl (md_iA (fun _ => 0)))), (hw, .inl (dA, 5, .inl (md_iA (fun _ => 0))))] H := hP
  have hD : va_D A [(h0, .inr (0, [.ref hr, .ref ho, .ref hz, .ref hn, .int (nI 3), .int (nI 3)])), (hr, .inl (dA, 5, .inl (md_iA (fun _ => 0)))), (ho, .inl (dA, 5, .inl (md_iA (fun _ => 0)))), (hz, .inl (dA, 5, .inl (md_iA (fun _ => 0)))), (hn, .inr (1, [.ref hh, .ref hw, .int (nI 0)])), (hh, .inl (dA, 36, .inl (md_iA (fun _ => 0)))), (hw, .inl (dA, 5, .inl (md_iA (fun _ => 0))))] := hD
  exact hret _ _ _ _ (hr, ho, hz, hn, hh, hw) dX0_init_46 trivial hP hD hS
end
section
/-! MarginDeskModel: its cells and the contracts of its methods -/
abbrev md_wM (dA dL : ClassId) (g0 gr go gw gx nr nc : Nat) (row col wy nx : Nat → Nat) : va_W := [(g0, .inr (2, [.ref gr, .ref go, .int (nI nr), .int (nI nc), .ref gw, .ref gx])), (gr, .inl (dA, 5, .inl (md_iA row))), (go, .inl (dA, 5, .inl (md_iA col))), (gw, .inl (dL, 7776, .inr (.inl (md_lA wy)))), (gx, .inl (dL, 7776, .inr (.inl (md_lA nx))))]
/-- 'next' with the sets below s put -/
def md_NS (nc : Nat) (row : Nat → Nat) (r s j : Nat) : Nat := md_sum (fun s' => if md_pop nc s' = row r ∧ md_add nc s' ≤ j then md_W nc row r (j - md_add nc s') else 0) s
theorem md_NS_end (nc : Nat) (row : Nat → Nat) (r j : Nat) : md_NS nc row r (2 ^ nc) j = md_W nc row (r + 1) j := rfl
theorem md_NS_S (nc : Nat) (row : Nat → Nat) (r s j : Nat) : md_NS nc row r (s + 1) j = md_NS nc row r s j + if md_pop nc s = row r ∧ md_add nc s ≤ j then md_W nc row r (j - md_add nc s) else 0 := rfl
theorem md_6le {i : Nat} (h : i ≤ 5) : 6 ^ i ≤ 7776 := Nat.pow_le_pow_right (n := 6) (by decide) h
theorem md_add_le {q s : Nat} (h : q ≤ 5) : md_sum (fun i => s / 2 ^ i % 2 * 6 ^ i) q ≤ q * 7776 := by
  refine md_sum_le (fun i hi => ?_)
  have h1 : s / 2 ^ i % 2 ≤ 1 := by omega
  have h2 := Nat.mul_le_mul h1 (md_6le (i := i) (by omega))
  rw [Nat.one_mul] at h2
  exact h2
theorem md_pop_le {q s : Nat} : md_sum (fun i => s / 2 ^ i % 2) q ≤ q * 1 := md_sum_le (fun i _ => by omega)
theorem md_s_l : ∀ n, n < 32 → ((nI n &&& 31).toBitVec.smod 32).toNat = n := by decide +kernel
theorem md_shl {n : Nat} (h : n ≤ 5) : nI 1 <<< (nI n &&& 31) = nI (2 ^ n) := by
  have h1 := pk_shlN (n := 1) (nI n &&& 31) n (md_s_l n (by omega)) (by have := Nat.pow_le_pow_right (n := 2) (by decide) h; omega)
  rw [Nat.one_mul] at h1
  exact h1
theorem md_shr {s i : Nat} (hs : s < 2 ^ 31) (hi : i < 32) : nI s >>> (nI i &&& 31) = nI (s / 2 ^ i) := pk_shrN hs _ i (md_s_l i hi)
theorem md_and1 {x : Nat} (h : x < 2 ^ 31) : nI x &&& nI 1 = nI (x % 2) := pk_andN (by omega) 1 (by decide)
theorem md_2le {n : Nat} (h : n ≤ 5) : 2 ^ n ≤ 32 := Nat.pow_le_pow_right (n := 2) (by decide) h
theorem md_W63 {m r : Nat} {row : Nat → Nat} (hm : m ≤ 5) (hr : r ≤ 5) (c : Nat) : md_W m row r c < 2 ^ 63 := by
  have h1 := md_W_le m row hm r c
  have h2 : 32 ^ r ≤ 32 ^ 5 := Nat.pow_le_pow_right (by decide) hr
  exact Nat.lt_of_le_of_lt (Nat.le_trans h1 h2) (by decide)
theorem md_code_in {col : Nat → Nat} {m : Nat} (hm : m ≤ 5) (hc : ∀ i, i < 5 → col i ≤ 5) : ∀ (k i : Nat), i + k = m → md_code (md_rl col i k) < 6 ^ k := by
  intro k
  induction k with
  | zero => intro i _; exact Nat.one_pos
  | succ k ih =>
    intro i hi
    have h1 := ih (i + 1) (by omega)
    have h2 := hc i (by omega)
    show col i + 6 * md_code (md_rl col (i + 1) k) < 6 ^ (k + 1)
    rw [Nat.pow_succ]; omega
set_option maxHeartbeats 4000000 in
set_option maxRecDepth 100000 in
/-- all() -/
theorem mX2_all (l : Launch) (D : va_G) (dA dL : ClassId) (g0 gr go gw gx sz nr nc : Nat) (row col wy nx : Nat → Nat) (hm5 : nc ≤ 5) : Met l yX2_all (ws_ yX2_all cX2_all 3 (some .int)) ({ frames := 0, cells := 0, slots := 0, locals := 0 }) (va_Pc [.ref g0] (mdPre D dA dL (md_wM dA dL g0 gr go gw gx nr nc row col wy nx) sz))
    (va_Qi (fun (r : Int32) (_ : Unit) => r = nI (6 ^ nc)) (fun u t => mdB D dA dL (va_A (md_wM dA dL g0 gr go gw gx nr nc row col wy nx) sz) (md_wM dA dL g0 gr go gw gx nr nc row col wy nx) t) (va_A (md_wM dA dL g0 gr go gw gx nr nc row col wy nx) sz)) 0 0 (va_A (md_wM dA dL g0 gr go gw gx nr nc row col wy nx) sz) := by
  refine md_MetI (w1 := fun _ : Unit => md_wM dA dL g0 gr go gw gx nr nc row col wy nx) (by decide) (Nat.le_of_ble_eq_true rfl) ?_
  intro p e s m below meth c ls args A Q R hR hx hb hml hts hown hname hA hP hK hD hS hl hret
  have hown : s.vm.findClass RX2 = some m.cls := hown
  have hl : lv_has ls 3 [(0, .ref g0)] := hl
  have hP : va_P D vwCl [(g0, .inr (2, [.ref gr, .ref go, .int (nI nr), .int (nI nc), .ref gw, .ref gx])), (gr, .inl (dA, 5, .inl (md_iA row))), (go, .inl (dA, 5, .inl (md_iA col))), (gw, .inl (dL, 7776, .inr (.inl (md_lA wy)))), (gx, .inl (dL, 7776, .inr (.inl (md_lA nx))))] s.heap := hP
  have hD : va_D A [(g0, .inr (2, [.ref gr, .ref go, .int (nI nr), .int (nI nc), .ref gw, .ref gx])), (gr, .inl (dA, 5, .inl (md_iA row))), (go, .inl (dA, 5, .inl (md_iA col))), (gw, .inl (dL, 7776, .inr (.inl (md_lA wy)))), (gx, .inl (dL, 7776, .inr (.inl (md_lA nx))))] := hD
  have loop : ∀ (dd q : Nat) (ls : Array Slot), q + dd = nc → lv_has ls 3 [(0, .ref g0), (1, .int (nI (6 ^ q))), (2, .int (nI q))] → W p l e R s m args below meth c s.heap [] 0 0 Q (F0 m 4 ls []) := by
    intro dd
    induction dd with
    | zero =>
      intro q ls hq hl
      refine lv_iload_n hx hb dX2_all_4 rfl (lv_at hl 2 rfl) ?_
      refine lv_aload_n hx hb dX2_all_5 rfl (lv_at hl 0 rfl) ?_
      refine va_get (D := D) (ci := 2) (v := .int (nI nc)) (C := RX2) (T := TX2) (N := 6) hx hb hts in_X2 hown hK hP 0 rfl rfl 3 (by decide) (hts _ q114) (fun _ h9 => h9) rfl dX2_all_6 ?_
      refine nv_ge (tgt := 23) hx hb (by omega) (by omega) dX2_all_9 (by decide) (fun hc => ?_) (fun hc => ?_)
      · refine lv_iload_n hx hb dX2_all_23 rfl (lv_at hl 1 rfl) ?_
        exact hret _ _ _ _ _ () dX2_all_24 rfl (by rw [show q = nc by omega]) hP hD hS
      · exact absurd hc (by omega)
    | succ dd ih =>
      intro q ls hq hl
      refine lv_iload_n hx hb dX2_all_4 rfl (lv_at hl 2 rfl) ?_
      refine lv_aload_n hx hb dX2_all_5 rfl (lv_at hl 0 rfl) ?_
      refine va_get (D := D) (ci := 2) (v := .int (nI nc)) (C := RX2) (T := TX2) (N := 6) hx hb hts in_X2 hown hK hP 0 rfl rfl 3 (by decide) (hts _ q114) (fun _ h9 => h9) rfl dX2_all_6 ?_
      refine nv_ge (tgt := 23) hx hb (by omega) (by omega) dX2_all_9 (by decide) (fun hc => ?_) (fun hc => ?_)
      · exact absurd hc (by omega)
      · refine lv_iload_n hx hb dX2_all_12 rfl (lv_at hl 1 rfl) ?_
        refine lv_bipush (v := nI 6) hx hb dX2_all_13 (by decide) ?_
        refine nv_mul hx hb dX2_all_15 ?_
        refine lv_istore_n (lv' := [(1, .int (nI ((6 ^ q) * 6))), (0, .ref g0), (2, .int (nI q))]) hx hb dX2_all_16 rfl hl (by decide) rfl (fun ls hl => ?_)
        refine lv_iinc (v := (nI (q + 1))) (lv' := [(2, .int (nI (q + 1))), (1, .int (nI ((6 ^ q) * 6))), (0, .ref g0)]) hx hb dX2_all_17 hl (k := 2) rfl (nv_inc1 _) (by decide) rfl (fun ls hl => ?_)
        refine lv_goto (tgt := 4) hx hb dX2_all_20 (by decide) ?_
        exact ih (q + 1) ls (by omega) (lv_sub hl [2, 1, 0] rfl)
  refine lv_iconst (v := nI 1) hx hb dX2_all_0 (by decide) ?_
  refine lv_istore_n (lv' := [(1, .int (nI 1)), (0, .ref g0)]) hx hb dX2_all_1 rfl hl (by decide) rfl (fun ls hl => ?_)
  refine lv_iconst (v := nI 0) hx hb dX2_all_2 (by decide) ?_
  refine lv_istore_n (lv' := [(2, .int (nI 0)), (1, .int (nI 1)), (0, .ref g0)]) hx hb dX2_all_3 rfl hl (by decide) rfl (fun ls hl => ?_)
  exact loop nc 0 ls (by omega) (lv_sub hl [2, 1, 0] rfl)
set_option maxHeartbeats 4000000 in
set_option maxRecDepth 100000 in
/-- rows() -/
theorem mX2_rows (l : Launch) (D : va_G) (dA dL : ClassId) (g0 gr go gw gx sz nr nc : Nat) (row col wy nx : Nat → Nat) (hk5 : nr ≤ 5) : Met l yX2_rows (ws_ yX2_rows cX2_rows 3 (some .int)) ({ frames := 0, cells := 0, slots := 0, locals := 0 }) (va_Pc [.ref g0] (mdPre D dA dL (md_wM dA dL g0 gr go gw gx nr nc row col wy nx) sz))
    (va_Qi (fun (r : Int32) (_ : Unit) => r = nI (md_sum row nr)) (fun u t => mdB D dA dL (va_A (md_wM dA dL g0 gr go gw gx nr nc row col wy nx) sz) (md_wM dA dL g0 gr go gw gx nr nc row col wy nx) t) (va_A (md_wM dA dL g0 gr go gw gx nr nc row col wy nx) sz)) 0 0 (va_A (md_wM dA dL g0 gr go gw gx nr nc row col wy nx) sz) := by
  refine md_MetI (w1 := fun _ : Unit => md_wM dA dL g0 gr go gw gx nr nc row col wy nx) (by decide) (Nat.le_of_ble_eq_true rfl) ?_
  intro p e s m below meth c ls args A Q R hR hx hb hml hts hown hname hA hP hK hD hS hl hret
  have hown : s.vm.findClass RX2 = some m.cls := hown
  have hl : lv_has ls 3 [(0, .ref g0)] := hl
  have hP : va_P D vwCl [(g0, .inr (2, [.ref gr, .ref go, .int (nI nr), .int (nI nc), .ref gw, .ref gx])), (gr, .inl (dA, 5, .inl (md_iA row))), (go, .inl (dA, 5, .inl (md_iA col))), (gw, .inl (dL, 7776, .inr (.inl (md_lA wy)))), (gx, .inl (dL, 7776, .inr (.inl (md_lA nx))))] s.heap := hP
  have hD : va_D A [(g0, .inr (2, [.ref gr, .ref go, .int (nI nr), .int (nI nc), .ref gw, .ref gx])), (gr, .inl (dA, 5, .inl (md_iA row))), (go, .inl (dA, 5, .inl (md_iA col))), (gw, .inl (dL, 7776, .inr (.inl (md_lA wy)))), (gx, .inl (dL, 7776, .inr (.inl (md_lA nx))))] := hD
  have loop : ∀ (dd q : Nat) (ls : Array Slot), q + dd = nr → lv_has ls 3 [(0, .ref g0), (1, .int (nI (md_sum row q))), (2, .int (nI q))] → W p l e R s m args below meth c s.heap [] 0 0 Q (F0 m 4 ls []) := by
    intro dd
    induction dd with
    | zero =>
      intro q ls hq hl
      refine lv_iload_n hx hb dX2_rows_4 rfl (lv_at hl 2 rfl) ?_
      refine lv_aload_n hx hb dX2_rows_5 rfl (lv_at hl 0 rfl) ?_
      refine va_get (D := D) (ci := 2) (v := .int (nI nr)) (C := RX2) (T := TX2) (N := 6) hx hb hts in_X2 hown hK hP 0 rfl rfl 2 (by decide) (hts _ q113) (fun _ h9 => h9) rfl dX2_rows_6 ?_
      refine nv_ge (tgt := 27) hx hb (by omega) (by omega) dX2_rows_9 (by decide) (fun hc => ?_) (fun hc => ?_)
      · refine lv_iload_n hx hb dX2_rows_27 rfl (lv_at hl 1 rfl) ?_
        exact hret _ _ _ _ _ () dX2_rows_28 rfl (by rw [show q = nr by omega]) hP hD hS
      · exact absurd hc (by omega)
    | succ dd ih =>
      intro q ls hq hl
      refine lv_iload_n hx hb dX2_rows_4 rfl (lv_at hl 2 rfl) ?_
      refine lv_aload_n hx hb dX2_rows_5 rfl (lv_at hl 0 rfl) ?_
      refine va_get (D := D) (ci := 2) (v := .int (nI nr)) (C := RX2) (T := TX2) (N := 6) hx hb hts in_X2 hown hK hP 0 rfl rfl 2 (by decide) (hts _ q113) (fun _ h9 => h9) rfl dX2_rows_6 ?_
      refine nv_ge (tgt := 27) hx hb (by omega) (by omega) dX2_rows_9 (by decide) (fun hc => ?_) (fun hc => ?_)
      · exact absurd hc (by omega)
      · refine lv_iload_n hx hb dX2_rows_12 rfl (lv_at hl 1 rfl) ?_
        refine lv_aload_n hx hb dX2_rows_13 rfl (lv_at hl 0 rfl) ?_
        refine va_get (D := D) (ci := 2) (v := .ref gr) (C := RX2) (T := TX2) (N := 6) hx hb hts in_X2 hown hK hP 0 rfl rfl 0 (by decide) (hts _ q111) (fun _ h9 => h9) rfl dX2_rows_14 ?_
        refine lv_iload_n hx hb dX2_rows_17 rfl (lv_at hl 2 rfl) ?_
        refine nv_iald hx hb hK hP 1 0 rfl rfl (by omega) (by decide) dX2_rows_18 ?_
        refine nv_add hx hb dX2_rows_19 ?_
        refine lv_istore_n (lv' := [(1, .int (nI ((md_sum row q) + (row q)))), (0, .ref g0), (2, .int (nI q))]) hx hb dX2_rows_20 rfl hl (by decide) rfl (fun ls hl => ?_)
        refine lv_iinc (v := (nI (q + 1))) (lv' := [(2, .int (nI (q + 1))), (1, .int (nI ((md_sum row q) + (row q)))), (0, .ref g0)]) hx hb dX2_rows_21 hl (k := 2) rfl (nv_inc1 _) (by decide) rfl (fun ls hl => ?_)
        refine lv_goto (tgt := 4) hx hb dX2_rows_24 (by decide) ?_
        exact ih (q + 1) ls (by omega) (lv_sub hl [2, 1, 0] rfl)
  refine lv_iconst (v := nI 0) hx hb dX2_rows_0 (by decide) ?_
  refine lv_istore_n (lv' := [(1, .int (nI 0)), (0, .ref g0)]) hx hb dX2_rows_1 rfl hl (by decide) rfl (fun ls hl => ?_)
  refine lv_iconst (v := nI 0) hx hb dX2_rows_2 (by decide) ?_
  refine lv_istore_n (lv' := [(2, .int (nI 0)), (1, .int (nI 0)), (0, .ref g0)]) hx hb dX2_rows_3 rfl hl (by decide) rfl (fun ls hl => ?_)
  exact loop nr 0 ls (by omega) (lv_sub hl [2, 1, 0] rfl)
set_option maxHeartbeats 4000000 in
set_option maxRecDepth 100000 in
/-- columns() -/
theorem mX2_columns (l : Launch) (D : va_G) (dA dL : ClassId) (g0 gr go gw gx sz nr nc : Nat) (row col wy nx : Nat → Nat) (hk5 : nc ≤ 5) : Met l yX2_columns (ws_ yX2_columns cX2_columns 3 (some .int)) ({ frames := 0, cells := 0, slots := 0, locals := 0 }) (va_Pc [.ref g0] (mdPre D dA dL (md_wM dA dL g0 gr go gw gx nr nc row col wy nx) sz))
    (va_Qi (fun (r : Int32) (_ : Unit) => r = nI (md_sum col nc)) (fun u t => mdB D dA dL (va_A (md_wM dA dL g0 gr go gw gx nr nc row col wy nx) sz) (md_wM dA dL g0 gr go gw gx nr nc row col wy nx) t) (va_A (md_wM dA dL g0 gr go gw gx nr nc row col wy nx) sz)) 0 0 (va_A (md_wM dA dL g0 gr go gw gx nr nc row col wy nx) sz) := by
  refine md_MetI (w1 := fun _ : Unit => md_wM dA dL g0 gr go gw gx nr nc row col wy nx) (by decide) (Nat.le_of_ble_eq_true rfl) ?_
  intro p e s m below meth c ls args A Q R hR hx hb hml hts hown hname hA hP hK hD hS hl hret
  have hown : s.vm.findClass RX2 = some m.cls := hown
  have hl : lv_has ls 3 [(0, .ref g0)] := hl
  have hP : va_P D vwCl [(g0, .inr (2, [.ref gr, .ref go, .int (nI nr), .int (nI nc), .ref gw, .ref gx])), (gr, .inl (dA, 5, .inl (md_iA row))), (go, .inl (dA, 5, .inl (md_iA col))), (gw, .inl (dL, 7776, .inr (.inl (md_lA wy)))), (gx, .inl (dL, 7776, .inr (.inl (md_lA nx))))] s.heap := hP
  have hD : va_D A [(g0, .inr (2, [.ref gr, .ref go, .int (nI nr), .int (nI nc), .ref gw, .ref gx])), (gr, .inl (dA, 5, .inl (md_iA row))), (go, .inl (dA, 5, .inl (md_iA col))), (gw, .inl (dL, 7776, .inr (.inl (md_lA wy)))), (gx, .inl (dL, 7776, .inr (.inl (md_lA nx))))] := hD
  have loop : ∀ (dd q : Nat) (ls : Array Slot), q + dd = nc → lv_has ls 3 [(0, .ref g0), (1, .int (nI (md_sum col q))), (2, .int (nI q))] → W p l e R s m args below meth c s.heap [] 0 0 Q (F0 m 4 ls []) := by
    intro dd
    induction dd with
    | zero =>
      intro q ls hq hl
      refine lv_iload_n hx hb dX2_columns_4 rfl (lv_at hl 2 rfl) ?_
      refine lv_aload_n hx hb dX2_columns_5 rfl (lv_at hl 0 rfl) ?_
      refine va_get (D := D) (ci := 2) (v := .int (nI nc)) (C := RX2) (T := TX2) (N := 6) hx hb hts in_X2 hown hK hP 0 rfl rfl 3 (by decide) (hts _ q114) (fun _ h9 => h9) rfl dX2_columns_6 ?_
      refine nv_ge (tgt := 27) hx hb (by omega) (by omega) dX2_columns_9 (by decide) (fun hc => ?_) (fun hc => ?_)
      · refine lv_iload_n hx hb dX2_columns_27 rfl (lv_at hl 1 rfl) ?_
        exact hret _ _ _ _ _ () dX2_columns_28 rfl (by rw [show q = nc by omega]) hP hD hS
      · exact absurd hc (by omega)
    | succ dd ih =>
      intro q ls hq hl
      refine lv_iload_n hx hb dX2_columns_4 rfl (lv_at hl 2 rfl) ?_
      refine lv_aload_n hx hb dX2_columns_5 rfl (lv_at hl 0 rfl) ?_
      refine va_get (D := D) (ci := 2) (v := .int (nI nc)) (C := RX2) (T := TX2) (N := 6) hx hb hts in_X2 hown hK hP 0 rfl rfl 3 (by decide) (hts _ q114) (fun _ h9 => h9) rfl dX2_columns_6 ?_
      refine nv_ge (tgt := 27) hx hb (by omega) (by omega) dX2_columns_9 (by decide) (fun hc => ?_) (fun hc => ?_)
      · exact absurd hc (by omega)
      · refine lv_iload_n hx hb dX2_columns_12 rfl (lv_at hl 1 rfl) ?_
        refine lv_aload_n hx hb dX2_columns_13 rfl (lv_at hl 0 rfl) ?_
        refine va_get (D := D) (ci := 2) (v := .ref go) (C := RX2) (T := TX2) (N := 6) hx hb hts in_X2 hown hK hP 0 rfl rfl 1 (by decide) (hts _ q112) (fun _ h9 => h9) rfl dX2_columns_14 ?_
        refine lv_iload_n hx hb dX2_columns_17 rfl (lv_at hl 2 rfl) ?_
        refine nv_iald hx hb hK hP 2 0 rfl rfl (by omega) (by decide) dX2_columns_18 ?_
        refine nv_add hx hb dX2_columns_19 ?_
        refine lv_istore_n (lv' := [(1, .int (nI ((md_sum col q) + (col q)))), (0, .ref g0), (2, .int (nI q))]) hx hb dX2_columns_20 rfl hl (by decide) rfl (fun ls hl => ?_)
        refine lv_iinc (v := (nI (q + 1))) (lv' := [(2, .int (nI (q + 1))), (1, .int (nI ((md_sum col q) + (col q)))), (0, .ref g0)]) hx hb dX2_columns_21 hl (k := 2) rfl (nv_inc1 _) (by decide) rfl (fun ls hl => ?_)
        refine lv_goto (tgt := 4) hx hb dX2_columns_24 (by decide) ?_
        exact ih (q + 1) ls (by omega) (lv_sub hl [2, 1, 0] rfl)
  refine lv_iconst (v := nI 0) hx hb dX2_columns_0 (by decide) ?_
  refine lv_istore_n (lv' := [(1, .int (nI 0)), (0, .ref g0)]) hx hb dX2_columns_1 rfl hl (by decide) rfl (fun ls hl => ?_)
  refine lv_iconst (v := nI 0) hx hb dX2_columns_2 (by decide) ?_
  refine lv_istore_n (lv' := [(2, .int (nI 0)), (1, .int (nI 0)), (0, .ref g0)]) hx hb dX2_columns_3 rfl hl (by decide) rfl (fun ls hl => ?_)
  exact loop nc 0 ls (by omega) (lv_sub hl [2, 1, 0] rfl)
set_option maxHeartbeats 4000000 in
set_option maxRecDepth 100000 in
/-- size(a, b) -/
theorem mX2_size (l : Launch) (D : va_G) (dA dL : ClassId) (g0 gr go gw gx sz nr nc : Nat) (row col wy nx : Nat → Nat) (a b : Int32) : Met l yX2_size (ws_ yX2_size cX2_size 4 none) ({ frames := 0, cells := 0, slots := 0, locals := 0 }) (va_Pc [.ref g0, .int a, .int b] (mdPre D dA dL (md_wM dA dL g0 gr go gw gx nr nc row col wy nx) sz))
    (va_Qv (fun u : (Nat → Nat) × (Nat → Nat) => (∀ k, k < 5 → u.1 k = 0) ∧ ∀ k, k < 5 → u.2 k = 0) (fun u t => mdB D dA dL (va_A (md_wM dA dL g0 gr go gw gx nr nc row col wy nx) sz) (md_wM dA dL g0 gr go gw gx (1 + md_m31 a % 5) (1 + md_m31 b % 5) u.1 u.2 wy nx) t) (va_A (md_wM dA dL g0 gr go gw gx nr nc row col wy nx) sz)) 0 0 (va_A (md_wM dA dL g0 gr go gw gx nr nc row col wy nx) sz) := by
  refine md_MetV (w1 := fun u : (Nat → Nat) × (Nat → Nat) => md_wM dA dL g0 gr go gw gx (1 + md_m31 a % 5) (1 + md_m31 b % 5) u.1 u.2 wy nx) (by decide) (Nat.le_of_ble_eq_true rfl) ?_
  intro p e s m below meth c ls args A Q R hR hx hb hml hts hown hname hA hP hK hD hS hl hret
  have hown : s.vm.findClass RX2 = some m.cls := hown
  have hl : lv_has ls 4 [(0, .ref g0), (1, .int a), (2, .int b)] := hl
  have hP : va_P D vwCl [(g0, .inr (2, [.ref gr, .ref go, .int (nI nr), .int (nI nc), .ref gw, .ref gx])), (gr, .inl (dA, 5, .inl (md_iA row))), (go, .inl (dA, 5, .inl (md_iA col))), (gw, .inl (dL, 7776, .inr (.inl (md_lA wy)))), (gx, .inl (dL, 7776, .inr (.inl (md_lA nx))))] s.heap := hP
  have hD : va_D A [(g0, .inr (2, [.ref gr, .ref go, .int (nI nr), .int (nI nc), .ref gw, .ref gx])), (gr, .inl (dA, 5, .inl (md_iA row))), (go, .inl (dA, 5, .inl (md_iA col))), (gw, .inl (dL, 7776, .inr (.inl (md_lA wy)))), (gx, .inl (dL, 7776, .inr (.inl (md_lA nx))))] := hD
  refine lv_aload_n hx hb dX2_size_0 rfl (lv_at hl 0 rfl) ?_
  refine lv_iconst (v := nI 1) hx hb dX2_size_1 (by decide) ?_
  refine lv_iload_n hx hb dX2_size_2 rfl (lv_at hl 1 rfl) ?_
  refine lv_ldc hx hb hown (hts _ q135) dX2_size_3 ?_
  refine lv_iand hx hb dX2_size_5 ?_
  refine nv_i (md_m31_and a) ?_
  have hm31_6 := md_m31_lt a
  refine lv_iconst (v := nI 5) hx hb dX2_size_6 (by decide) ?_
  refine nv_rem hx hb (by omega) (by omega) (by omega) dX2_size_7 ?_
  refine nv_add hx hb dX2_size_8 ?_
  refine va_put (D := D) (ci := 2) (v := .int (nI (1 + ((md_m31 a) % 5)))) (ty := .int) (C := RX2) (T := TX2) (N := 6) hx hb hts in_X2 tyX2 tyX2_ok nmX2 hown hK hP hD hS 0 rfl rfl 2 (by decide) (hts _ q113) (fun _ h9 => h9) rfl (by decide +kernel) rfl rfl (Nat.le_of_ble_eq_true rfl) dX2_size_9 (fun H locs hP hD hS => ?_)
  have hP : va_P D vwCl [(g0, .inr (2, [.ref gr, .ref go, .int (nI (1 + ((md_m31 a) % 5))), .int (nI nc), .ref gw, .ref gx])), (gr, .inl (dA, 5, .inl (md_iA row))), (go, .inl (dA, 5, .inl (md_iA col))), (gw, .inl (dL, 7776, .inr (.inl (md_lA wy)))), (gx, .inl (dL, 7776, .inr (.inl (md_lA nx))))] H := hP
  have hD : va_D A [(g0, .inr (2, [.ref gr, .ref go, .int (nI (1 + ((md_m31 a) % 5))), .int (nI nc), .ref gw, .ref gx])), (gr, .inl (dA, 5, .inl (md_iA row))), (go, .inl (dA, 5, .inl (md_iA col))), (gw, .inl (dL, 7776, .inr (.inl (md_lA wy)))), (gx, .inl (dL, 7776, .inr (.inl (md_lA nx))))] := hD
  refine lv_aload_n hx hb dX2_size_12 rfl (lv_at hl 0 rfl) ?_
  refine lv_iconst (v := nI 1) hx hb dX2_size_13 (by decide) ?_
  refine lv_iload_n hx hb dX2_size_14 rfl (lv_at hl 2 rfl) ?_
  refine lv_ldc hx hb hown (hts _ q135) dX2_size_15 ?_
  refine lv_iand hx hb dX2_size_17 ?_
  refine nv_i (md_m31_and b) ?_
  have hm31_18 := md_m31_lt b
  refine lv_iconst (v := nI 5) hx hb dX2_size_18 (by decide) ?_
  refine nv_rem hx hb (by omega) (by omega) (by omega) dX2_size_19 ?_
  refine nv_add hx hb dX2_size_20 ?_
  refine va_put (D := D) (ci := 2) (v := .int (nI (1 + ((md_m31 b) % 5)))) (ty := .int) (C := RX2) (T := TX2) (N := 6) hx hb hts in_X2 tyX2 tyX2_ok nmX2 hown hK hP hD hS 0 rfl rfl 3 (by decide) (hts _ q114) (fun _ h9 => h9) rfl (by decide +kernel) rfl rfl (Nat.le_of_ble_eq_true rfl) dX2_size_21 (fun H locs hP hD hS => ?_)
  have hP : va_P D vwCl [(g0, .inr (2, [.ref gr, .ref go, .int (nI (1 + ((md_m31 a) % 5))), .int (nI (1 + ((md_m31 b) % 5))), .ref gw, .ref gx])), (gr, .inl (dA, 5, .inl (md_iA row))), (go, .inl (dA, 5, .inl (md_iA col))), (gw, .inl (dL, 7776, .inr (.inl (md_lA wy)))), (gx, .inl (dL, 7776, .inr (.inl (md_lA nx))))] H := hP
  have hD : va_D A [(g0, .inr (2, [.ref gr, .ref go, .int (nI (1 + ((md_m31 a) % 5))), .int (nI (1 + ((md_m31 b) % 5))), .ref gw, .ref gx])), (gr, .inl (dA, 5, .inl (md_iA row))), (go, .inl (dA, 5, .inl (md_iA col))), (gw, .inl (dL, 7776, .inr (.inl (md_lA wy)))), (gx, .inl (dL, 7776, .inr (.inl (md_lA nx))))] := hD
  refine lv_iconst (v := nI 0) hx hb dX2_size_24 (by decide) ?_
  refine lv_istore_n (lv' := [(3, .int (nI 0)), (0, .ref g0), (1, .int a), (2, .int b)]) hx hb dX2_size_25 rfl hl (by decide) rfl (fun ls hl => ?_)
  have loop : ∀ (dd q : Nat) (f g : Nat → Nat) (H : Heap) (locs : List Loc) (ls : Array Slot), q + dd = 5 → (∀ k, k < q → f k = 0) → (∀ k, k < q → g k = 0) → va_P D vwCl [(g0, .inr (2, [.ref gr, .ref go, .int (nI (1 + md_m31 a % 5)), .int (nI (1 + md_m31 b % 5)), .ref gw, .ref gx])), (gr, .inl (dA, 5, .inl (md_iA f))), (go, .inl (dA, 5, .inl (md_iA g))), (gw, .inl (dL, 7776, .inr (.inl (md_lA wy)))), (gx, .inl (dL, 7776, .inr (.inl (md_lA nx))))] H → va_D A [(g0, .inr (2, [.ref gr, .ref go, .int (nI (1 + md_m31 a % 5)), .int (nI (1 + md_m31 b % 5)), .ref gw, .ref gx])), (gr, .inl (dA, 5, .inl (md_iA f))), (go, .inl (dA, 5, .inl (md_iA g))), (gw, .inl (dL, 7776, .inr (.inl (md_lA wy)))), (gx, .inl (dL, 7776, .inr (.inl (md_lA nx))))] → va_S A s.heap H locs → lv_has ls 4 [(0, .ref g0), (3, .int (nI q))] → W p l e R s m args below meth c H locs 0 0 Q (F0 m 26 ls []) := by
    intro dd
    induction dd with
    | zero =>
      intro q f g H locs ls hq hf hg hP hD hS hl
      refine lv_iload_n hx hb dX2_size_26 rfl (lv_at hl 1 rfl) ?_
      refine lv_iconst (v := nI 5) hx hb dX2_size_27 (by decide) ?_
      refine nv_ge (tgt := 51) hx hb (by omega) (by omega) dX2_size_28 (by decide) (fun hc => ?_) (fun hc => ?_)
      · exact hret _ _ _ _ (f, g) dX2_size_51 ⟨fun k hk => hf k (by omega), fun k hk => hg k (by omega)⟩ hP hD hS
      · exact absurd hc (by omega)
    | succ dd ih =>
      intro q f g H locs ls hq hf hg hP hD hS hl
      refine lv_iload_n hx hb dX2_size_26 rfl (lv_at hl 1 rfl) ?_
      refine lv_iconst (v := nI 5) hx hb dX2_size_27 (by decide) ?_
      refine nv_ge (tgt := 51) hx hb (by omega) (by omega) dX2_size_28 (by decide) (fun hc => ?_) (fun hc => ?_)
      · exact absurd hc (by omega)
      · refine lv_aload_n hx hb dX2_size_31 rfl (lv_at hl 0 rfl) ?_
        refine va_get (D := D) (ci := 2) (v := .ref gr) (C := RX2) (T := TX2) (N := 6) hx hb hts in_X2 hown hK hP 0 rfl rfl 0 (by decide) (hts _ q111) (fun _ h9 => h9) rfl dX2_size_32 ?_
        refine lv_iload_n hx hb dX2_size_35 rfl (lv_at hl 1 rfl) ?_
        refine lv_iconst (v := nI 0) hx hb dX2_size_36 (by decide) ?_
        refine nv_iast hx hb hK hP hD hS 1 0 rfl rfl (by omega) (by decide) dX2_size_37 (fun H locs hP hD hS => ?_)
        have hP : va_P D vwCl [(g0, .inr (2, [.ref gr, .ref go, .int (nI (1 + md_m31 a % 5)), .int (nI (1 + md_m31 b % 5)), .ref gw, .ref gx])), (gr, .inl (dA, 5, .inl (md_iA (md_up f q 0)))), (go, .inl (dA, 5, .inl (md_iA g))), (gw, .inl (dL, 7776, .inr (.inl (md_lA wy)))), (gx, .inl (dL, 7776, .inr (.inl (md_lA nx))))] H := hP
        have hD : va_D A [(g0, .inr (2, [.ref gr, .ref go, .int (nI (1 + md_m31 a % 5)), .int (nI (1 + md_m31 b % 5)), .ref gw, .ref gx])), (gr, .inl (dA, 5, .inl (md_iA (md_up f q 0)))), (go, .inl (dA, 5, .inl (md_iA g))), (gw, .inl (dL, 7776, .inr (.inl (md_lA wy)))), (gx, .inl (dL, 7776, .inr (.inl (md_lA nx))))] := hD
        refine lv_aload_n hx hb dX2_size_38 rfl (lv_at hl 0 rfl) ?_
        refine va_get (D := D) (ci := 2) (v := .ref go) (C := RX2) (T := TX2) (N := 6) hx hb hts in_X2 hown hK hP 0 rfl rfl 1 (by decide) (hts _ q112) (fun _ h9 => h9) rfl dX2_size_39 ?_
        refine lv_iload_n hx hb dX2_size_42 rfl (lv_at hl 1 rfl) ?_
        refine lv_iconst (v := nI 0) hx hb dX2_size_43 (by decide) ?_
        refine nv_iast hx hb hK hP hD hS 2 0 rfl rfl (by omega) (by decide) dX2_size_44 (fun H locs hP hD hS => ?_)
        have hP : va_P D vwCl [(g0, .inr (2, [.ref gr, .ref go, .int (nI (1 + md_m31 a % 5)), .int (nI (1 + md_m31 b % 5)), .ref gw, .ref gx])), (gr, .inl (dA, 5, .inl (md_iA (md_up f q 0)))), (go, .inl (dA, 5, .inl (md_iA (md_up g q 0)))), (gw, .inl (dL, 7776, .inr (.inl (md_lA wy)))), (gx, .inl (dL, 7776, .inr (.inl (md_lA nx))))] H := hP
        have hD : va_D A [(g0, .inr (2, [.ref gr, .ref go, .int (nI (1 + md_m31 a % 5)), .int (nI (1 + md_m31 b % 5)), .ref gw, .ref gx])), (gr, .inl (dA, 5, .inl (md_iA (md_up f q 0)))), (go, .inl (dA, 5, .inl (md_iA (md_up g q 0)))), (gw, .inl (dL, 7776, .inr (.inl (md_lA wy)))), (gx, .inl (dL, 7776, .inr (.inl (md_lA nx))))] := hD
        refine lv_iinc (v := (nI (q + 1))) (lv' := [(3, .int (nI (q + 1))), (0, .ref g0)]) hx hb dX2_size_45 hl (k := 1) rfl (nv_inc1 _) (by decide) rfl (fun ls hl => ?_)
        refine lv_goto (tgt := 26) hx hb dX2_size_48 (by decide) ?_
        refine ih (q + 1) _ _ _ _ ls (by omega) (fun k hk => ?_) (fun k hk => ?_) hP hD hS (lv_sub hl [1, 0] rfl)
        · by_cases e1 : k = q
          · subst e1; rw [md_up_s]
          · rw [md_up_n e1]; exact hf k (by omega)
        · by_cases e1 : k = q
          · subst e1; rw [md_up_s]
          · rw [md_up_n e1]; exact hg k (by omega)
  exact loop 5 0 row col _ _ ls (by omega) (fun k hk => by omega) (fun k hk => by omega) hP hD hS (lv_sub hl [1, 0] rfl)
set_option maxHeartbeats 4000000 in
set_option maxRecDepth 100000 in
/-- row(i, v) -/
theorem mX2_row (l : Launch) (D : va_G) (dA dL : ClassId) (g0 gr go gw gx sz nr nc : Nat) (row col wy nx : Nat → Nat) (a b : Int32) (hk0 : 0 < nr) (hk5 : nr ≤ 5) : Met l yX2_row (ws_ yX2_row cX2_row 3 none) ({ frames := 0, cells := 0, slots := 0, locals := 0 }) (va_Pc [.ref g0, .int a, .int b] (mdPre D dA dL (md_wM dA dL g0 gr go gw gx nr nc row col wy nx) sz))
    (va_Qv (fun _ : Unit => True) (fun u t => mdB D dA dL (va_A (md_wM dA dL g0 gr go gw gx nr nc row col wy nx) sz) (md_wM dA dL g0 gr go gw gx nr nc (md_up row (md_m31 a % nr) (md_m31 b % 6)) col wy nx) t) (va_A (md_wM dA dL g0 gr go gw gx nr nc row col wy nx) sz)) 0 0 (va_A (md_wM dA dL g0 gr go gw gx nr nc row col wy nx) sz) := by
  refine md_MetV (w1 := fun _ : Unit => md_wM dA dL g0 gr go gw gx nr nc (md_up row (md_m31 a % nr) (md_m31 b % 6)) col wy nx) (by decide) (Nat.le_of_ble_eq_true rfl) ?_
  intro p e s m below meth c ls args A Q R hR hx hb hml hts hown hname hA hP hK hD hS hl hret
  have hown : s.vm.findClass RX2 = some m.cls := hown
  have hl : lv_has ls 3 [(0, .ref g0), (1, .int a), (2, .int b)] := hl
  have hP : va_P D vwCl [(g0, .inr (2, [.ref gr, .ref go, .int (nI nr), .int (nI nc), .ref gw, .ref gx])), (gr, .inl (dA, 5, .inl (md_iA row))), (go, .inl (dA, 5, .inl (md_iA col))), (gw, .inl (dL, 7776, .inr (.inl (md_lA wy)))), (gx, .inl (dL, 7776, .inr (.inl (md_lA nx))))] s.heap := hP
  have hD : va_D A [(g0, .inr (2, [.ref gr, .ref go, .int (nI nr), .int (nI nc), .ref gw, .ref gx])), (gr, .inl (dA, 5, .inl (md_iA row))), (go, .inl (dA, 5, .inl (md_iA col))), (gw, .inl (dL, 7776, .inr (.inl (md_lA wy)))), (gx, .inl (dL, 7776, .inr (.inl (md_lA nx))))] := hD
  refine lv_aload_n hx hb dX2_row_0 rfl (lv_at hl 0 rfl) ?_
  refine va_get (D := D) (ci := 2) (v := .ref gr) (C := RX2) (T := TX2) (N := 6) hx hb hts in_X2 hown hK hP 0 rfl rfl 0 (by decide) (hts _ q111) (fun _ h9 => h9) rfl dX2_row_1 ?_
  refine lv_iload_n hx hb dX2_row_4 rfl (lv_at hl 1 rfl) ?_
  refine lv_ldc hx hb hown (hts _ q135) dX2_row_5 ?_
  refine lv_iand hx hb dX2_row_7 ?_
  refine nv_i (md_m31_and a) ?_
  have hm31_8 := md_m31_lt a
  refine lv_aload_n hx hb dX2_row_8 rfl (lv_at hl 0 rfl) ?_
  refine va_get (D := D) (ci := 2) (v := .int (nI nr)) (C := RX2) (T := TX2) (N := 6) hx hb hts in_X2 hown hK hP 0 rfl rfl 2 (by decide) (hts _ q113) (fun _ h9 => h9) rfl dX2_row_9 ?_
  have hmod : md_m31 a % nr < nr := Nat.mod_lt _ hk0
  refine nv_rem hx hb (by omega) (by omega) (by omega) dX2_row_12 ?_
  refine lv_iload_n hx hb dX2_row_13 rfl (lv_at hl 2 rfl) ?_
  refine lv_ldc hx hb hown (hts _ q135) dX2_row_14 ?_
  refine lv_iand hx hb dX2_row_16 ?_
  refine nv_i (md_m31_and b) ?_
  have hm31_17 := md_m31_lt b
  refine lv_bipush (v := nI 6) hx hb dX2_row_17 (by decide) ?_
  refine nv_rem hx hb (by omega) (by omega) (by omega) dX2_row_19 ?_
  refine nv_iast hx hb hK hP hD hS 1 0 rfl rfl (by omega) (by decide) dX2_row_20 (fun H locs hP hD hS => ?_)
  have hP : va_P D vwCl [(g0, .inr (2, [.ref gr, .ref go, .int (nI nr), .int (nI nc), .ref gw, .ref gx])), (gr, .inl (dA, 5, .inl (md_iA (md_up row ((md_m31 a) % nr) ((md_m31 b) % 6))))), (go, .inl (dA, 5, .inl (md_iA col))), (gw, .inl (dL, 7776, .inr (.inl (md_lA wy)))), (gx, .inl (dL, 7776, .inr (.inl (md_lA nx))))] H := hP
  have hD : va_D A [(g0, .inr (2, [.ref gr, .ref go, .int (nI nr), .int (nI nc), .ref gw, .ref gx])), (gr, .inl (dA, 5, .inl (md_iA (md_up row ((md_m31 a) % nr) ((md_m31 b) % 6))))), (go, .inl (dA, 5, .inl (md_iA col))), (gw, .inl (dL, 7776, .inr (.inl (md_lA wy)))), (gx, .inl (dL, 7776, .inr (.inl (md_lA nx))))] := hD
  exact hret _ _ _ _ () dX2_row_21 trivial hP hD hS
set_option maxHeartbeats 4000000 in
set_option maxRecDepth 100000 in
/-- column(i, v) -/
theorem mX2_column (l : Launch) (D : va_G) (dA dL : ClassId) (g0 gr go gw gx sz nr nc : Nat) (row col wy nx : Nat → Nat) (a b : Int32) (hk0 : 0 < nc) (hk5 : nc ≤ 5) : Met l yX2_column (ws_ yX2_column cX2_column 3 none) ({ frames := 0, cells := 0, slots := 0, locals := 0 }) (va_Pc [.ref g0, .int a, .int b] (mdPre D dA dL (md_wM dA dL g0 gr go gw gx nr nc row col wy nx) sz))
    (va_Qv (fun _ : Unit => True) (fun u t => mdB D dA dL (va_A (md_wM dA dL g0 gr go gw gx nr nc row col wy nx) sz) (md_wM dA dL g0 gr go gw gx nr nc row (md_up col (md_m31 a % nc) (md_m31 b % 6)) wy nx) t) (va_A (md_wM dA dL g0 gr go gw gx nr nc row col wy nx) sz)) 0 0 (va_A (md_wM dA dL g0 gr go gw gx nr nc row col wy nx) sz) := by
  refine md_MetV (w1 := fun _ : Unit => md_wM dA dL g0 gr go gw gx nr nc row (md_up col (md_m31 a % nc) (md_m31 b % 6)) wy nx) (by decide) (Nat.le_of_ble_eq_true rfl) ?_
  intro p e s m below meth c ls args A Q R hR hx hb hml hts hown hname hA hP hK hD hS hl hret
  have hown : s.vm.findClass RX2 = some m.cls := hown
  have hl : lv_has ls 3 [(0, .ref g0), (1, .int a), (2, .int b)] := hl
  have hP : va_P D vwCl [(g0, .inr (2, [.ref gr, .ref go, .int (nI nr), .int (nI nc), .ref gw, .ref gx])), (gr, .inl (dA, 5, .inl (md_iA row))), (go, .inl (dA, 5, .inl (md_iA col))), (gw, .inl (dL, 7776, .inr (.inl (md_lA wy)))), (gx, .inl (dL, 7776, .inr (.inl (md_lA nx))))] s.heap := hP
  have hD : va_D A [(g0, .inr (2, [.ref gr, .ref go, .int (nI nr), .int (nI nc), .ref gw, .ref gx])), (gr, .inl (dA, 5, .inl (md_iA row))), (go, .inl (dA, 5, .inl (md_iA col))), (gw, .inl (dL, 7776, .inr (.inl (md_lA wy)))), (gx, .inl (dL, 7776, .inr (.inl (md_lA nx))))] := hD
  refine lv_aload_n hx hb dX2_column_0 rfl (lv_at hl 0 rfl) ?_
  refine va_get (D := D) (ci := 2) (v := .ref go) (C := RX2) (T := TX2) (N := 6) hx hb hts in_X2 hown hK hP 0 rfl rfl 1 (by decide) (hts _ q112) (fun _ h9 => h9) rfl dX2_column_1 ?_
  refine lv_iload_n hx hb dX2_column_4 rfl (lv_at hl 1 rfl) ?_
  refine lv_ldc hx hb hown (hts _ q135) dX2_column_5 ?_
  refine lv_iand hx hb dX2_column_7 ?_
  refine nv_i (md_m31_and a) ?_
  have hm31_8 := md_m31_lt a
  refine lv_aload_n hx hb dX2_column_8 rfl (lv_at hl 0 rfl) ?_
  refine va_get (D := D) (ci := 2) (v := .int (nI nc)) (C := RX2) (T := TX2) (N := 6) hx hb hts in_X2 hown hK hP 0 rfl rfl 3 (by decide) (hts _ q114) (fun _ h9 => h9) rfl dX2_column_9 ?_
  have hmod : md_m31 a % nc < nc := Nat.mod_lt _ hk0
  refine nv_rem hx hb (by omega) (by omega) (by omega) dX2_column_12 ?_
  refine lv_iload_n hx hb dX2_column_13 rfl (lv_at hl 2 rfl) ?_
  refine lv_ldc hx hb hown (hts _ q135) dX2_column_14 ?_
  refine lv_iand hx hb dX2_column_16 ?_
  refine nv_i (md_m31_and b) ?_
  have hm31_17 := md_m31_lt b
  refine lv_bipush (v := nI 6) hx hb dX2_column_17 (by decide) ?_
  refine nv_rem hx hb (by omega) (by omega) (by omega) dX2_column_19 ?_
  refine nv_iast hx hb hK hP hD hS 2 0 rfl rfl (by omega) (by decide) dX2_column_20 (fun H locs hP hD hS => ?_)
  have hP : va_P D vwCl [(g0, .inr (2, [.ref gr, .ref go, .int (nI nr), .int (nI nc), .ref gw, .ref gx])), (gr, .inl (dA, 5, .inl (md_iA row))), (go, .inl (dA, 5, .inl (md_iA (md_up col ((md_m31 a) % nc) ((md_m31 b) % 6))))), (gw, .inl (dL, 7776, .inr (.inl (md_lA wy)))), (gx, .inl (dL, 7776, .inr (.inl (md_lA nx))))] H := hP
  have hD : va_D A [(g0, .inr (2, [.ref gr, .ref go, .int (nI nr), .int (nI nc), .ref gw, .ref gx])), (gr, .inl (dA, 5, .inl (md_iA row))), (go, .inl (dA, 5, .inl (md_iA (md_up col ((md_m31 a) % nc) ((md_m31 b) % 6))))), (gw, .inl (dL, 7776, .inr (.inl (md_lA wy)))), (gx, .inl (dL, 7776, .inr (.inl (md_lA nx))))] := hD
  exact hret _ _ _ _ () dX2_column_21 trivial hP hD hS
set_option maxHeartbeats 4000000 in
set_option maxRecDepth 100000 in
/-- MarginDeskModel(): four cells come -/
theorem mX2_init (l : Launch) (D : va_G) (dA dL : ClassId) (g0 sz : Nat) : Met l yX2_init (ws_ yX2_init cX2_init 1 none) ({ frames := 1, cells := 4, slots := 15562, locals := 12 }) (va_Pc [.ref g0] (fun U => True ∧ mdPre D dA dL [(g0, .inr (2, [.null, .null, .int (nI 0), .int (nI 0), .null, .null]))] sz U))
    (va_Qv (fun (_ : Nat × Nat × Nat × Nat) => True) (fun u t => mdB D dA dL (va_A [(g0, .inr (2, [.null, .null, .int (nI 0), .int (nI 0), .null, .null]))] sz) (md_wM dA dL g0 u.1 u.2.1 u.2.2.1 u.2.2.2 3 3 (fun _ => 0) (fun _ => 0) (fun _ => 0) (fun _ => 0)) t) (va_A [(g0, .inr (2, [.null, .null, .int (nI 0), .int (nI 0), .null, .null]))] sz)) 4 15562 (va_A [(g0, .inr (2, [.null, .null, .int (nI 0), .int (nI 0), .null, .null]))] sz) := by
  refine md_MetVX (X := fun _ => True) (w1 := fun u : Nat × Nat × Nat × Nat => md_wM dA dL g0 u.1 u.2.1 u.2.2.1 u.2.2.2 3 3 (fun _ => 0) (fun _ => 0) (fun _ => 0) (fun _ => 0)) (by decide) (Nat.le_of_ble_eq_true rfl) ?_
  intro p e s m below meth c ls args A Q R hR hXs hx hb hml hts hown hname hA hP hK hD hS hl hret
  have hown : s.vm.findClass RX2 = some m.cls := hown
  have hl : lv_has ls 1 [(0, .ref g0)] := hl
  refine lv_aload_n hx hb dX2_init_0 rfl (lv_at hl 0 rfl) ?_
  refine W.objInit hx hb hown (hts _ q110) (hts _ q14) (hts _ q15) rfl (by rw [hml]; exact hl.1) rfl dX2_init_1 (by subst hR; exact Nat.le_of_ble_eq_true rfl) (by subst hR; exact Nat.le_of_ble_eq_true rfl) ?_
  refine W.eq (g2 := F0 m 4 ls []) rfl ?_
  refine lv_aload_n hx hb dX2_init_4 rfl (lv_at hl 0 rfl) ?_
  refine lv_iconst (v := nI 5) hx hb dX2_init_5 (by decide) ?_
  refine nv_newai hx hb (hts _ q32) hK hP hD hS hA (by decide) (by subst hR; exact Nat.le_of_ble_eq_true rfl) (by subst hR; exact Nat.le_of_ble_eq_true rfl) dX2_init_6 (fun gr H hP hD hS => ?_)
  have hP : va_P D vwCl [(g0, .inr (2, [.null, .null, .int (nI 0), .int (nI 0), .null, .null])), (gr, .inl (dA, 5, .inl (md_iA (fun _ => 0))))] H := hP
  have hD : va_D A [(g0, .inr (2, [.null, .null, .int (nI 0), .int (nI 0), .null, .null])), (gr, .inl (dA, 5, .inl (md_iA (fun _ => 0))))] := hD
  refine va_putF (D := D) (ci := 2) (v := .ref gr) (ty := .array .int) (C := RX2) (T := TX2) (N := 6) hx hb hts in_X2 tyX2 tyX2_ok nmX2 hown hK hP hD hS 0 rfl rfl 0 (by decide) (hts _ q111) (fun _ h9 => h9) rfl hname rfl (by decide +kernel) rfl rfl (Nat.le_of_ble_eq_true rfl) dX2_init_8 (fun H locs hP hD hS => ?_)
  have hP : va_P D vwCl [(g0, .inr (2, [.ref gr, .null, .int (nI 0), .int (nI 0), .null, .null])), (gr, .inl (dA, 5, .inl (md_iA (fun _ => 0))))] H := hP
  have hD : va_D A [(g0, .inr (2, [.ref gr, .null, .int (nI 0), .int (nI 0), .null, .null])), (gr, .inl (dA, 5, .inl (md_iA (fun _ => 0))))] := hD
  refine lv_aload_n hx hb dX2_init_11 rfl (lv_at hl 0 rfl) ?_
  refine lv_iconst (v := nI 5) hx hb dX2_init_12 (by decide) ?_
  refine nv_newai hx hb (hts _ q32) hK hP hD hS hA (by decide) (by subst hR; exact Nat.le_of_ble_eq_true rfl) (by subst hR; exact Nat.le_of_ble_eq_true rfl) dX2_init_13 (fun go H hP hD hS => ?_)
  have hP : va_P D vwCl [(g0, .inr (2, [.ref gr, .null, .int (nI 0), .int (nI 0), .null, .null])), (gr, .inl (dA, 5, .inl (md_iA (fun _ => 0)))), (go, .inl (dA, 5, .inl (md_iA (fun _ => 0))))] H := hP
  have hD : va_D A [(g0, .inr (2, [.ref gr, .null, .int (nI 0), .int (nI 0), .null, .null])), (gr, .inl (dA, 5, .inl (md_iA (fun _ => 0)))), (go, .inl (dA, 5, .inl (md_iA (fun _ => 0))))] := hD
  refine va_putF (D := D) (ci := 2) (v := .ref go) (ty := .array .int) (C := RX2) (T := TX2) (N := 6) hx hb hts in_X2 tyX2 tyX2_ok nmX2 hown hK hP hD hS 0 rfl rfl 1 (by decide) (hts _ q112) (fun _ h9 => h9) rfl hname rfl (by decide +kernel) rfl rfl (Nat.le_of_ble_eq_true rfl) dX2_init_15 (fun H locs hP hD hS => ?_)
  have hP : va_P D vwCl [(g0, .inr (2, [.ref gr, .ref go, .int (nI 0), .int (nI 0), .null, .null])), (gr, .inl (dA, 5, .inl (md_iA (fun _ => 0)))), (go, .inl (dA, 5, .inl (md_iA (fun _ => 0))))] H := hP
  have hD : va_D A [(g0, .inr (2, [.ref gr, .ref go, .int (nI 0), .int (nI 0), .null, .null])), (gr, .inl (dA, 5, .inl (md_iA (fun _ => 0)))), (go, .inl (dA, 5, .inl (md_iA (fun _ => 0))))] := hD
  refine lv_aload_n hx hb dX2_init_18 rfl (lv_at hl 0 rfl) ?_
  refine lv_iconst (v := nI 3) hx hb dX2_init_19 (by decide) ?_
  refine va_put (D := D) (ci := 2) (v := .int (nI 3)) (ty := .int) (C := RX2) (T := TX2) (N := 6) hx hb hts in_X2 tyX2 tyX2_ok nmX2 hown hK hP hD hS 0 rfl rfl 2 (by decide) (hts _ q113) (fun _ h9 => h9) rfl (by decide +kernel) rfl rfl (Nat.le_of_ble_eq_true rfl) dX2_init_20 (fun H locs hP hD hS => ?_)
  have hP : va_P D vwCl [(g0, .inr (2, [.ref gr, .ref go, .int (nI 3), .int (nI 0), .null, .null])), (gr, .inl (dA, 5, .inl (md_iA (fun _ => 0)))), (go, .inl (dA, 5, .inl (md_iA (fun _ => 0))))] H := hP
  have hD : va_D A [(g0, .inr (2, [.ref gr, .ref go, .int (nI 3), .int (nI 0), .null, .null])), (gr, .inl (dA, 5, .inl (md_iA (fun _ => 0)))), (go, .inl (dA, 5, .inl (md_iA (fun _ => 0))))] := hD
  refine lv_aload_n hx hb dX2_init_23 rfl (lv_at hl 0 rfl) ?_
  refine lv_iconst (v := nI 3) hx hb dX2_init_24 (by decide) ?_
  refine va_put (D := D) (ci := 2) (v := .int (nI 3)) (ty := .int) (C := RX2) (T := TX2) (N := 6) hx hb hts in_X2 tyX2 tyX2_ok nmX2 hown hK hP hD hS 0 rfl rfl 3 (by decide) (hts _ q114) (fun _ h9 => h9) rfl (by decide +kernel) rfl rfl (Nat.le_of_ble_eq_true rfl) dX2_init_25 (fun H locs hP hD hS => ?_)
  have hP : va_P D vwCl [(g0, .inr (2, [.ref gr, .ref go, .int (nI 3), .int (nI 3), .null, .null])), (gr, .inl (dA, 5, .inl (md_iA (fun _ => 0)))), (go, .inl (dA, 5, .inl (md_iA (fun _ => 0))))] H := hP
  have hD : va_D A [(g0, .inr (2, [.ref gr, .ref go, .int (nI 3), .int (nI 3), .null, .null])), (gr, .inl (dA, 5, .inl (md_iA (fun _ => 0)))), (go, .inl (dA, 5, .inl (md_iA (fun _ => 0))))] := hD
  refine lv_aload_n hx hb dX2_init_28 rfl (lv_at hl 0 rfl) ?_
  refine lv_sipush (v := nI 7776) hx hb dX2_init_29 (by decide) ?_
  refine nv_newal hx hb (hts _ q130) hK hP hD hS hA (by decide) (by subst hR; exact Nat.le_of_ble_eq_true rfl) (by subst hR; exact Nat.le_of_ble_eq_true rfl) dX2_init_32 (fun gw H hP hD hS => ?_)
  have hP : va_P D vwCl [(g0, .inr (2, [.ref gr, .ref go, .int (nI 3), .int (nI 3), .null, .null])), (gr, .inl (dA, 5, .inl (md_iA (fun _ => 0)))), (go, .inl (dA, 5, .inl (md_iA (fun _ => 0)))), (gw, .inl (dL, 7776, .inr (.inl (md_lA (fun _ => 0)))))] H := hP
  have hD : va_D A [(g0, .inr (2, [.ref gr, .ref go, .int (nI 3), .int (nI 3), .null, .null])), (gr, .inl (dA, 5, .inl (md_iA (fun _ => 0)))), (go, .inl (dA, 5, .inl (md_iA (fun _ => 0)))), (gw, .inl (dL, 7776, .inr (.inl (md_lA (fun _ => 0)))))] := hD
  refine va_putF (D := D) (ci := 2) (v := .ref gw) (ty := .array .long) (C := RX2) (T := TX2) (N := 6) hx hb hts in_X2 tyX2 tyX2_ok nmX2 hown hK hP hD hS 0 rfl rfl 4 (by decide) (hts _ q115) (fun _ h9 => h9) rfl hname rfl (by decide +kernel) rfl rfl (Nat.le_of_ble_eq_true rfl) dX2_init_34 (fun H locs hP hD hS => ?_)
  have hP : va_P D vwCl [(g0, .inr (2, [.ref gr, .ref go, .int (nI 3), .int (nI 3), .ref gw, .null])), (gr, .inl (dA, 5, .inl (md_iA (fun _ => 0)))), (go, .inl (dA, 5, .inl (md_iA (fun _ => 0)))), (gw, .inl (dL, 7776, .inr (.inl (md_lA (fun _ => 0)))))] H := hP
  have hD : va_D A [(g0, .inr (2, [.ref gr, .ref go, .int (nI 3), .int (nI 3), .ref gw, .null])), (gr, .inl (dA, 5, .inl (md_iA (fun _ => 0)))), (go, .inl (dA, 5, .inl (md_iA (fun _ => 0)))), (gw, .inl (dL, 7776, .inr (.inl (md_lA (fun _ => 0)))))] := hD
  refine lv_aload_n hx hb dX2_init_37 rfl (lv_at hl 0 rfl) ?_
  refine lv_sipush (v := nI 7776) hx hb dX2_init_38 (by decide) ?_
  refine nv_newal hx hb (hts _ q130) hK hP hD hS hA (by decide) (by subst hR; exact Nat.le_of_ble_eq_true rfl) (by subst hR; exact Nat.le_of_ble_eq_true rfl) dX2_init_41 (fun gx H hP hD hS => ?_)
  have hP : va_P D vwCl [(g0, .inr (2, [.ref gr, .ref go, .int (nI 3), .int (nI 3), .ref gw, .null])), (gr, .inl (dA, 5, .inl (md_iA (fun _ => 0)))), (go, .inl (dA, 5, .inl (md_iA (fun _ => 0)))), (gw, .inl (dL, 7776, .inr (.inl (md_lA (fun _ => 0))))), (gx, .inl (dL, 7776, .inr (.inl (md_lA (fun _ => 0)))))] H := hP
  have hD : va_D A [(g0, .inr (2, [.ref gr, .ref go, .int (nI 3), .int (nI 3), .ref gw, .null])), (gr, .inl (dA, 5, .inl (md_iA (fun _ => 0)))), (go, .inl (dA, 5, .inl (md_iA (fun _ => 0)))), (gw, .inl (dL, 7776, .inr (.inl (md_lA (fun _ => 0))))), (gx, .inl (dL, 7776, .inr (.inl (md_lA (fun _ => 0)))))] := hD
  refine va_putF (D := D) (ci := 2) (v := .ref gx) (ty := .array .long) (C := RX2) (T := TX2) (N := 6) hx hb hts in_X2 tyX2 tyX2_ok nmX2 hown hK hP hD hS 0 rfl rfl 5 (by decide) (hts _ q116) (fun _ h9 => h9) rfl hname rfl (by decide +kernel) rfl rfl (Nat.le_of_ble_eq_true rfl) dX2_init_43 (fun H locs hP hD hS => ?_)
  have hP : va_P D vwCl [(g0, .inr (2, [.ref gr, .ref go, .int (nI 3), .int (nI 3), .ref gw, .ref gx])), (gr, .inl (dA, 5, .inl (md_iA (fun _ => 0)))), (go, .inl (dA, 5, .inl (md_iA (fun _ => 0)))), (gw, .inl (dL, 7776, .inr (.inl (md_lA (fun _ => 0))))), (gx, .inl (dL, 7776, .inr (.inl (md_lA (fun _ => 0)))))] H := hP
  have hD : va_D A [(g0, .inr (2, [.ref gr, .ref go, .int (nI 3), .int (nI 3), .ref gw, .ref gx])), (gr, .inl (dA, 5, .inl (md_iA (fun _ => 0)))), (go, .inl (dA, 5, .inl (md_iA (fun _ => 0)))), (gw, .inl (dL, 7776, .inr (.inl (md_lA (fun _ => 0))))), (gx, .inl (dL, 7776, .inr (.inl (md_lA (fun _ => 0)))))] := hD
  exact hret _ _ _ _ (gr, go, gw, gx) dX2_init_46 trivial hP hD hS
end
section
set_option maxHeartbeats 4000000 in
set_option maxRecDepth 100000 in
/-- count(): by rows, the sums of the columns as a number in base 6 -/
theorem mX2_count (l : Launch) (D : va_G) (dA dL : ClassId) (g0 gr go gw gx sz nr nc : Nat) (row col wy nx : Nat → Nat) (hn5 : nr ≤ 5) (hm1 : 1 ≤ nc) (hm5 : nc ≤ 5) (hrow : ∀ i, i < 5 → row i ≤ 5) (hcol : ∀ i, i < 5 → col i ≤ 5) : Met l yX2_count (ws_ yX2_count cX2_count 8 (some .long)) ({ frames := 1, cells := 0, slots := 0, locals := 22 }) (va_Pc [.ref g0] (mdPre D dA dL (md_wM dA dL g0 gr go gw gx nr nc row col wy nx) sz))
    (va_Ql (fun (r : Int64) (_ : (Nat → Nat) × (Nat → Nat)) => r = lN (md_W nc row nr (md_code (md_rl col 0 nc)))) (fun u t => mdB D dA dL (va_A (md_wM dA dL g0 gr go gw gx nr nc row col wy nx) sz) (md_wM dA dL g0 gr go gw gx nr nc row col u.1 u.2) t) (va_A (md_wM dA dL g0 gr go gw gx nr nc row col wy nx) sz)) 0 0 (va_A (md_wM dA dL g0 gr go gw gx nr nc row col wy nx) sz) := by
  refine md_MetL (w1 := fun u : (Nat → Nat) × (Nat → Nat) => md_wM dA dL g0 gr go gw gx nr nc row col u.1 u.2) (by decide) (Nat.le_of_ble_eq_true rfl) ?_
  intro p e s m below meth c ls args A Q R hR hx hb hml hts hown hname hA hP hK hD hS hl hret
  have hown : s.vm.findClass RX2 = some m.cls := hown
  have hl : lv_has ls 8 [(0, .ref g0)] := hl
  have hP : va_P D vwCl [(g0, .inr (2, [.ref gr, .ref go, .int (nI nr), .int (nI nc), .ref gw, .ref gx])), (gr, .inl (dA, 5, .inl (md_iA row))), (go, .inl (dA, 5, .inl (md_iA col))), (gw, .inl (dL, 7776, .inr (.inl (md_lA wy)))), (gx, .inl (dL, 7776, .inr (.inl (md_lA nx))))] s.heap := hP
  have hD : va_D A [(g0, .inr (2, [.ref gr, .ref go, .int (nI nr), .int (nI nc), .ref gw, .ref gx])), (gr, .inl (dA, 5, .inl (md_iA row))), (go, .inl (dA, 5, .inl (md_iA col))), (gw, .inl (dL, 7776, .inr (.inl (md_lA wy)))), (gx, .inl (dL, 7776, .inr (.inl (md_lA nx))))] := hD
  obtain ⟨al, eal⟩ : ∃ z, z = 6 ^ nc := ⟨_, rfl⟩
  have hal : al ≤ 7776 := by rw [eal]; exact md_6le hm5
  have h2n := md_2le hm5
  have loopG : ∀ (j : Nat) (f g : Nat → Nat) (H : Heap) (locs : List Loc) (ls : Array Slot), j ≤ nc → (∀ i, i < al → f i = md_W nc row nr i) → va_P D vwCl [(g0, .inr (2, [.ref gr, .ref go, .int (nI nr), .int (nI nc), .ref gw, .ref gx])), (gr, .inl (dA, 5, .inl (md_iA row))), (go, .inl (dA, 5, .inl (md_iA col))), (gw, .inl (dL, 7776, .inr (.inl (md_lA f)))), (gx, .inl (dL, 7776, .inr (.inl (md_lA g))))] H → va_D A [(g0, .inr (2, [.ref gr, .ref go, .int (nI nr), .int (nI nc), .ref gw, .ref gx])), (gr, .inl (dA, 5, .inl (md_iA row))), (go, .inl (dA, 5, .inl (md_iA col))), (gw, .inl (dL, 7776, .inr (.inl (md_lA f)))), (gx, .inl (dL, 7776, .inr (.inl (md_lA g))))] → va_S A s.heap H locs → lv_has ls 8 [(0, .ref g0), (2, .int (nI (md_code (md_rl col j (nc - j))))), (3, .int (md_p j))] → W p l e R s m args below meth c H locs 0 0 Q (F0 m 246 ls []) := by
    intro j
    induction j with
    | zero =>
      intro f g H locs ls _ hf hP hD hS hl
      have hgl := md_code_in hm5 hcol nc 0 (by omega)
      rw [Nat.sub_zero] at hl
      refine lv_iload_n hx hb dX2_count_246 rfl (lv_at hl 2 rfl) ?_
      refine nv_iflt0 (tgt := 268) hx hb dX2_count_247 (by decide) ?_
      refine lv_aload_n hx hb dX2_count_268 rfl (lv_at hl 0 rfl) ?_
      refine va_get (D := D) (ci := 2) (v := .ref gw) (C := RX2) (T := TX2) (N := 6) hx hb hts in_X2 hown hK hP 0 rfl rfl 4 (by decide) (hts _ q115) (fun _ h9 => h9) rfl dX2_count_269 ?_
      refine lv_iload_n hx hb dX2_count_272 rfl (lv_at hl 1 rfl) ?_
      refine nv_lald hx hb hK hP 3 1 rfl rfl (by omega) (by decide) dX2_count_273 ?_
      exact hret _ _ _ _ _ (f, g) dX2_count_274 (by rw [hf _ (by omega)]) hP hD hS
    | succ i ih =>
      intro f g H locs ls hi hf hP hD hS hl
      rw [md_p_S] at hl
      refine lv_iload_n hx hb dX2_count_246 rfl (lv_at hl 2 rfl) ?_
      refine nv_ifltS hx hb (by omega) dX2_count_247 (tgt := 268) (by decide) ?_
      refine lv_bipush (v := nI 6) hx hb dX2_count_250 (by decide) ?_
      refine lv_iload_n hx hb dX2_count_252 rfl (lv_at hl 1 rfl) ?_
      refine nv_mul hx hb dX2_count_253 ?_
      refine lv_aload_n hx hb dX2_count_254 rfl (lv_at hl 0 rfl) ?_
      refine va_get (D := D) (ci := 2) (v := .ref go) (C := RX2) (T := TX2) (N := 6) hx hb hts in_X2 hown hK hP 0 rfl rfl 1 (by decide) (hts _ q112) (fun _ h9 => h9) rfl dX2_count_255 ?_
      refine lv_iload_n hx hb dX2_count_258 rfl (lv_at hl 2 rfl) ?_
      refine nv_iald hx hb hK hP 2 0 rfl rfl (by omega) (by decide) dX2_count_259 ?_
      refine nv_add hx hb dX2_count_260 ?_
      refine nv_i (y := nI (md_code (md_rl col i (nc - i)))) (by rw [show nc - i = nc - (i + 1) + 1 by omega]; show _ = nI (col i + 6 * _); rw [Nat.add_comm]) ?_
      refine lv_istore_n (lv' := [(2, .int (nI (md_code (md_rl col i (nc - i))))), (0, .ref g0), (3, .int (nI i))]) hx hb dX2_count_261 rfl hl (by decide) rfl (fun ls hl => ?_)
      refine lv_iinc (v := (md_p i)) (lv' := [(3, .int (md_p i)), (2, .int (nI (md_code (md_rl col i (nc - i))))), (0, .ref g0)]) hx hb dX2_count_262 hl (k := 2) rfl (nv_dec _) (by decide) rfl (fun ls hl => ?_)
      refine lv_goto (tgt := 246) hx hb dX2_count_265 (by decide) ?_
      exact ih f g _ _ ls (by omega) hf hP hD hS (lv_sub hl [2, 1, 0] rfl)
  have loopR : ∀ (dr r : Nat) (f g : Nat → Nat) (H : Heap) (locs : List Loc) (ls : Array Slot), r + dr = nr → (∀ i, i < al → f i = md_W nc row r i) → va_P D vwCl [(g0, .inr (2, [.ref gr, .ref go, .int (nI nr), .int (nI nc), .ref gw, .ref gx])), (gr, .inl (dA, 5, .inl (md_iA row))), (go, .inl (dA, 5, .inl (md_iA col))), (gw, .inl (dL, 7776, .inr (.inl (md_lA f)))), (gx, .inl (dL, 7776, .inr (.inl (md_lA g))))] H → va_D A [(g0, .inr (2, [.ref gr, .ref go, .int (nI nr), .int (nI nc), .ref gw, .ref gx])), (gr, .inl (dA, 5, .inl (md_iA row))), (go, .inl (dA, 5, .inl (md_iA col))), (gw, .inl (dL, 7776, .inr (.inl (md_lA f)))), (gx, .inl (dL, 7776, .inr (.inl (md_lA g))))] → va_S A s.heap H locs → lv_has ls 8 [(0, .ref g0), (1, .int (nI al)), (2, .int (nI r))] → W p l e R s m args below meth c H locs 0 0 Q (F0 m 35 ls []) := by
    intro dr
    induction dr with
    | zero =>
      intro r f g H locs ls hr hf hP hD hS hl
      have hr : r = nr := by omega
      subst hr
      refine lv_iload_n hx hb dX2_count_35 rfl (lv_at hl 2 rfl) ?_
      refine lv_aload_n hx hb dX2_count_36 rfl (lv_at hl 0 rfl) ?_
      refine va_get (D := D) (ci := 2) (v := .int (nI r)) (C := RX2) (T := TX2) (N := 6) hx hb hts in_X2 hown hK hP 0 rfl rfl 2 (by decide) (hts _ q113) (fun _ h9 => h9) rfl dX2_count_37 ?_
      refine nv_ge (tgt := 237) hx hb (by omega) (by omega) dX2_count_40 (by decide) (fun hc => ?_) (fun hc => ?_)
      · refine lv_iconst (v := nI 0) hx hb dX2_count_237 (by decide) ?_
        refine lv_istore_n (lv' := [(2, .int (nI 0)), (0, .ref g0), (1, .int (nI al))]) hx hb dX2_count_238 rfl hl (by decide) rfl (fun ls hl => ?_)
        refine lv_aload_n hx hb dX2_count_239 rfl (lv_at hl 1 rfl) ?_
        refine va_get (D := D) (ci := 2) (v := .int (nI nc)) (C := RX2) (T := TX2) (N := 6) hx hb hts in_X2 hown hK hP 0 rfl rfl 3 (by decide) (hts _ q114) (fun _ h9 => h9) rfl dX2_count_240 ?_
        refine lv_iconst (v := nI 1) hx hb dX2_count_243 (by decide) ?_
        refine lv_isub hx hb dX2_count_244 ?_
        refine nv_i (y := md_p nc) rfl ?_
        refine lv_istore_n (lv' := [(3, .int (md_p nc)), (2, .int (nI 0)), (0, .ref g0), (1, .int (nI al))]) hx hb dX2_count_245 rfl hl (by decide) rfl (fun ls hl => ?_)
        exact loopG nc f g _ _ ls (by omega) hf hP hD hS (by rw [Nat.sub_self]; exact lv_sub hl [2, 1, 0] rfl)
      · exact absurd hc (by omega)
    | succ dr ih =>
      intro r f g0_ H locs ls hr hf hP hD hS hl
      refine lv_iload_n hx hb dX2_count_35 rfl (lv_at hl 2 rfl) ?_
      refine lv_aload_n hx hb dX2_count_36 rfl (lv_at hl 0 rfl) ?_
      refine va_get (D := D) (ci := 2) (v := .int (nI nr)) (C := RX2) (T := TX2) (N := 6) hx hb hts in_X2 hown hK hP 0 rfl rfl 2 (by decide) (hts _ q113) (fun _ h9 => h9) rfl dX2_count_37 ?_
      refine nv_ge (tgt := 237) hx hb (by omega) (by omega) dX2_count_40 (by decide) (fun hc => ?_) (fun hc => ?_)
      · exact absurd hc (by omega)
      · have hf63 : ∀ i, i < al → f i < 2 ^ 63 := fun i hi => by rw [hf i hi]; exact md_W63 hm5 (by omega) i
        have hrr := hrow r (by omega)
        have loopP : ∀ (dd q : Nat) (f2 g : Nat → Nat) (H : Heap) (locs : List Loc) (ls : Array Slot), q + dd = al → (∀ i, i < al → g i = md_W nc row (r + 1) i) → (∀ i, i < q → f2 i = md_W nc row (r + 1) i) → va_P D vwCl [(g0, .inr (2, [.ref gr, .ref go, .int (nI nr), .int (nI nc), .ref gw, .ref gx])), (gr, .inl (dA, 5, .inl (md_iA row))), (go, .inl (dA, 5, .inl (md_iA col))), (gw, .inl (dL, 7776, .inr (.inl (md_lA f2)))), (gx, .inl (dL, 7776, .inr (.inl (md_lA g))))] H → va_D A [(g0, .inr (2, [.ref gr, .ref go, .int (nI nr), .int (nI nc), .ref gw, .ref gx])), (gr, .inl (dA, 5, .inl (md_iA row))), (go, .inl (dA, 5, .inl (md_iA col))), (gw, .inl (dL, 7776, .inr (.inl (md_lA f2)))), (gx, .inl (dL, 7776, .inr (.inl (md_lA g))))] → va_S A s.heap H locs → lv_has ls 8 [(0, .ref g0), (1, .int (nI al)), (2, .int (nI r)), (3, .int (nI q))] → W p l e R s m args below meth c H locs 0 0 Q (F0 m 208 ls []) := by
          intro dd
          induction dd with
          | zero =>
            intro q f2 g H locs ls hq hg hf2 hP hD hS hl
            refine lv_iload_n hx hb dX2_count_208 rfl (lv_at hl 3 rfl) ?_
            refine lv_iload_n hx hb dX2_count_209 rfl (lv_at hl 1 rfl) ?_
            refine nv_ge (tgt := 231) hx hb (by omega) (by omega) dX2_count_210 (by decide) (fun hc => ?_) (fun hc => ?_)
            · refine lv_iinc (v := (nI (r + 1))) (lv' := [(2, .int (nI (r + 1))), (0, .ref g0), (1, .int (nI al)), (3, .int (nI q))]) hx hb dX2_count_231 hl (k := 2) rfl (nv_inc1 _) (by decide) rfl (fun ls hl => ?_)
              refine lv_goto (tgt := 35) hx hb dX2_count_234 (by decide) ?_
              exact ih (r + 1) f2 g _ _ ls (by omega) (fun i hi => hf2 i (by omega)) hP hD hS (lv_sub hl [1, 2, 0] rfl)
            · exact absurd hc (by omega)
          | succ dd ih2 =>
            intro q f2 g H locs ls hq hg hf2 hP hD hS hl
            refine lv_iload_n hx hb dX2_count_208 rfl (lv_at hl 3 rfl) ?_
            refine lv_iload_n hx hb dX2_count_209 rfl (lv_at hl 1 rfl) ?_
            refine nv_ge (tgt := 231) hx hb (by omega) (by omega) dX2_count_210 (by decide) (fun hc => ?_) (fun hc => ?_)
            · exact absurd hc (by omega)
            · refine lv_aload_n hx hb dX2_count_213 rfl (lv_at hl 0 rfl) ?_
              refine va_get (D := D) (ci := 2) (v := .ref gw) (C := RX2) (T := TX2) (N := 6) hx hb hts in_X2 hown hK hP 0 rfl rfl 4 (by decide) (hts _ q115) (fun _ h9 => h9) rfl dX2_count_214 ?_
              refine lv_iload_n hx hb dX2_count_217 rfl (lv_at hl 3 rfl) ?_
              refine lv_aload_n hx hb dX2_count_218 rfl (lv_at hl 0 rfl) ?_
              refine va_get (D := D) (ci := 2) (v := .ref gx) (C := RX2) (T := TX2) (N := 6) hx hb hts in_X2 hown hK hP 0 rfl rfl 5 (by decide) (hts _ q116) (fun _ h9 => h9) rfl dX2_count_219 ?_
              refine lv_iload_n hx hb dX2_count_222 rfl (lv_at hl 3 rfl) ?_
              refine nv_lald hx hb hK hP 4 1 rfl rfl (by omega) (by decide) dX2_count_223 ?_
              refine nv_last hx hb hK hP hD hS 3 1 rfl rfl (by omega) (by decide) dX2_count_224 (fun H locs hP hD hS => ?_)
              have hP : va_P D vwCl [(g0, .inr (2, [.ref gr, .ref go, .int (nI nr), .int (nI nc), .ref gw, .ref gx])), (gr, .inl (dA, 5, .inl (md_iA row))), (go, .inl (dA, 5, .inl (md_iA col))), (gw, .inl (dL, 7776, .inr (.inl (md_lA (md_up f2 q (g q)))))), (gx, .inl (dL, 7776, .inr (.inl (md_lA g))))] H := hP
              have hD : va_D A [(g0, .inr (2, [.ref gr, .ref go, .int (nI nr), .int (nI nc), .ref gw, .ref gx])), (gr, .inl (dA, 5, .inl (md_iA row))), (go, .inl (dA, 5, .inl (md_iA col))), (gw, .inl (dL, 7776, .inr (.inl (md_lA (md_up f2 q (g q)))))), (gx, .inl (dL, 7776, .inr (.inl (md_lA g))))] := hD
              refine lv_iinc (v := (nI (q + 1))) (lv' := [(3, .int (nI (q + 1))), (0, .ref g0), (1, .int (nI al)), (2, .int (nI r))]) hx hb dX2_count_225 hl (k := 3) rfl (nv_inc1 _) (by decide) rfl (fun ls hl => ?_)
              refine lv_goto (tgt := 208) hx hb dX2_count_228 (by decide) ?_
              refine ih2 (q + 1) _ g _ _ ls (by omega) hg (fun i hi => ?_) hP hD hS (lv_sub hl [1, 2, 3, 0] rfl)
              by_cases e1 : i = q
              · subst e1; rw [md_up_s]; exact hg i (by omega)
              · rw [md_up_n e1]; exact hf2 i (by omega)
        have loopS : ∀ (ds t : Nat) (g : Nat → Nat) (H : Heap) (locs : List Loc) (ls : Array Slot), t + ds = 2 ^ nc → (∀ i, i < al → g i = md_NS nc row r t i) → va_P D vwCl [(g0, .inr (2, [.ref gr, .ref go, .int (nI nr), .int (nI nc), .ref gw, .ref gx])), (gr, .inl (dA, 5, .inl (md_iA row))), (go, .inl (dA, 5, .inl (md_iA col))), (gw, .inl (dL, 7776, .inr (.inl (md_lA f)))), (gx, .inl (dL, 7776, .inr (.inl (md_lA g))))] H → va_D A [(g0, .inr (2, [.ref gr, .ref go, .int (nI nr), .int (nI nc), .ref gw, .ref gx])), (gr, .inl (dA, 5, .inl (md_iA row))), (go, .inl (dA, 5, .inl (md_iA col))), (gw, .inl (dL, 7776, .inr (.inl (md_lA f)))), (gx, .inl (dL, 7776, .inr (.inl (md_lA g))))] → va_S A s.heap H locs → lv_has ls 8 [(0, .ref g0), (1, .int (nI al)), (2, .int (nI r)), (3, .int (nI t))] → W p l e R s m args below meth c H locs 0 0 Q (F0 m 65 ls []) := by
          intro ds
          induction ds with
          | zero =>
            intro t g H locs ls ht hg hP hD hS hl
            refine lv_iload_n hx hb dX2_count_65 rfl (lv_at hl 3 rfl) ?_
            refine lv_iconst (v := nI 1) hx hb dX2_count_66 (by decide) ?_
            refine lv_aload_n hx hb dX2_count_67 rfl (lv_at hl 0 rfl) ?_
            refine va_get (D := D) (ci := 2) (v := .int (nI nc)) (C := RX2) (T := TX2) (N := 6) hx hb hts in_X2 hown hK hP 0 rfl rfl 3 (by decide) (hts _ q114) (fun _ h9 => h9) rfl dX2_count_68 ?_
            refine lv_ishl hx hb dX2_count_71 ?_
            refine nv_i (md_shl hm5) ?_
            refine nv_ge (tgt := 206) hx hb (by omega) (by omega) dX2_count_72 (by decide) (fun hc => ?_) (fun hc => ?_)
            · refine lv_iconst (v := nI 0) hx hb dX2_count_206 (by decide) ?_
              refine lv_istore_n (lv' := [(3, .int (nI 0)), (0, .ref g0), (1, .int (nI al)), (2, .int (nI r))]) hx hb dX2_count_207 rfl hl (by decide) rfl (fun ls hl => ?_)
              exact loopP al 0 f g _ _ ls (by omega) (fun i hi => by rw [hg i hi, show t = 2 ^ nc by omega]; rfl) (fun i hi => by omega) hP hD hS (lv_sub hl [1, 2, 3, 0] rfl)
            · exact absurd hc (by omega)
          | succ ds ih2 =>
            intro t g H locs ls ht hg hP hD hS hl
            refine lv_iload_n hx hb dX2_count_65 rfl (lv_at hl 3 rfl) ?_
            refine lv_iconst (v := nI 1) hx hb dX2_count_66 (by decide) ?_
            refine lv_aload_n hx hb dX2_count_67 rfl (lv_at hl 0 rfl) ?_
            refine va_get (D := D) (ci := 2) (v := .int (nI nc)) (C := RX2) (T := TX2) (N := 6) hx hb hts in_X2 hown hK hP 0 rfl rfl 3 (by decide) (hts _ q114) (fun _ h9 => h9) rfl dX2_count_68 ?_
            refine lv_ishl hx hb dX2_count_71 ?_
            refine nv_i (md_shl hm5) ?_
            refine nv_ge (tgt := 206) hx hb (by omega) (by omega) dX2_count_72 (by decide) (fun hc => ?_) (fun hc => ?_)
            · exact absurd hc (by omega)
            · obtain ⟨ad, ead⟩ : ∃ z, z = md_add nc t := ⟨_, rfl⟩
              have had : ad ≤ nc * 7776 := by rw [ead]; exact md_add_le hm5
              have hpop : md_pop nc t ≤ nc * 1 := md_pop_le
              have nextS : ∀ (g2 : Nat → Nat) (H : Heap) (locs : List Loc) (ls : Array Slot), (∀ i, i < al → g2 i = md_NS nc row r (t + 1) i) → va_P D vwCl [(g0, .inr (2, [.ref gr, .ref go, .int (nI nr), .int (nI nc), .ref gw, .ref gx])), (gr, .inl (dA, 5, .inl (md_iA row))), (go, .inl (dA, 5, .inl (md_iA col))), (gw, .inl (dL, 7776, .inr (.inl (md_lA f)))), (gx, .inl (dL, 7776, .inr (.inl (md_lA g2))))] H → va_D A [(g0, .inr (2, [.ref gr, .ref go, .int (nI nr), .int (nI nc), .ref gw, .ref gx])), (gr, .inl (dA, 5, .inl (md_iA row))), (go, .inl (dA, 5, .inl (md_iA col))), (gw, .inl (dL, 7776, .inr (.inl (md_lA f)))), (gx, .inl (dL, 7776, .inr (.inl (md_lA g2))))] → va_S A s.heap H locs → lv_has ls 8 [(0, .ref g0), (1, .int (nI al)), (2, .int (nI r)), (3, .int (nI t))] → W p l e R s m args below meth c H locs 0 0 Q (F0 m 200 ls []) := by
                intro g2 H locs ls hg2 hP hD hS hl
                refine lv_iinc (v := (nI (t + 1))) (lv' := [(3, .int (nI (t + 1))), (0, .ref g0), (1, .int (nI al)), (2, .int (nI r))]) hx hb dX2_count_200 hl (k := 3) rfl (nv_inc1 _) (by decide) rfl (fun ls hl => ?_)
                refine lv_goto (tgt := 65) hx hb dX2_count_203 (by decide) ?_
                exact ih2 (t + 1) g2 _ _ ls (by omega) hg2 hP hD hS (lv_sub hl [1, 2, 3, 0] rfl)
              have loopC : md_pop nc t = row r → ∀ (dd q : Nat) (g2 : Nat → Nat) (H : Heap) (locs : List Loc) (ls : Array Slot), q + dd = al → (∀ i, i < al → g2 i = md_NS nc row r t i + if ad ≤ i ∧ i - ad < q then md_W nc row r (i - ad) else 0) → va_P D vwCl [(g0, .inr (2, [.ref gr, .ref go, .int (nI nr), .int (nI nc), .ref gw, .ref gx])), (gr, .inl (dA, 5, .inl (md_iA row))), (go, .inl (dA, 5, .inl (md_iA col))), (gw, .inl (dL, 7776, .inr (.inl (md_lA f)))), (gx, .inl (dL, 7776, .inr (.inl (md_lA g2))))] H → va_D A [(g0, .inr (2, [.ref gr, .ref go, .int (nI nr), .int (nI nc), .ref gw, .ref gx])), (gr, .inl (dA, 5, .inl (md_iA row))), (go, .inl (dA, 5, .inl (md_iA col))), (gw, .inl (dL, 7776, .inr (.inl (md_lA f)))), (gx, .inl (dL, 7776, .inr (.inl (md_lA g2))))] → va_S A s.heap H locs → lv_has ls 8 [(0, .ref g0), (1, .int (nI al)), (2, .int (nI r)), (3, .int (nI t)), (5, .int (nI ad)), (7, .int (nI q))] → W p l e R s m args below meth c H locs 0 0 Q (F0 m 145 ls []) := by
                intro hp dd
                have fin : ∀ (q : Nat) (g2 : Nat → Nat) (H : Heap) (locs : List Loc) (ls : Array Slot), al ≤ q + ad → (∀ i, i < al → g2 i = md_NS nc row r t i + if ad ≤ i ∧ i - ad < q then md_W nc row r (i - ad) else 0) → va_P D vwCl [(g0, .inr (2, [.ref gr, .ref go, .int (nI nr), .int (nI nc), .ref gw, .ref gx])), (gr, .inl (dA, 5, .inl (md_iA row))), (go, .inl (dA, 5, .inl (md_iA col))), (gw, .inl (dL, 7776, .inr (.inl (md_lA f)))), (gx, .inl (dL, 7776, .inr (.inl (md_lA g2))))] H → va_D A [(g0, .inr (2, [.ref gr, .ref go, .int (nI nr), .int (nI nc), .ref gw, .ref gx])), (gr, .inl (dA, 5, .inl (md_iA row))), (go, .inl (dA, 5, .inl (md_iA col))), (gw, .inl (dL, 7776, .inr (.inl (md_lA f)))), (gx, .inl (dL, 7776, .inr (.inl (md_lA g2))))] → va_S A s.heap H locs → lv_has ls 8 [(0, .ref g0), (1, .int (nI al)), (2, .int (nI r)), (3, .int (nI t))] → W p l e R s m args below meth c H locs 0 0 Q (F0 m 200 ls []) := by
                  intro q g2 H locs ls hq hg2 hP hD hS hl
                  refine nextS g2 H locs ls (fun i hi => ?_) hP hD hS hl
                  rw [hg2 i hi, md_NS_S, ← ead]
                  by_cases e1 : ad ≤ i
                  · rw [if_pos ⟨e1, by omega⟩, if_pos ⟨hp, e1⟩]
                  · rw [if_neg (fun z => e1 z.1), if_neg (fun z => e1 z.2)]
                induction dd with
                | zero =>
                  intro q g2 H locs ls hq hg2 hP hD hS hl
                  refine lv_iload hx hb dX2_count_145 (lv_at hl 5 rfl) ?_
                  refine lv_iload hx hb dX2_count_147 (lv_at hl 4 rfl) ?_
                  refine nv_add hx hb dX2_count_149 ?_
                  refine lv_iload_n hx hb dX2_count_150 rfl (lv_at hl 1 rfl) ?_
                  refine nv_ge (tgt := 200) hx hb (by omega) (by omega) dX2_count_151 (by decide) (fun hc => ?_) (fun hc => ?_)
                  · exact fin q g2 H locs ls (by omega) hg2 hP hD hS (lv_sub hl [0, 1, 2, 3] rfl)
                  · exact absurd hc (by omega)
                | succ dd ih3 =>
                  intro q g2 H locs ls hq hg2 hP hD hS hl
                  refine lv_iload hx hb dX2_count_145 (lv_at hl 5 rfl) ?_
                  refine lv_iload hx hb dX2_count_147 (lv_at hl 4 rfl) ?_
                  refine nv_add hx hb dX2_count_149 ?_
                  refine lv_iload_n hx hb dX2_count_150 rfl (lv_at hl 1 rfl) ?_
                  refine nv_ge (tgt := 200) hx hb (by omega) (by omega) dX2_count_151 (by decide) (fun hc => ?_) (fun hc => ?_)
                  · exact fin q g2 H locs ls (by omega) hg2 hP hD hS (lv_sub hl [0, 1, 2, 3] rfl)
                  · have hfq := hf63 q (by omega)
                    have nextC : ∀ (g3 : Nat → Nat) (H : Heap) (locs : List Loc) (ls : Array Slot), (∀ i, i < al → g3 i = if i = q + ad then g2 i + f q else g2 i) → va_P D vwCl [(g0, .inr (2, [.ref gr, .ref go, .int (nI nr), .int (nI nc), .ref gw, .ref gx])), (gr, .inl (dA, 5, .inl (md_iA row))), (go, .inl (dA, 5, .inl (md_iA col))), (gw, .inl (dL, 7776, .inr (.inl (md_lA f)))), (gx, .inl (dL, 7776, .inr (.inl (md_lA g3))))] H → va_D A [(g0, .inr (2, [.ref gr, .ref go, .int (nI nr), .int (nI nc), .ref gw, .ref gx])), (gr, .inl (dA, 5, .inl (md_iA row))), (go, .inl (dA, 5, .inl (md_iA col))), (gw, .inl (dL, 7776, .inr (.inl (md_lA f)))), (gx, .inl (dL, 7776, .inr (.inl (md_lA g3))))] → va_S A s.heap H locs → lv_has ls 8 [(0, .ref g0), (1, .int (nI al)), (2, .int (nI r)), (3, .int (nI t)), (5, .int (nI ad)), (7, .int (nI q))] → W p l e R s m args below meth c H locs 0 0 Q (F0 m 194 ls []) := by
                      intro g3 H locs ls hg3 hP hD hS hl
                      refine lv_iinc (v := (nI (q + 1))) (lv' := [(7, .int (nI (q + 1))), (0, .ref g0), (1, .int (nI al)), (2, .int (nI r)), (3, .int (nI t)), (5, .int (nI ad))]) hx hb dX2_count_194 hl (k := 5) rfl (nv_inc1 _) (by decide) rfl (fun ls hl => ?_)
                      refine lv_goto (tgt := 145) hx hb dX2_count_197 (by decide) ?_
                      refine ih3 (q + 1) g3 _ _ ls (by omega) (fun i hi => ?_) hP hD hS (lv_sub hl [1, 2, 3, 4, 5, 0] rfl)
                      rw [hg3 i hi]
                      by_cases e1 : i = q + ad
                      · rw [if_pos e1, hg2 i hi, if_neg (by omega), if_pos (by omega), hf q (by omega), show i - ad = q by omega]; omega
                      · rw [if_neg e1, hg2 i hi]
                        by_cases e2 : ad ≤ i ∧ i - ad < q
                        · rw [if_pos e2, if_pos (by omega)]
                        · rw [if_neg e2, if_neg (by omega)]
                    refine lv_aload_n hx hb dX2_count_154 rfl (lv_at hl 0 rfl) ?_
                    refine va_get (D := D) (ci := 2) (v := .ref gw) (C := RX2) (T := TX2) (N := 6) hx hb hts in_X2 hown hK hP 0 rfl rfl 4 (by decide) (hts _ q115) (fun _ h9 => h9) rfl dX2_count_155 ?_
                    refine lv_iload hx hb dX2_count_158 (lv_at hl 5 rfl) ?_
                    refine nv_lald hx hb hK hP 3 1 rfl rfl (by omega) (by decide) dX2_count_160 ?_
                    refine lv_lconst (v := lN 0) hx hb dX2_count_161 (by decide) ?_
                    refine W.lcmp hx hb dX2_count_162 ?_
                    refine lv_if_le (tgt := 194) hx hb dX2_count_163 (by decide) (fun hc5 => ?_) (fun hc5 => ?_)
                    · have h0 := (nv_cmpLe hfq (by decide)).mp hc5
                      exact nextC g2 H locs ls (fun i hi => by split <;> omega) hP hD hS hl
                    · refine lv_aload_n hx hb dX2_count_166 rfl (lv_at hl 0 rfl) ?_
                      refine va_get (D := D) (ci := 2) (v := .ref gx) (C := RX2) (T := TX2) (N := 6) hx hb hts in_X2 hown hK hP 0 rfl rfl 5 (by decide) (hts _ q116) (fun _ h9 => h9) rfl dX2_count_167 ?_
                      refine lv_iload hx hb dX2_count_170 (lv_at hl 5 rfl) ?_
                      refine lv_iload hx hb dX2_count_172 (lv_at hl 4 rfl) ?_
                      refine nv_add hx hb dX2_count_174 ?_
                      refine lv_aload_n hx hb dX2_count_175 rfl (lv_at hl 0 rfl) ?_
                      refine va_get (D := D) (ci := 2) (v := .ref gx) (C := RX2) (T := TX2) (N := 6) hx hb hts in_X2 hown hK hP 0 rfl rfl 5 (by decide) (hts _ q116) (fun _ h9 => h9) rfl dX2_count_176 ?_
                      refine lv_iload hx hb dX2_count_179 (lv_at hl 5 rfl) ?_
                      refine lv_iload hx hb dX2_count_181 (lv_at hl 4 rfl) ?_
                      refine nv_add hx hb dX2_count_183 ?_
                      refine nv_lald hx hb hK hP 4 1 rfl rfl (by omega) (by decide) dX2_count_184 ?_
                      refine lv_aload_n hx hb dX2_count_185 rfl (lv_at hl 0 rfl) ?_
                      refine va_get (D := D) (ci := 2) (v := .ref gw) (C := RX2) (T := TX2) (N := 6) hx hb hts in_X2 hown hK hP 0 rfl rfl 4 (by decide) (hts _ q115) (fun _ h9 => h9) rfl dX2_count_186 ?_
                      refine lv_iload hx hb dX2_count_189 (lv_at hl 5 rfl) ?_
                      refine nv_lald hx hb hK hP 3 1 rfl rfl (by omega) (by decide) dX2_count_191 ?_
                      refine nv_ladd hx hb dX2_count_192 ?_
                      refine nv_last hx hb hK hP hD hS 4 1 rfl rfl (by omega) (by decide) dX2_count_193 (fun H locs hP hD hS => ?_)
                      have hP : va_P D vwCl [(g0, .inr (2, [.ref gr, .ref go, .int (nI nr), .int (nI nc), .ref gw, .ref gx])), (gr, .inl (dA, 5, .inl (md_iA row))), (go, .inl (dA, 5, .inl (md_iA col))), (gw, .inl (dL, 7776, .inr (.inl (md_lA f)))), (gx, .inl (dL, 7776, .inr (.inl (md_lA (md_up g2 (q + ad) ((g2 (q + ad)) + (f q)))))))] H := hP
                      have hD : va_D A [(g0, .inr (2, [.ref gr, .ref go, .int (nI nr), .int (nI nc), .ref gw, .ref gx])), (gr, .inl (dA, 5, .inl (md_iA row))), (go, .inl (dA, 5, .inl (md_iA col))), (gw, .inl (dL, 7776, .inr (.inl (md_lA f)))), (gx, .inl (dL, 7776, .inr (.inl (md_lA (md_up g2 (q + ad) ((g2 (q + ad)) + (f q)))))))] := hD
                      refine nextC _ _ _ ls (fun i hi => ?_) hP hD hS (lv_sub hl [0, 1, 2, 3, 4, 5] rfl)
                      by_cases e1 : i = q + ad
                      · rw [if_pos e1, e1, md_up_s]
                      · rw [if_neg e1, md_up_n e1]
              have after : ∀ (ls : Array Slot), lv_has ls 8 [(0, .ref g0), (1, .int (nI al)), (2, .int (nI r)), (3, .int (nI t)), (4, .int (nI (md_pop nc t))), (5, .int (nI ad))] → W p l e R s m args below meth c H locs 0 0 Q (F0 m 131 ls []) := by
                intro ls hl
                refine lv_iload hx hb dX2_count_131 (lv_at hl 4 rfl) ?_
                refine lv_aload_n hx hb dX2_count_133 rfl (lv_at hl 0 rfl) ?_
                refine va_get (D := D) (ci := 2) (v := .ref gr) (C := RX2) (T := TX2) (N := 6) hx hb hts in_X2 hown hK hP 0 rfl rfl 0 (by decide) (hts _ q111) (fun _ h9 => h9) rfl dX2_count_134 ?_
                refine lv_iload_n hx hb dX2_count_137 rfl (lv_at hl 2 rfl) ?_
                refine nv_iald hx hb hK hP 1 0 rfl rfl (by omega) (by decide) dX2_count_138 ?_
                refine nv_ne (tgt := 200) hx hb (by omega) (by omega) dX2_count_139 (by decide) (fun hc6 => ?_) (fun hc6 => ?_)
                · exact nextS g H locs ls (fun i hi => by rw [md_NS_S, if_neg (fun z => hc6 z.1)]; exact hg i hi) hP hD hS (lv_sub hl [0, 1, 2, 3] rfl)
                · refine lv_iconst (v := nI 0) hx hb dX2_count_142 (by decide) ?_
                  refine lv_istore (lv' := [(7, .int (nI 0)), (0, .ref g0), (1, .int (nI al)), (2, .int (nI r)), (3, .int (nI t)), (4, .int (nI (md_pop nc t))), (5, .int (nI ad))]) hx hb dX2_count_143 hl (by decide) rfl (fun ls hl => ?_)
                  exact loopC hc6 al 0 g _ _ ls (by omega) (fun i hi => by rw [if_neg (by omega)]; exact hg i hi) hP hD hS (lv_sub hl [1, 2, 3, 4, 6, 0] rfl)
              have loopI : ∀ (dd q : Nat) (ls : Array Slot), q + dd = nc → lv_has ls 8 [(0, .ref g0), (1, .int (nI al)), (2, .int (nI r)), (3, .int (nI t)), (4, .int (nI (md_sum (fun i => t / 2 ^ i % 2) q))), (5, .int (nI (md_sum (fun i => t / 2 ^ i % 2 * 6 ^ i) q))), (6, .int (nI (6 ^ q))), (7, .int (nI q))] → W p l e R s m args below meth c H locs 0 0 Q (F0 m 87 ls []) := by
                intro dd
                induction dd with
                | zero =>
                  intro q ls hq hl
                  have hq : q = nc := by omega
                  subst hq
                  refine lv_iload hx hb dX2_count_87 (lv_at hl 7 rfl) ?_
                  refine lv_aload_n hx hb dX2_count_89 rfl (lv_at hl 0 rfl) ?_
                  refine va_get (D := D) (ci := 2) (v := .int (nI q)) (C := RX2) (T := TX2) (N := 6) hx hb hts in_X2 hown hK hP 0 rfl rfl 3 (by decide) (hts _ q114) (fun _ h9 => h9) rfl dX2_count_90 ?_
                  refine nv_ge (tgt := 131) hx hb (by omega) (by omega) dX2_count_93 (by decide) (fun hc => ?_) (fun hc => ?_)
                  · exact after ls (by rw [ead]; exact lv_sub hl [0, 1, 2, 3, 4, 5] rfl)
                  · exact absurd hc (by omega)
                | succ dd ih3 =>
                  intro q ls hq hl
                  refine lv_iload hx hb dX2_count_87 (lv_at hl 7 rfl) ?_
                  refine lv_aload_n hx hb dX2_count_89 rfl (lv_at hl 0 rfl) ?_
                  refine va_get (D := D) (ci := 2) (v := .int (nI nc)) (C := RX2) (T := TX2) (N := 6) hx hb hts in_X2 hown hK hP 0 rfl rfl 3 (by decide) (hts _ q114) (fun _ h9 => h9) rfl dX2_count_90 ?_
                  refine nv_ge (tgt := 131) hx hb (by omega) (by omega) dX2_count_93 (by decide) (fun hc => ?_) (fun hc => ?_)
                  · exact absurd hc (by omega)
                  · have nextI : ∀ (ls : Array Slot), lv_has ls 8 [(0, .ref g0), (1, .int (nI al)), (2, .int (nI r)), (3, .int (nI t)), (4, .int (nI (md_sum (fun i => t / 2 ^ i % 2) (q + 1)))), (5, .int (nI (md_sum (fun i => t / 2 ^ i % 2 * 6 ^ i) (q + 1)))), (6, .int (nI (6 ^ q))), (7, .int (nI q))] → W p l e R s m args below meth c H locs 0 0 Q (F0 m 118 ls []) := by
                      intro ls hl
                      refine lv_iload hx hb dX2_count_118 (lv_at hl 6 rfl) ?_
                      refine lv_bipush (v := nI 6) hx hb dX2_count_120 (by decide) ?_
                      refine nv_mul hx hb dX2_count_122 ?_
                      refine nv_i (y := nI (6 ^ (q + 1))) rfl ?_
                      refine lv_istore (lv' := [(6, .int (nI (6 ^ (q + 1)))), (0, .ref g0), (1, .int (nI al)), (2, .int (nI r)), (3, .int (nI t)), (4, .int (nI (md_sum (fun i => t / 2 ^ i % 2) (q + 1)))), (5, .int (nI (md_sum (fun i => t / 2 ^ i % 2 * 6 ^ i) (q + 1)))), (7, .int (nI q))]) hx hb dX2_count_123 hl (by decide) rfl (fun ls hl => ?_)
                      refine lv_iinc (v := (nI (q + 1))) (lv' := [(7, .int (nI (q + 1))), (6, .int (nI (6 ^ (q + 1)))), (0, .ref g0), (1, .int (nI al)), (2, .int (nI r)), (3, .int (nI t)), (4, .int (nI (md_sum (fun i => t / 2 ^ i % 2) (q + 1)))), (5, .int (nI (md_sum (fun i => t / 2 ^ i % 2 * 6 ^ i) (q + 1))))]) hx hb dX2_count_125 hl (k := 7) rfl (nv_inc1 _) (by decide) rfl (fun ls hl => ?_)
                      refine lv_goto (tgt := 87) hx hb dX2_count_128 (by decide) ?_
                      exact ih3 (q + 1) ls (by omega) (lv_sub hl [2, 3, 4, 5, 6, 7, 1, 0] rfl)
                    have e4 : md_sum (fun i => t / 2 ^ i % 2) (q + 1) = md_sum (fun i => t / 2 ^ i % 2) q + t / 2 ^ q % 2 := rfl
                    have e5 : md_sum (fun i => t / 2 ^ i % 2 * 6 ^ i) (q + 1) = md_sum (fun i => t / 2 ^ i % 2 * 6 ^ i) q + t / 2 ^ q % 2 * 6 ^ q := rfl
                    have hdv : t / 2 ^ q ≤ t := Nat.div_le_self _ _
                    refine lv_iload_n hx hb dX2_count_96 rfl (lv_at hl 3 rfl) ?_
                    refine lv_iload hx hb dX2_count_97 (lv_at hl 7 rfl) ?_
                    refine lv_ishr hx hb dX2_count_99 ?_
                    refine nv_i (md_shr (by omega) (by omega)) ?_
                    refine lv_iconst (v := nI 1) hx hb dX2_count_100 (by decide) ?_
                    refine lv_iand hx hb dX2_count_101 ?_
                    refine nv_i (md_and1 (by omega)) ?_
                    refine nv_ifeq (tgt := 118) hx hb (by omega) dX2_count_102 (by decide) (fun hc7 => ?_) (fun hc7 => ?_)
                    · exact nextI ls (by rw [e4, e5, hc7, Nat.zero_mul, Nat.add_zero, Nat.add_zero]; exact hl)
                    · have hb1 : t / 2 ^ q % 2 = 1 := by omega
                      refine lv_iload hx hb dX2_count_105 (lv_at hl 4 rfl) ?_
                      refine lv_iconst (v := nI 1) hx hb dX2_count_107 (by decide) ?_
                      refine nv_add hx hb dX2_count_108 ?_
                      refine lv_istore (lv' := [(4, .int (nI ((md_sum (fun i => t / 2 ^ i % 2) q) + 1))), (0, .ref g0), (1, .int (nI al)), (2, .int (nI r)), (3, .int (nI t)), (5, .int (nI (md_sum (fun i => t / 2 ^ i % 2 * 6 ^ i) q))), (6, .int (nI (6 ^ q))), (7, .int (nI q))]) hx hb dX2_count_109 hl (by decide) rfl (fun ls hl => ?_)
                      refine lv_iload hx hb dX2_count_111 (lv_at hl 5 rfl) ?_
                      refine lv_iload hx hb dX2_count_113 (lv_at hl 6 rfl) ?_
                      refine nv_add hx hb dX2_count_115 ?_
                      refine lv_istore (lv' := [(5, .int (nI ((md_sum (fun i => t / 2 ^ i % 2 * 6 ^ i) q) + (6 ^ q)))), (4, .int (nI ((md_sum (fun i => t / 2 ^ i % 2) q) + 1))), (0, .ref g0), (1, .int (nI al)), (2, .int (nI r)), (3, .int (nI t)), (6, .int (nI (6 ^ q))), (7, .int (nI q))]) hx hb dX2_count_116 hl (by decide) rfl (fun ls hl => ?_)
                      exact nextI ls (by rw [e4, e5, hb1, Nat.one_mul]; exact lv_sub hl [2, 3, 4, 5, 1, 0, 6, 7] rfl)
              refine lv_iconst (v := nI 0) hx hb dX2_count_75 (by decide) ?_
              refine lv_istore (lv' := [(4, .int (nI 0)), (0, .ref g0), (1, .int (nI al)), (2, .int (nI r)), (3, .int (nI t))]) hx hb dX2_count_76 hl (by decide) rfl (fun ls hl => ?_)
              refine lv_iconst (v := nI 0) hx hb dX2_count_78 (by decide) ?_
              refine lv_istore (lv' := [(5, .int (nI 0)), (4, .int (nI 0)), (0, .ref g0), (1, .int (nI al)), (2, .int (nI r)), (3, .int (nI t))]) hx hb dX2_count_79 hl (by decide) rfl (fun ls hl => ?_)
              refine lv_iconst (v := nI 1) hx hb dX2_count_81 (by decide) ?_
              refine lv_istore (lv' := [(6, .int (nI 1)), (5, .int (nI 0)), (4, .int (nI 0)), (0, .ref g0), (1, .int (nI al)), (2, .int (nI r)), (3, .int (nI t))]) hx hb dX2_count_82 hl (by decide) rfl (fun ls hl => ?_)
              refine lv_iconst (v := nI 0) hx hb dX2_count_84 (by decide) ?_
              refine lv_istore (lv' := [(7, .int (nI 0)), (6, .int (nI 1)), (5, .int (nI 0)), (4, .int (nI 0)), (0, .ref g0), (1, .int (nI al)), (2, .int (nI r)), (3, .int (nI t))]) hx hb dX2_count_85 hl (by decide) rfl (fun ls hl => ?_)
              exact loopI nc 0 ls (by omega) (lv_sub hl [4, 5, 6, 7, 3, 2, 1, 0] rfl)
        have loopZ : ∀ (dd q : Nat) (g : Nat → Nat) (H : Heap) (locs : List Loc) (ls : Array Slot), q + dd = al → (∀ i, i < q → g i = 0) → va_P D vwCl [(g0, .inr (2, [.ref gr, .ref go, .int (nI nr), .int (nI nc), .ref gw, .ref gx])), (gr, .inl (dA, 5, .inl (md_iA row))), (go, .inl (dA, 5, .inl (md_iA col))), (gw, .inl (dL, 7776, .inr (.inl (md_lA f)))), (gx, .inl (dL, 7776, .inr (.inl (md_lA g))))] H → va_D A [(g0, .inr (2, [.ref gr, .ref go, .int (nI nr), .int (nI nc), .ref gw, .ref gx])), (gr, .inl (dA, 5, .inl (md_iA row))), (go, .inl (dA, 5, .inl (md_iA col))), (gw, .inl (dL, 7776, .inr (.inl (md_lA f)))), (gx, .inl (dL, 7776, .inr (.inl (md_lA g))))] → va_S A s.heap H locs → lv_has ls 8 [(0, .ref g0), (1, .int (nI al)), (2, .int (nI r)), (3, .int (nI q))] → W p l e R s m args below meth c H locs 0 0 Q (F0 m 45 ls []) := by
          intro dd
          induction dd with
          | zero =>
            intro q g H locs ls hq hg hP hD hS hl
            refine lv_iload_n hx hb dX2_count_45 rfl (lv_at hl 3 rfl) ?_
            refine lv_iload_n hx hb dX2_count_46 rfl (lv_at hl 1 rfl) ?_
            refine nv_ge (tgt := 63) hx hb (by omega) (by omega) dX2_count_47 (by decide) (fun hc => ?_) (fun hc => ?_)
            · refine lv_iconst (v := nI 0) hx hb dX2_count_63 (by decide) ?_
              refine lv_istore_n (lv' := [(3, .int (nI 0)), (0, .ref g0), (1, .int (nI al)), (2, .int (nI r))]) hx hb dX2_count_64 rfl hl (by decide) rfl (fun ls hl => ?_)
              exact loopS (2 ^ nc) 0 g _ _ ls (by omega) (fun i hi => hg i (by omega)) hP hD hS (lv_sub hl [1, 2, 3, 0] rfl)
            · exact absurd hc (by omega)
          | succ dd ih2 =>
            intro q g H locs ls hq hg hP hD hS hl
            refine lv_iload_n hx hb dX2_count_45 rfl (lv_at hl 3 rfl) ?_
            refine lv_iload_n hx hb dX2_count_46 rfl (lv_at hl 1 rfl) ?_
            refine nv_ge (tgt := 63) hx hb (by omega) (by omega) dX2_count_47 (by decide) (fun hc => ?_) (fun hc => ?_)
            · exact absurd hc (by omega)
            · refine lv_aload_n hx hb dX2_count_50 rfl (lv_at hl 0 rfl) ?_
              refine va_get (D := D) (ci := 2) (v := .ref gx) (C := RX2) (T := TX2) (N := 6) hx hb hts in_X2 hown hK hP 0 rfl rfl 5 (by decide) (hts _ q116) (fun _ h9 => h9) rfl dX2_count_51 ?_
              refine lv_iload_n hx hb dX2_count_54 rfl (lv_at hl 3 rfl) ?_
              refine lv_lconst (v := lN 0) hx hb dX2_count_55 (by decide) ?_
              refine nv_last hx hb hK hP hD hS 4 1 rfl rfl (by omega) (by decide) dX2_count_56 (fun H locs hP hD hS => ?_)
              have hP : va_P D vwCl [(g0, .inr (2, [.ref gr, .ref go, .int (nI nr), .int (nI nc), .ref gw, .ref gx])), (gr, .inl (dA, 5, .inl (md_iA row))), (go, .inl (dA, 5, .inl (md_iA col))), (gw, .inl (dL, 7776, .inr (.inl (md_lA f)))), (gx, .inl (dL, 7776, .inr (.inl (md_lA (md_up g q 0)))))] H := hP
              have hD : va_D A [(g0, .inr (2, [.ref gr, .ref go, .int (nI nr), .int (nI nc), .ref gw, .ref gx])), (gr, .inl (dA, 5, .inl (md_iA row))), (go, .inl (dA, 5, .inl (md_iA col))), (gw, .inl (dL, 7776, .inr (.inl (md_lA f)))), (gx, .inl (dL, 7776, .inr (.inl (md_lA (md_up g q 0)))))] := hD
              refine lv_iinc (v := (nI (q + 1))) (lv' := [(3, .int (nI (q + 1))), (0, .ref g0), (1, .int (nI al)), (2, .int (nI r))]) hx hb dX2_count_57 hl (k := 3) rfl (nv_inc1 _) (by decide) rfl (fun ls hl => ?_)
              refine lv_goto (tgt := 45) hx hb dX2_count_60 (by decide) ?_
              refine ih2 (q + 1) _ _ _ ls (by omega) (fun i hi => ?_) hP hD hS (lv_sub hl [1, 2, 3, 0] rfl)
              by_cases e1 : i = q
              · subst e1; rw [md_up_s]
              · rw [md_up_n e1]; exact hg i (by omega)
        refine lv_iconst (v := nI 0) hx hb dX2_count_43 (by decide) ?_
        refine lv_istore_n (lv' := [(3, .int (nI 0)), (0, .ref g0), (1, .int (nI al)), (2, .int (nI r))]) hx hb dX2_count_44 rfl hl (by decide) rfl (fun ls hl => ?_)
        exact loopZ al 0 g0_ _ _ ls (by omega) (fun i hi => by omega) hP hD hS (lv_sub hl [1, 2, 3, 0] rfl)
  have loop0 : ∀ (dd q : Nat) (f : Nat → Nat) (H : Heap) (locs : List Loc) (ls : Array Slot), q + dd = al → (∀ i, i < q → f i = md_W nc row 0 i) → va_P D vwCl [(g0, .inr (2, [.ref gr, .ref go, .int (nI nr), .int (nI nc), .ref gw, .ref gx])), (gr, .inl (dA, 5, .inl (md_iA row))), (go, .inl (dA, 5, .inl (md_iA col))), (gw, .inl (dL, 7776, .inr (.inl (md_lA f)))), (gx, .inl (dL, 7776, .inr (.inl (md_lA nx))))] H → va_D A [(g0, .inr (2, [.ref gr, .ref go, .int (nI nr), .int (nI nc), .ref gw, .ref gx])), (gr, .inl (dA, 5, .inl (md_iA row))), (go, .inl (dA, 5, .inl (md_iA col))), (gw, .inl (dL, 7776, .inr (.inl (md_lA f)))), (gx, .inl (dL, 7776, .inr (.inl (md_lA nx))))] → va_S A s.heap H locs → lv_has ls 8 [(0, .ref g0), (1, .int (nI al)), (2, .int (nI q))] → W p l e R s m args below meth c H locs 0 0 Q (F0 m 7 ls []) := by
    intro dd
    induction dd with
    | zero =>
      intro q f H locs ls hq hf hP hD hS hl
      refine lv_iload_n hx hb dX2_count_7 rfl (lv_at hl 2 rfl) ?_
      refine lv_iload_n hx hb dX2_count_8 rfl (lv_at hl 1 rfl) ?_
      refine nv_ge (tgt := 33) hx hb (by omega) (by omega) dX2_count_9 (by decide) (fun hc => ?_) (fun hc => ?_)
      · refine lv_iconst (v := nI 0) hx hb dX2_count_33 (by decide) ?_
        refine lv_istore_n (lv' := [(2, .int (nI 0)), (0, .ref g0), (1, .int (nI al))]) hx hb dX2_count_34 rfl hl (by decide) rfl (fun ls hl => ?_)
        exact loopR nr 0 f nx _ _ ls (by omega) (fun i hi => hf i (by omega)) hP hD hS (lv_sub hl [1, 2, 0] rfl)
      · exact absurd hc (by omega)
    | succ dd ih =>
      intro q f H locs ls hq hf hP hD hS hl
      refine lv_iload_n hx hb dX2_count_7 rfl (lv_at hl 2 rfl) ?_
      refine lv_iload_n hx hb dX2_count_8 rfl (lv_at hl 1 rfl) ?_
      refine nv_ge (tgt := 33) hx hb (by omega) (by omega) dX2_count_9 (by decide) (fun hc => ?_) (fun hc => ?_)
      · exact absurd hc (by omega)
      · have put : ∀ z : Nat, z = md_W nc row 0 q → W p l e R s m args below meth c H locs 0 0 Q (F0 m 26 ls [.long (lN z), .int (nI q), .ref gw]) := by
          intro z ez
          refine nv_last hx hb hK hP hD hS 3 1 rfl rfl (by omega) (by decide) dX2_count_26 (fun H locs hP hD hS => ?_)
          have hP : va_P D vwCl [(g0, .inr (2, [.ref gr, .ref go, .int (nI nr), .int (nI nc), .ref gw, .ref gx])), (gr, .inl (dA, 5, .inl (md_iA row))), (go, .inl (dA, 5, .inl (md_iA col))), (gw, .inl (dL, 7776, .inr (.inl (md_lA (md_up f q z))))), (gx, .inl (dL, 7776, .inr (.inl (md_lA nx))))] H := hP
          have hD : va_D A [(g0, .inr (2, [.ref gr, .ref go, .int (nI nr), .int (nI nc), .ref gw, .ref gx])), (gr, .inl (dA, 5, .inl (md_iA row))), (go, .inl (dA, 5, .inl (md_iA col))), (gw, .inl (dL, 7776, .inr (.inl (md_lA (md_up f q z))))), (gx, .inl (dL, 7776, .inr (.inl (md_lA nx))))] := hD
          refine lv_iinc (v := (nI (q + 1))) (lv' := [(2, .int (nI (q + 1))), (0, .ref g0), (1, .int (nI al))]) hx hb dX2_count_27 hl (k := 2) rfl (nv_inc1 _) (by decide) rfl (fun ls hl => ?_)
          refine lv_goto (tgt := 7) hx hb dX2_count_30 (by decide) ?_
          refine ih (q + 1) _ _ _ ls (by omega) (fun i hi => ?_) hP hD hS (lv_sub hl [1, 2, 0] rfl)
          by_cases e1 : i = q
          · subst e1; rw [md_up_s]; exact ez
          · rw [md_up_n e1]; exact hf i (by omega)
        refine lv_aload_n hx hb dX2_count_12 rfl (lv_at hl 0 rfl) ?_
        refine va_get (D := D) (ci := 2) (v := .ref gw) (C := RX2) (T := TX2) (N := 6) hx hb hts in_X2 hown hK hP 0 rfl rfl 4 (by decide) (hts _ q115) (fun _ h9 => h9) rfl dX2_count_13 ?_
        refine lv_iload_n hx hb dX2_count_16 rfl (lv_at hl 2 rfl) ?_
        refine lv_iload_n hx hb dX2_count_17 rfl (lv_at hl 2 rfl) ?_
        refine nv_ifne (tgt := 25) hx hb (by omega) dX2_count_18 (by decide) (fun hc8 => ?_) (fun hc8 => ?_)
        · refine lv_lconst (v := lN 0) hx hb dX2_count_25 (by decide) ?_
          exact put 0 (if_neg hc8).symm
        · refine lv_lconst (v := lN 1) hx hb dX2_count_21 (by decide) ?_
          refine lv_goto (tgt := 26) hx hb dX2_count_22 (by decide) ?_
          exact put 1 (if_pos hc8).symm
  refine lv_aload_n hx hb dX2_count_0 rfl (lv_at hl 0 rfl) ?_
  refine md_cVi (wr := []) hx hb hml hown hts hK hP hD hS hA [0, 1, 2, 3, 4] [] rfl rfl (by decide) (by decide) (by decide) (mX2_all l D dA dL g0 gr go gw gx _ nr nc row col wy nx hm5) (cwV 0 hts (lw_V q148 q150 qs2 q6 q151) rfl rfl rfl (by decide +kernel) (by subst hR; exact ⟨Nat.le_of_ble_eq_true rfl, Nat.le_of_ble_eq_true rfl⟩)) (q0 := 0) (ci := 2) rfl rfl rfl rfl hl.1 rfl (Nat.le_of_ble_eq_true rfl) dX2_count_1 (by subst hR; exact ⟨Nat.le_refl _, Nat.le_refl _⟩) (fun r _ H locs hw1 hP hD hS => ?_)
  rw [← eal] at hw1
  subst hw1
  have hP : va_P D vwCl [(g0, .inr (2, [.ref gr, .ref go, .int (nI nr), .int (nI nc), .ref gw, .ref gx])), (gr, .inl (dA, 5, .inl (md_iA row))), (go, .inl (dA, 5, .inl (md_iA col))), (gw, .inl (dL, 7776, .inr (.inl (md_lA wy)))), (gx, .inl (dL, 7776, .inr (.inl (md_lA nx))))] H := hP
  have hD : va_D A [(g0, .inr (2, [.ref gr, .ref go, .int (nI nr), .int (nI nc), .ref gw, .ref gx])), (gr, .inl (dA, 5, .inl (md_iA row))), (go, .inl (dA, 5, .inl (md_iA col))), (gw, .inl (dL, 7776, .inr (.inl (md_lA wy)))), (gx, .inl (dL, 7776, .inr (.inl (md_lA nx))))] := hD
  refine lv_istore_n (lv' := [(1, .int (nI al)), (0, .ref g0)]) hx hb dX2_count_4 rfl hl (by decide) rfl (fun ls hl => ?_)
  refine lv_iconst (v := nI 0) hx hb dX2_count_5 (by decide) ?_
  refine lv_istore_n (lv' := [(2, .int (nI 0)), (1, .int (nI al)), (0, .ref g0)]) hx hb dX2_count_6 rfl hl (by decide) rfl (fun ls hl => ?_)
  exact loop0 al 0 wy _ _ ls (by omega) (fun i hi => by omega) hP hD hS (lv_sub hl [2, 1, 0] rfl)
set_option maxHeartbeats 4000000 in
set_option maxRecDepth 100000 in
/-- any() -/
theorem mX2_any (l : Launch) (D : va_G) (dA dL : ClassId) (g0 gr go gw gx sz nr nc : Nat) (row col wy nx : Nat → Nat) (hn5 : nr ≤ 5) (hm1 : 1 ≤ nc) (hm5 : nc ≤ 5) (hrow : ∀ i, i < 5 → row i ≤ 5) (hcol : ∀ i, i < 5 → col i ≤ 5) : Met l yX2_any (ws_ yX2_any cX2_any 1 (some .boolean)) ({ frames := 2, cells := 0, slots := 0, locals := 49 }) (va_Pc [.ref g0] (mdPre D dA dL (md_wM dA dL g0 gr go gw gx nr nc row col wy nx) sz))
    (va_Qi (fun (r : Int32) (_ : (Nat → Nat) × (Nat → Nat)) => (0 < md_W nc row nr (md_code (md_rl col 0 nc)) → r = 1) ∧ (¬ 0 < md_W nc row nr (md_code (md_rl col 0 nc)) → r = 0)) (fun u t => mdB D dA dL (va_A (md_wM dA dL g0 gr go gw gx nr nc row col wy nx) sz) (md_wM dA dL g0 gr go gw gx nr nc row col u.1 u.2) t) (va_A (md_wM dA dL g0 gr go gw gx nr nc row col wy nx) sz)) 0 0 (va_A (md_wM dA dL g0 gr go gw gx nr nc row col wy nx) sz) := by
  refine md_MetI (w1 := fun u : (Nat → Nat) × (Nat → Nat) => md_wM dA dL g0 gr go gw gx nr nc row col u.1 u.2) (by decide) (Nat.le_of_ble_eq_true rfl) ?_
  intro p e s m below meth c ls args A Q R hR hx hb hml hts hown hname hA hP hK hD hS hl hret
  have hown : s.vm.findClass RX2 = some m.cls := hown
  have hl : lv_has ls 1 [(0, .ref g0)] := hl
  have hP : va_P D vwCl [(g0, .inr (2, [.ref gr, .ref go, .int (nI nr), .int (nI nc), .ref gw, .ref gx])), (gr, .inl (dA, 5, .inl (md_iA row))), (go, .inl (dA, 5, .inl (md_iA col))), (gw, .inl (dL, 7776, .inr (.inl (md_lA wy)))), (gx, .inl (dL, 7776, .inr (.inl (md_lA nx))))] s.heap := hP
  have hD : va_D A [(g0, .inr (2, [.ref gr, .ref go, .int (nI nr), .int (nI nc), .ref gw, .ref gx])), (gr, .inl (dA, 5, .inl (md_iA row))), (go, .inl (dA, 5, .inl (md_iA col))), (gw, .inl (dL, 7776, .inr (.inl (md_lA wy)))), (gx, .inl (dL, 7776, .inr (.inl (md_lA nx))))] := hD
  refine lv_aload_n hx hb dX2_any_0 rfl (lv_at hl 0 rfl) ?_
  refine md_cVl (wr := []) hx hb hml hown hts hK hP hD hS hA [0, 1, 2, 3, 4] [] rfl rfl (by decide) (by decide) (by decide) (mX2_count l D dA dL g0 gr go gw gx _ nr nc row col wy nx hn5 hm1 hm5 hrow hcol) (cwV 0 hts (lw_V q156 q145 q146 q6 q147) rfl rfl rfl (by decide +kernel) (by subst hR; exact ⟨Nat.le_of_ble_eq_true rfl, Nat.le_of_ble_eq_true rfl⟩)) (q0 := 0) (ci := 2) rfl rfl rfl rfl hl.1 rfl (Nat.le_of_ble_eq_true rfl) dX2_any_1 (by subst hR; exact ⟨Nat.le_refl _, Nat.le_refl _⟩) (fun r u H locs hw1 hP hD hS => ?_)
  subst hw1
  have hP : va_P D vwCl [(g0, .inr (2, [.ref gr, .ref go, .int (nI nr), .int (nI nc), .ref gw, .ref gx])), (gr, .inl (dA, 5, .inl (md_iA row))), (go, .inl (dA, 5, .inl (md_iA col))), (gw, .inl (dL, 7776, .inr (.inl (md_lA u.1)))), (gx, .inl (dL, 7776, .inr (.inl (md_lA u.2))))] H := hP
  have hD : va_D A [(g0, .inr (2, [.ref gr, .ref go, .int (nI nr), .int (nI nc), .ref gw, .ref gx])), (gr, .inl (dA, 5, .inl (md_iA row))), (go, .inl (dA, 5, .inl (md_iA col))), (gw, .inl (dL, 7776, .inr (.inl (md_lA u.1)))), (gx, .inl (dL, 7776, .inr (.inl (md_lA u.2))))] := hD
  have h63 := md_W63 (row := row) hm5 hn5 (md_code (md_rl col 0 nc))
  refine lv_lconst (v := lN 0) hx hb dX2_any_4 (by decide) ?_
  refine W.lcmp hx hb dX2_any_5 ?_
  refine lv_if_le (tgt := 13) hx hb dX2_any_6 (by decide) (fun hc => ?_) (fun hc => ?_)
  · have h0 := (nv_cmpLe h63 (by decide)).mp hc
    refine lv_iconst (v := nI 0) hx hb dX2_any_13 (by decide) ?_
    exact hret _ _ _ _ _ u dX2_any_14 rfl ⟨fun h => by omega, fun _ => rfl⟩ hP hD hS
  · have h0 : 0 < md_W nc row nr (md_code (md_rl col 0 nc)) := Nat.lt_of_not_le (fun z => hc ((nv_cmpLe h63 (by decide)).mpr z))
    refine lv_iconst (v := nI 1) hx hb dX2_any_9 (by decide) ?_
    refine lv_goto (tgt := 14) hx hb dX2_any_10 (by decide) ?_
    exact hret _ _ _ _ _ u dX2_any_14 rfl ⟨fun _ => rfl, fun h => absurd h0 h⟩ hP hD hS
end
section
/-! the law: the skeleton's words (kit/laws/SKELETON.whole), and rows of my own before the walk -/
/-! THE CLAIM OUT OF ONE WALK OF THE LAW'S BODY. Your part is whole_start (and what it stands on); all else here is the same for every law, but numbers. -/
def R_law : String := "MarginDeskLaw"
def lw_P (b : Addr) (xs : List Int32) (args : Array Value) (s : State) : Prop := args = #[.ref b] ∧ s.IntsAt b xs ∧ xs.length ≤ 192 ∧ (Jvm.Cond.and given_1 narrow_1).before args s = true
def lw_Q (_ : Array Value) (s : State) (o : Outcome) (t : State) : Prop := o = .returned (some (.int 1)) ∧ Framed s o t [] 600000 7302250
def lw_Z (below : List Frame) (a : Array Value) (s : State) : State → Prop := fun t => ∃ o, t.status = .running ∧ Ended t below o ∧ lw_Q a s o t
/-- the law's own end, with 1 on the stack, nothing written that was there before, its room as the claim has it -/
theorem lw_ret {p : Program} {l : Launch} {e : Env} {s : State} {m : MethodId} {below : List Frame} {meth : Method} {c : Code} {b : Nat} (hx : p.tables.exec = Jvm.exec) (hb : c.code = code) (hr : meth.sig.returnType = ret) (hlocks : meth.locks = false) {pc : Nat} {H : Heap} {ls : Array Slot} (hdg : decode code pc = .ok (.ireturn, 1)) : W p l e room_1 s m #[Value.ref b] below meth c H [] 600000 7302250 (lw_Z below #[Value.ref b] s) (F0 m pc ls [.int 1]) := by
  intro T hT X
  obtain ⟨fs, hret, hrun, hended, hW, hframe⟩ := X.leave (v := some (.int 1)) (hlocks := hlocks) (fun h => by rw [hr] at h; cases h)
  have hmeth' : T.vm.method? m = some meth := X.method'
  refine ⟨T.setFrames fs, ?_, .returned (some (.int 1)), hrun, hended, rfl, ⟨_, rfl⟩, hW, hframe⟩
  jvm_step X.here [X.here.top, hx, hb, hdg, hmeth', hr, ret, narrow_b1]
  (try refine ⟨rfl, ?_⟩); (try refine ⟨rfl, ?_⟩)
  first | (intro acts; rw [hret _ acts rfl rfl rfl]) | rw [hret _ _ rfl rfl rfl]
  exact Steps.refl _
/-- what holds at the law's entry: the machine, the code, the tables' words (any of lw_tbl by 'hts w (by decide +kernel)'), the script of L ints xs at the cell b, what the Statement gives of the start (any of its parts by flat_of_before) -/
def lw_At (p : Program) (s : State) (m : MethodId) (meth : Method) (c : Code) (b L : Nat) (xs : Nat → Int32) : Prop :=
  p.tables.exec = Jvm.exec ∧ c.code = code ∧ meth.sig.returnType = ret ∧ c.maxLocals = 4 ∧ s.vm.findClass R_law = some m.cls ∧ (∀ w ∈ lw_tbl, w.before #[Value.ref b] s = true) ∧ va_X b L xs s s.heap ∧ b < s.heap.size ∧ meth.locks = false ∧ (Jvm.Cond.and given_1 narrow_1).before #[Value.ref b] s = true
theorem md_W_congr {m : Nat} {row row' : Nat → Nat} : ∀ (r : Nat), (∀ i, i < r → row' i = row i) → ∀ c, md_W m row' r c = md_W m row r c := by
  intro r
  induction r with
  | zero => intro _ c; rfl
  | succ r ih =>
    intro h c
    refine md_sum_ext (fun s _ => ?_)
    rw [h r (by omega), ih (fun i hi => h i (by omega))]
/-- the numbers of the two sides -/
theorem md_both {nr nc : Nat} {row col row' col' : Nat → Nat} (hn5 : nr ≤ 5) (hm5 : nc ≤ 5) (hr : ∀ i, i < 5 → row' i = row i) (hc : ∀ i, i < 5 → col' i = col i) : md_W nc row' nr (md_code (md_rl col' 0 nc)) = md_W nc row nr (md_code (md_rl col 0 nc)) := by
  rw [md_rl_ext nc 0 (fun j _ hj => hc j (by omega)), md_W_congr nr (fun i hi => hr i (by omega))]
theorem md_law_in {i L : Nat} (hi : i < 2 ^ 29) (hL : L < 2 ^ 29) (h : ¬ nI L - nI 3 < nI i) : i + 3 ≤ L := by
  rw [Int32.lt_iff_toInt_lt, pk_sub_toInt (by omega) (by omega), nI_toInt (by omega)] at h
  omega
/-- the classes and the kinds of arrays, known at the start -/
theorem md_known {s : State} {b : Addr} (ht0 : ∀ w ∈ lw_tbl, w.before #[Value.ref b] s = true) : ∃ (D : va_G) (dA dL : ClassId), va_K D vwCl (mdT dA dL) s := by
  obtain ⟨c0, i0, k0⟩ := u_known (C := RX0) (T := TX0) (N := 6) (n := 6) ht0 (fun w h => lw_all_tbl (in_X0 w h)) (ht0 _ (lw_all_tbl q9))
  obtain ⟨c1, i1, k1⟩ := u_known (C := RX1) (T := TX1) (N := 3) (n := 3) ht0 (fun w h => lw_all_tbl (in_X1 w h)) (ht0 _ (lw_all_tbl q17))
  obtain ⟨c2, i2, k2⟩ := u_known (C := RX2) (T := TX2) (N := 6) (n := 6) ht0 (fun w h => lw_all_tbl (in_X2 w h)) (ht0 _ (lw_all_tbl q106))
  obtain ⟨dA, kA, compA, a1, a2, a3⟩ := Cond.arrayClass_spec (ht0 _ (lw_all_tbl q32))
  obtain ⟨dL, kL, compL, b1, b2, b3⟩ := Cond.arrayClass_spec (ht0 _ (lw_all_tbl q130))
  refine ⟨(fun k => if k = 0 then c0 else if k = 1 then c1 else c2, fun k => if k = 0 then i0 else if k = 1 then i1 else i2), dA, dL, ?_, ?_⟩
  · intro k q hq
    match k, hq with
    | 0, hq => cases hq; exact k0
    | 1, hq => cases hq; exact k1
    | 2, hq => cases hq; exact k2
    | k + 3, hq => simp [vwCl] at hq
  · intro k q hq
    match k, hq with
    | 0, hq => cases hq; exact ⟨fun n z => ⟨fun k h => (by cases h), kA, a2, compA, a3⟩, a1⟩
    | 1, hq => cases hq; exact ⟨fun n z => ⟨fun k h => (by cases h), kL, b2, compL, b3⟩, b1⟩
    | k + 2, hq => simp [mdT] at hq
section SL
variable {p : Program} {l : Launch} {e : Env} {R : Room} {s : State} {m : MethodId} {args : Array Value} {below : List Frame} {meth : Method} {c : Code} {H : Heap} {locs : List Loc} {cells slots : Nat} {Q : State → Prop}
variable {cc : ByteArray} {pc : Nat} {ls : Array Slot} {rest : List Value} {A : Nat → Prop} {H0 : Heap}
theorem nv_sld (hx : p.tables.exec = Jvm.exec) (hb : c.code = cc) {b L : Nat} {xs : Nat → Int32} (hX : va_X b L xs s H0) (hbl : b < H0.size) (hbA : ¬ A b) (hS : va_S A H0 H locs) {i : Nat} (hi : i < L) (hL : L < 2 ^ 31) (hdg : decode cc pc = .ok (.iaload, 1))
    (kk : W p l e R s m args below meth c H locs cells slots Q (F0 m (pc + 1) ls (.int (xs i) :: rest))) : W p l e R s m args below meth c H locs cells slots Q (F0 m pc ls (.int (nI i) :: .ref b :: rest)) := by
  refine va_sld hx hb hX hbl hbA hS (vp_in_nI hi hL) hdg ?_
  rw [nI_clamp (by omega)]
  exact kk
end SL
end
section
set_option maxHeartbeats 4000000 in
set_option maxRecDepth 100000 in
/-- THE LAW'S LOOP: at its head, with i ints read, the class and the reference agree -/
theorem law_loop {p : Program} {l : Launch} {e : Env} {s : State} {m : MethodId} {below : List Frame} {meth : Method} {c : Code} {b L : Nat} {xs : Nat → Int32} {D : va_G} {dA dL : ClassId} (hL : L ≤ 192) (C0 : lw_At p s m meth c b L xs) (hK : va_K D vwCl (mdT dA dL) s) (h0 hr ho hz hn hh hw g0 gr go gw gx : Nat) :
    ∀ (dd i : Nat) (nr nc nn : Nat) (row col srt hv rw row' col' wy nx : Nat → Nat) (H : Heap) (locs : List Loc) (ls : Array Slot), L ≤ i + dd → i ≤ L + 3 → 1 ≤ nr → nr ≤ 5 → 1 ≤ nc → nc ≤ 5 → (∀ k, k < 5 → row k ≤ 5) → (∀ k, k < 5 → col k ≤ 5) → (∀ k, k < 5 → srt k ≤ 5) → (∀ k, k < 5 → rw k ≤ 5) → (∀ k, k < 5 → row' k = row k) → (∀ k, k < 5 → col' k = col k) → va_P D vwCl [(h0, .inr (0, [.ref hr, .ref ho, .ref hz, .ref hn, .int (nI nr), .int (nI nc)])), (hr, .inl (dA, 5, .inl (md_iA row))), (ho, .inl (dA, 5, .inl (md_iA col))), (hz, .inl (dA, 5, .inl (md_iA srt))), (hn, .inr (1, [.ref hh, .ref hw, .int (nI nn)])), (hh, .inl (dA, 36, .inl (md_iA hv))), (hw, .inl (dA, 5, .inl (md_iA rw))), (g0, .inr (2, [.ref gr, .ref go, .int (nI nr), .int (nI nc), .ref gw, .ref gx])), (gr, .inl (dA, 5, .inl (md_iA row'))), (go, .inl (dA, 5, .inl (md_iA col'))), (gw, .inl (dL, 7776, .inr (.inl (md_lA wy)))), (gx, .inl (dL, 7776, .inr (.inl (md_lA nx))))] H → va_D (fun q : Nat => s.heap.size ≤ q) [(h0, .inr (0, [.ref hr, .ref ho, .ref hz, .ref hn, .int (nI nr), .int (nI nc)])), (hr, .inl (dA, 5, .inl (md_iA row))), (ho, .inl (dA, 5, .inl (md_iA col))), (hz, .inl (dA, 5, .inl (md_iA srt))), (hn, .inr (1, [.ref hh, .ref hw, .int (nI nn)])), (hh, .inl (dA, 36, .inl (md_iA hv))), (hw, .inl (dA, 5, .inl (md_iA rw))), (g0, .inr (2, [.ref gr, .ref go, .int (nI nr), .int (nI nc), .ref gw, .ref gx])), (gr, .inl (dA, 5, .inl (md_iA row'))), (go, .inl (dA, 5, .inl (md_iA col'))), (gw, .inl (dL, 7776, .inr (.inl (md_lA wy)))), (gx, .inl (dL, 7776, .inr (.inl (md_lA nx))))] → va_S (fun q : Nat => s.heap.size ≤ q) s.heap H locs → lv_has ls 4 [(0, .ref b), (1, .ref h0), (2, .ref g0), (3, .int (nI i))] → W p l e room_1 s m #[Value.ref b] below meth c H locs 600000 7302250 (lw_Z below #[Value.ref b] s) (F0 m 18 ls []) := by
  obtain ⟨hx, hb, hrt, hml, hown, hts0, hX, hbl, hlocks, hgv⟩ := C0
  have hts : ∀ w ∈ lw_all, w.before #[Value.ref b] s = true := fun w h => hts0 w (lw_all_tbl h)
  have hb : c.code = cL_law := hb
  have hA : ∀ q : Nat, s.heap.size ≤ q → (fun q : Nat => s.heap.size ≤ q) q := fun _ h => h
  have hbA : ¬ (fun q : Nat => s.heap.size ≤ q) b := Nat.not_le.mpr hbl
  intro dd
  induction dd with
  | zero =>
    intro i nr nc nn row col srt hv rw row' col' wy nx H locs ls hi hi2 hr1 hr5 hc1 hc5 hrow hcol hsrt hrw her hec hP hD hS hl
    refine lv_iload_n hx hb dL_law_18 rfl (lv_at hl 3 rfl) ?_
    refine lv_aload_n hx hb dL_law_19 rfl (lv_at hl 0 rfl) ?_
    refine va_slen hx hb hX hbl hbA hS dL_law_20 ?_
    refine nv_i (y := nI L) rfl ?_
    refine lv_iconst (v := nI 3) hx hb dL_law_21 (by decide) ?_
    refine lv_isub hx hb dL_law_22 ?_
    refine lv_icmp_gt (tgt := 228) hx hb dL_law_23 (by decide) (fun hc => ?_) (fun hc => ?_)
    · refine lv_iconst (v := 1) hx hb dL_law_228 (by decide) ?_
      refine va_forget (fun q hq => hS.2.2 q hq) ?_
      exact lw_ret hx hb hrt hlocks dL_law_229
    · exact absurd (md_law_in (by omega) (by omega) hc) (by omega)
  | succ dd ih =>
    intro i nr nc nn row col srt hv rw row' col' wy nx H locs ls hi hi2 hr1 hr5 hc1 hc5 hrow hcol hsrt hrw her hec hP hD hS hl
    refine lv_iload_n hx hb dL_law_18 rfl (lv_at hl 3 rfl) ?_
    refine lv_aload_n hx hb dL_law_19 rfl (lv_at hl 0 rfl) ?_
    refine va_slen hx hb hX hbl hbA hS dL_law_20 ?_
    refine nv_i (y := nI L) rfl ?_
    refine lv_iconst (v := nI 3) hx hb dL_law_21 (by decide) ?_
    refine lv_isub hx hb dL_law_22 ?_
    refine lv_icmp_gt (tgt := 228) hx hb dL_law_23 (by decide) (fun hc => ?_) (fun hc => ?_)
    · refine lv_iconst (v := 1) hx hb dL_law_228 (by decide) ?_
      refine va_forget (fun q hq => hS.2.2 q hq) ?_
      exact lw_ret hx hb hrt hlocks dL_law_229
    · have hin := md_law_in (by omega) (by omega) hc
      have next : ∀ (nr nc nn : Nat) (row col srt hv rw row' col' wy nx : Nat → Nat) (H : Heap) (locs : List Loc) (ls : Array Slot), 1 ≤ nr → nr ≤ 5 → 1 ≤ nc → nc ≤ 5 → (∀ k, k < 5 → row k ≤ 5) → (∀ k, k < 5 → col k ≤ 5) → (∀ k, k < 5 → srt k ≤ 5) → (∀ k, k < 5 → rw k ≤ 5) → (∀ k, k < 5 → row' k = row k) → (∀ k, k < 5 → col' k = col k) → va_P D vwCl [(h0, .inr (0, [.ref hr, .ref ho, .ref hz, .ref hn, .int (nI nr), .int (nI nc)])), (hr, .inl (dA, 5, .inl (md_iA row))), (ho, .inl (dA, 5, .inl (md_iA col))), (hz, .inl (dA, 5, .inl (md_iA srt))), (hn, .inr (1, [.ref hh, .ref hw, .int (nI nn)])), (hh, .inl (dA, 36, .inl (md_iA hv))), (hw, .inl (dA, 5, .inl (md_iA rw))), (g0, .inr (2, [.ref gr, .ref go, .int (nI nr), .int (nI nc), .ref gw, .ref gx])), (gr, .inl (dA, 5, .inl (md_iA row'))), (go, .inl (dA, 5, .inl (md_iA col'))), (gw, .inl (dL, 7776, .inr (.inl (md_lA wy)))), (gx, .inl (dL, 7776, .inr (.inl (md_lA nx))))] H → va_D (fun q : Nat => s.heap.size ≤ q) [(h0, .inr (0, [.ref hr, .ref ho, .ref hz, .ref hn, .int (nI nr), .int (nI nc)])), (hr, .inl (dA, 5, .inl (md_iA row))), (ho, .inl (dA, 5, .inl (md_iA col))), (hz, .inl (dA, 5, .inl (md_iA srt))), (hn, .inr (1, [.ref hh, .ref hw, .int (nI nn)])), (hh, .inl (dA, 36, .inl (md_iA hv))), (hw, .inl (dA, 5, .inl (md_iA rw))), (g0, .inr (2, [.ref gr, .ref go, .int (nI nr), .int (nI nc), .ref gw, .ref gx])), (gr, .inl (dA, 5, .inl (md_iA row'))), (go, .inl (dA, 5, .inl (md_iA col'))), (gw, .inl (dL, 7776, .inr (.inl (md_lA wy)))), (gx, .inl (dL, 7776, .inr (.inl (md_lA nx))))] → va_S (fun q : Nat => s.heap.size ≤ q) s.heap H locs → lv_has ls 4 [(0, .ref b), (1, .ref h0), (2, .ref g0), (3, .int (nI i))] → W p l e room_1 s m #[Value.ref b] below meth c H locs 600000 7302250 (lw_Z below #[Value.ref b] s) (F0 m 222 ls []) := by
        intro nr nc nn row col srt hv rw row' col' wy nx H locs ls hr1 hr5 hc1 hc5 hrow hcol hsrt hrw her hec hP hD hS hl
        refine lv_iinc (v := (nI (i + 3))) (lv' := [(3, .int (nI (i + 3))), (0, .ref b), (1, .ref h0), (2, .ref g0)]) hx hb dL_law_222 hl (k := 3) rfl (nv_inc3 _) (by decide) rfl (fun ls hl => ?_)
        refine lv_goto (tgt := 18) hx hb dL_law_225 (by decide) ?_
        exact ih (i + 3) nr nc nn row col srt hv rw row' col' wy nx _ _ ls (by omega) (by omega) hr1 hr5 hc1 hc5 hrow hcol hsrt hrw her hec hP hD hS (lv_sub hl [1, 2, 3, 0] rfl)
      refine lv_aload_n hx hb dL_law_26 rfl (lv_at hl 0 rfl) ?_
      refine lv_iload_n hx hb dL_law_27 rfl (lv_at hl 3 rfl) ?_
      refine nv_sld hx hb hX hbl hbA hS (by omega) (by omega) dL_law_28 ?_
      refine lv_bipush (v := nI 7) hx hb dL_law_29 (by decide) ?_
      refine lv_iand hx hb dL_law_31 ?_
      obtain ⟨j, hj, ej⟩ := pk_andE (xs i) (m := nI 7) 3 (by decide)
      refine nv_i ej ?_
      rcases (show j = 0 ∨ j = 1 ∨ j = 2 ∨ j = 3 ∨ j = 4 ∨ j = 5 ∨ j = 6 ∨ j = 7 by omega) with rfl | rfl | rfl | rfl | rfl | rfl | rfl | rfl
      · refine lv_tableIn (off := 44) (tgt := 76) hx hb dL_law_32 (by decide) (by decide) (by decide) (by decide) ?_
        refine lv_aload_n hx hb dL_law_76 rfl (lv_at hl 1 rfl) ?_
        refine lv_aload_n hx hb dL_law_77 rfl (lv_at hl 0 rfl) ?_
        refine lv_iload_n hx hb dL_law_78 rfl (lv_at hl 3 rfl) ?_
        refine lv_iconst (v := nI 1) hx hb dL_law_79 (by decide) ?_
        refine nv_add hx hb dL_law_80 ?_
        refine nv_sld hx hb hX hbl hbA hS (by omega) (by omega) dL_law_81 ?_
        refine lv_aload_n hx hb dL_law_82 rfl (lv_at hl 0 rfl) ?_
        refine lv_iload_n hx hb dL_law_83 rfl (lv_at hl 3 rfl) ?_
        refine lv_iconst (v := nI 2) hx hb dL_law_84 (by decide) ?_
        refine nv_add hx hb dL_law_85 ?_
        refine nv_sld hx hb hX hbl hbA hS (by omega) (by omega) dL_law_86 ?_
        refine md_cVv (wr := [(g0, .inr (2, [.ref gr, .ref go, .int (nI nr), .int (nI nc), .ref gw, .ref gx])), (gr, .inl (dA, 5, .inl (md_iA row'))), (go, .inl (dA, 5, .inl (md_iA col'))), (gw, .inl (dL, 7776, .inr (.inl (md_lA wy)))), (gx, .inl (dL, 7776, .inr (.inl (md_lA nx))))]) hx hb hml hown hts hK hP hD hS hA [0, 1, 2, 3, 4, 5, 6] [7, 8, 9, 10, 11] rfl rfl (by decide) (by decide) (by decide) (mX0_size l D dA dL h0 hr ho hz hn hh hw H.size nr nc nn row col srt hv rw (xs (i + 1)) (xs (i + 2))) (cwV 2 hts (lw_V q52 q53 q54 q4 q55) rfl rfl rfl (by decide +kernel) ⟨Nat.le_of_ble_eq_true rfl, Nat.le_of_ble_eq_true rfl⟩) (q0 := 0) (ci := 0) rfl rfl rfl rfl hl.1 rfl (Nat.le_of_ble_eq_true rfl) dL_law_87 ⟨Nat.le_refl _, Nat.le_refl _⟩ (fun u H locs hw1 hP hD hS => ?_)
        have hP := hP.sub (ws' := [(h0, .inr (0, [.ref hr, .ref ho, .ref hz, .ref hn, .int (nI (1 + md_m31 (xs (i + 1)) % 5)), .int (nI (1 + md_m31 (xs (i + 2)) % 5))])), (hr, .inl (dA, 5, .inl (md_iA u.1))), (ho, .inl (dA, 5, .inl (md_iA u.2))), (hz, .inl (dA, 5, .inl (md_iA srt))), (hn, .inr (1, [.ref hh, .ref hw, .int (nI nn)])), (hh, .inl (dA, 36, .inl (md_iA hv))), (hw, .inl (dA, 5, .inl (md_iA rw))), (g0, .inr (2, [.ref gr, .ref go, .int (nI nr), .int (nI nc), .ref gw, .ref gx])), (gr, .inl (dA, 5, .inl (md_iA row'))), (go, .inl (dA, 5, .inl (md_iA col'))), (gw, .inl (dL, 7776, .inr (.inl (md_lA wy)))), (gx, .inl (dL, 7776, .inr (.inl (md_lA nx))))]) [5, 6, 7, 8, 9, 10, 11, 0, 1, 2, 3, 4] rfl
        have hD := hD.sub (ws' := [(h0, .inr (0, [.ref hr, .ref ho, .ref hz, .ref hn, .int (nI (1 + md_m31 (xs (i + 1)) % 5)), .int (nI (1 + md_m31 (xs (i + 2)) % 5))])), (hr, .inl (dA, 5, .inl (md_iA u.1))), (ho, .inl (dA, 5, .inl (md_iA u.2))), (hz, .inl (dA, 5, .inl (md_iA srt))), (hn, .inr (1, [.ref hh, .ref hw, .int (nI nn)])), (hh, .inl (dA, 36, .inl (md_iA hv))), (hw, .inl (dA, 5, .inl (md_iA rw))), (g0, .inr (2, [.ref gr, .ref go, .int (nI nr), .int (nI nc), .ref gw, .ref gx])), (gr, .inl (dA, 5, .inl (md_iA row'))), (go, .inl (dA, 5, .inl (md_iA col'))), (gw, .inl (dL, 7776, .inr (.inl (md_lA wy)))), (gx, .inl (dL, 7776, .inr (.inl (md_lA nx))))]) [5, 6, 7, 8, 9, 10, 11, 0, 1, 2, 3, 4] (by decide) rfl
        refine lv_aload_n hx hb dL_law_90 rfl (lv_at hl 2 rfl) ?_
        refine lv_aload_n hx hb dL_law_91 rfl (lv_at hl 0 rfl) ?_
        refine lv_iload_n hx hb dL_law_92 rfl (lv_at hl 3 rfl) ?_
        refine lv_iconst (v := nI 1) hx hb dL_law_93 (by decide) ?_
        refine nv_add hx hb dL_law_94 ?_
        refine nv_sld hx hb hX hbl hbA hS (by omega) (by omega) dL_law_95 ?_
        refine lv_aload_n hx hb dL_law_96 rfl (lv_at hl 0 rfl) ?_
        refine lv_iload_n hx hb dL_law_97 rfl (lv_at hl 3 rfl) ?_
        refine lv_iconst (v := nI 2) hx hb dL_law_98 (by decide) ?_
        refine nv_add hx hb dL_law_99 ?_
        refine nv_sld hx hb hX hbl hbA hS (by omega) (by omega) dL_law_100 ?_
        refine md_cVv (wr := [(h0, .inr (0, [.ref hr, .ref ho, .ref hz, .ref hn, .int (nI (1 + md_m31 (xs (i + 1)) % 5)), .int (nI (1 + md_m31 (xs (i + 2)) % 5))])), (hr, .inl (dA, 5, .inl (md_iA u.1))), (ho, .inl (dA, 5, .inl (md_iA u.2))), (hz, .inl (dA, 5, .inl (md_iA srt))), (hn, .inr (1, [.ref hh, .ref hw, .int (nI nn)])), (hh, .inl (dA, 36, .inl (md_iA hv))), (hw, .inl (dA, 5, .inl (md_iA rw)))]) hx hb hml hown hts hK hP hD hS hA [7, 8, 9, 10, 11] [0, 1, 2, 3, 4, 5, 6] rfl rfl (by decide) (by decide) (by decide) (mX2_size l D dA dL g0 gr go gw gx H.size nr nc row' col' wy nx (xs (i + 1)) (xs (i + 2))) (cwV 2 hts (lw_V q131 q132 q133 q6 q134) rfl rfl rfl (by decide +kernel) ⟨Nat.le_of_ble_eq_true rfl, Nat.le_of_ble_eq_true rfl⟩) (q0 := 0) (ci := 2) rfl rfl rfl rfl hl.1 rfl (Nat.le_of_ble_eq_true rfl) dL_law_101 ⟨Nat.le_refl _, Nat.le_refl _⟩ (fun u' H locs hw2 hP hD hS => ?_)
        have hP : va_P D vwCl [(h0, .inr (0, [.ref hr, .ref ho, .ref hz, .ref hn, .int (nI (1 + md_m31 (xs (i + 1)) % 5)), .int (nI (1 + md_m31 (xs (i + 2)) % 5))])), (hr, .inl (dA, 5, .inl (md_iA u.1))), (ho, .inl (dA, 5, .inl (md_iA u.2))), (hz, .inl (dA, 5, .inl (md_iA srt))), (hn, .inr (1, [.ref hh, .ref hw, .int (nI nn)])), (hh, .inl (dA, 36, .inl (md_iA hv))), (hw, .inl (dA, 5, .inl (md_iA rw))), (g0, .inr (2, [.ref gr, .ref go, .int (nI (1 + md_m31 (xs (i + 1)) % 5)), .int (nI (1 + md_m31 (xs (i + 2)) % 5)), .ref gw, .ref gx])), (gr, .inl (dA, 5, .inl (md_iA u'.1))), (go, .inl (dA, 5, .inl (md_iA u'.2))), (gw, .inl (dL, 7776, .inr (.inl (md_lA wy)))), (gx, .inl (dL, 7776, .inr (.inl (md_lA nx))))] H := hP
        have hD : va_D (fun q : Nat => s.heap.size ≤ q) [(h0, .inr (0, [.ref hr, .ref ho, .ref hz, .ref hn, .int (nI (1 + md_m31 (xs (i + 1)) % 5)), .int (nI (1 + md_m31 (xs (i + 2)) % 5))])), (hr, .inl (dA, 5, .inl (md_iA u.1))), (ho, .inl (dA, 5, .inl (md_iA u.2))), (hz, .inl (dA, 5, .inl (md_iA srt))), (hn, .inr (1, [.ref hh, .ref hw, .int (nI nn)])), (hh, .inl (dA, 36, .inl (md_iA hv))), (hw, .inl (dA, 5, .inl (md_iA rw))), (g0, .inr (2, [.ref gr, .ref go, .int (nI (1 + md_m31 (xs (i + 1)) % 5)), .int (nI (1 + md_m31 (xs (i + 2)) % 5)), .ref gw, .ref gx])), (gr, .inl (dA, 5, .inl (md_iA u'.1))), (go, .inl (dA, 5, .inl (md_iA u'.2))), (gw, .inl (dL, 7776, .inr (.inl (md_lA wy)))), (gx, .inl (dL, 7776, .inr (.inl (md_lA nx))))] := hD
        refine lv_goto (tgt := 222) hx hb dL_law_104 (by decide) ?_
        exact next (1 + md_m31 (xs (i + 1)) % 5) (1 + md_m31 (xs (i + 2)) % 5) nn u.1 u.2 srt hv rw u'.1 u'.2 wy nx _ _ ls (by omega) (by omega) (by omega) (by omega) (fun k hk => by rw [hw1.1 k hk]; exact Nat.zero_le _) (fun k hk => by rw [hw1.2 k hk]; exact Nat.zero_le _) hsrt hrw (fun k hk => by rw [hw1.1 k hk, hw2.1 k hk]) (fun k hk => by rw [hw1.2 k hk, hw2.2 k hk]) hP hD hS hl
      · refine lv_tableIn (off := 75) (tgt := 107) hx hb dL_law_32 (by decide) (by decide) (by decide) (by decide) ?_
        refine lv_aload_n hx hb dL_law_107 rfl (lv_at hl 1 rfl) ?_
        refine lv_aload_n hx hb dL_law_108 rfl (lv_at hl 0 rfl) ?_
        refine lv_iload_n hx hb dL_law_109 rfl (lv_at hl 3 rfl) ?_
        refine lv_iconst (v := nI 1) hx hb dL_law_110 (by decide) ?_
        refine nv_add hx hb dL_law_111 ?_
        refine nv_sld hx hb hX hbl hbA hS (by omega) (by omega) dL_law_112 ?_
        refine lv_aload_n hx hb dL_law_113 rfl (lv_at hl 0 rfl) ?_
        refine lv_iload_n hx hb dL_law_114 rfl (lv_at hl 3 rfl) ?_
        refine lv_iconst (v := nI 2) hx hb dL_law_115 (by decide) ?_
        refine nv_add hx hb dL_law_116 ?_
        refine nv_sld hx hb hX hbl hbA hS (by omega) (by omega) dL_law_117 ?_
        refine md_cVv (wr := [(g0, .inr (2, [.ref gr, .ref go, .int (nI nr), .int (nI nc), .ref gw, .ref gx])), (gr, .inl (dA, 5, .inl (md_iA row'))), (go, .inl (dA, 5, .inl (md_iA col'))), (gw, .inl (dL, 7776, .inr (.inl (md_lA wy)))), (gx, .inl (dL, 7776, .inr (.inl (md_lA nx))))]) hx hb hml hown hts hK hP hD hS hA [0, 1, 2, 3, 4, 5, 6] [7, 8, 9, 10, 11] rfl rfl (by decide) (by decide) (by decide) (mX0_row l D dA dL h0 hr ho hz hn hh hw H.size nr nc nn row col srt hv rw (xs (i + 1)) (xs (i + 2)) hr1 hr5) (cwV 2 hts (lw_V q57 q58 q59 q4 q60) rfl rfl rfl (by decide +kernel) ⟨Nat.le_of_ble_eq_true rfl, Nat.le_of_ble_eq_true rfl⟩) (q0 := 0) (ci := 0) rfl rfl rfl rfl hl.1 rfl (Nat.le_of_ble_eq_true rfl) dL_law_118 ⟨Nat.le_refl _, Nat.le_refl _⟩ (fun u H locs _ hP hD hS => ?_)
        have hP := hP.sub (ws' := [(h0, .inr (0, [.ref hr, .ref ho, .ref hz, .ref hn, .int (nI nr), .int (nI nc)])), (hr, .inl (dA, 5, .inl (md_iA (md_up row (md_m31 (xs (i + 1)) % nr) (md_m31 (xs (i + 2)) % 6))))), (ho, .inl (dA, 5, .inl (md_iA col))), (hz, .inl (dA, 5, .inl (md_iA srt))), (hn, .inr (1, [.ref hh, .ref hw, .int (nI nn)])), (hh, .inl (dA, 36, .inl (md_iA hv))), (hw, .inl (dA, 5, .inl (md_iA rw))), (g0, .inr (2, [.ref gr, .ref go, .int (nI nr), .int (nI nc), .ref gw, .ref gx])), (gr, .inl (dA, 5, .inl (md_iA row'))), (go, .inl (dA, 5, .inl (md_iA col'))), (gw, .inl (dL, 7776, .inr (.inl (md_lA wy)))), (gx, .inl (dL, 7776, .inr (.inl (md_lA nx))))]) [5, 6, 7, 8, 9, 10, 11, 0, 1, 2, 3, 4] rfl
        have hD := hD.sub (ws' := [(h0, .inr (0, [.ref hr, .ref ho, .ref hz, .ref hn, .int (nI nr), .int (nI nc)])), (hr, .inl (dA, 5, .inl (md_iA (md_up row (md_m31 (xs (i + 1)) % nr) (md_m31 (xs (i + 2)) % 6))))), (ho, .inl (dA, 5, .inl (md_iA col))), (hz, .inl (dA, 5, .inl (md_iA srt))), (hn, .inr (1, [.ref hh, .ref hw, .int (nI nn)])), (hh, .inl (dA, 36, .inl (md_iA hv))), (hw, .inl (dA, 5, .inl (md_iA rw))), (g0, .inr (2, [.ref gr, .ref go, .int (nI nr), .int (nI nc), .ref gw, .ref gx])), (gr, .inl (dA, 5, .inl (md_iA row'))), (go, .inl (dA, 5, .inl (md_iA col'))), (gw, .inl (dL, 7776, .inr (.inl (md_lA wy)))), (gx, .inl (dL, 7776, .inr (.inl (md_lA nx))))]) [5, 6, 7, 8, 9, 10, 11, 0, 1, 2, 3, 4] (by decide) rfl
        refine lv_aload_n hx hb dL_law_121 rfl (lv_at hl 2 rfl) ?_
        refine lv_aload_n hx hb dL_law_122 rfl (lv_at hl 0 rfl) ?_
        refine lv_iload_n hx hb dL_law_123 rfl (lv_at hl 3 rfl) ?_
        refine lv_iconst (v := nI 1) hx hb dL_law_124 (by decide) ?_
        refine nv_add hx hb dL_law_125 ?_
        refine nv_sld hx hb hX hbl hbA hS (by omega) (by omega) dL_law_126 ?_
        refine lv_aload_n hx hb dL_law_127 rfl (lv_at hl 0 rfl) ?_
        refine lv_iload_n hx hb dL_law_128 rfl (lv_at hl 3 rfl) ?_
        refine lv_iconst (v := nI 2) hx hb dL_law_129 (by decide) ?_
        refine nv_add hx hb dL_law_130 ?_
        refine nv_sld hx hb hX hbl hbA hS (by omega) (by omega) dL_law_131 ?_
        refine md_cVv (wr := [(h0, .inr (0, [.ref hr, .ref ho, .ref hz, .ref hn, .int (nI nr), .int (nI nc)])), (hr, .inl (dA, 5, .inl (md_iA (md_up row (md_m31 (xs (i + 1)) % nr) (md_m31 (xs (i + 2)) % 6))))), (ho, .inl (dA, 5, .inl (md_iA col))), (hz, .inl (dA, 5, .inl (md_iA srt))), (hn, .inr (1, [.ref hh, .ref hw, .int (nI nn)])), (hh, .inl (dA, 36, .inl (md_iA hv))), (hw, .inl (dA, 5, .inl (md_iA rw)))]) hx hb hml hown hts hK hP hD hS hA [7, 8, 9, 10, 11] [0, 1, 2, 3, 4, 5, 6] rfl rfl (by decide) (by decide) (by decide) (mX2_row l D dA dL g0 gr go gw gx H.size nr nc row' col' wy nx (xs (i + 1)) (xs (i + 2)) hr1 hr5) (cwV 2 hts (lw_V q136 q137 q138 q6 q139) rfl rfl rfl (by decide +kernel) ⟨Nat.le_of_ble_eq_true rfl, Nat.le_of_ble_eq_true rfl⟩) (q0 := 0) (ci := 2) rfl rfl rfl rfl hl.1 rfl (Nat.le_of_ble_eq_true rfl) dL_law_132 ⟨Nat.le_refl _, Nat.le_refl _⟩ (fun u' H locs _ hP hD hS => ?_)
        have hP : va_P D vwCl [(h0, .inr (0, [.ref hr, .ref ho, .ref hz, .ref hn, .int (nI nr), .int (nI nc)])), (hr, .inl (dA, 5, .inl (md_iA (md_up row (md_m31 (xs (i + 1)) % nr) (md_m31 (xs (i + 2)) % 6))))), (ho, .inl (dA, 5, .inl (md_iA col))), (hz, .inl (dA, 5, .inl (md_iA srt))), (hn, .inr (1, [.ref hh, .ref hw, .int (nI nn)])), (hh, .inl (dA, 36, .inl (md_iA hv))), (hw, .inl (dA, 5, .inl (md_iA rw))), (g0, .inr (2, [.ref gr, .ref go, .int (nI nr), .int (nI nc), .ref gw, .ref gx])), (gr, .inl (dA, 5, .inl (md_iA (md_up row' (md_m31 (xs (i + 1)) % nr) (md_m31 (xs (i + 2)) % 6))))), (go, .inl (dA, 5, .inl (md_iA col'))), (gw, .inl (dL, 7776, .inr (.inl (md_lA wy)))), (gx, .inl (dL, 7776, .inr (.inl (md_lA nx))))] H := hP
        have hD : va_D (fun q : Nat => s.heap.size ≤ q) [(h0, .inr (0, [.ref hr, .ref ho, .ref hz, .ref hn, .int (nI nr), .int (nI nc)])), (hr, .inl (dA, 5, .inl (md_iA (md_up row (md_m31 (xs (i + 1)) % nr) (md_m31 (xs (i + 2)) % 6))))), (ho, .inl (dA, 5, .inl (md_iA col))), (hz, .inl (dA, 5, .inl (md_iA srt))), (hn, .inr (1, [.ref hh, .ref hw, .int (nI nn)])), (hh, .inl (dA, 36, .inl (md_iA hv))), (hw, .inl (dA, 5, .inl (md_iA rw))), (g0, .inr (2, [.ref gr, .ref go, .int (nI nr), .int (nI nc), .ref gw, .ref gx])), (gr, .inl (dA, 5, .inl (md_iA (md_up row' (md_m31 (xs (i + 1)) % nr) (md_m31 (xs (i + 2)) % 6))))), (go, .inl (dA, 5, .inl (md_iA col'))), (gw, .inl (dL, 7776, .inr (.inl (md_lA wy)))), (gx, .inl (dL, 7776, .inr (.inl (md_lA nx))))] := hD
        refine lv_goto (tgt := 222) hx hb dL_law_135 (by decide) ?_
        have n5 : ∀ k, k < 5 → (md_up row (md_m31 (xs (i + 1)) % nr) (md_m31 (xs (i + 2)) % 6)) k ≤ 5 := fun k hk => by
          by_cases e1 : k = md_m31 (xs (i + 1)) % nr
          · rw [e1, md_up_s]; omega
          · rw [md_up_n e1]; exact hrow k hk
        have ne : ∀ k, k < 5 → (md_up row' (md_m31 (xs (i + 1)) % nr) (md_m31 (xs (i + 2)) % 6)) k = (md_up row (md_m31 (xs (i + 1)) % nr) (md_m31 (xs (i + 2)) % 6)) k := fun k hk => by
          by_cases e1 : k = md_m31 (xs (i + 1)) % nr
          · rw [e1, md_up_s, md_up_s]
          · rw [md_up_n e1, md_up_n e1]; exact her k hk
        exact next nr nc nn (md_up row (md_m31 (xs (i + 1)) % nr) (md_m31 (xs (i + 2)) % 6)) col srt hv rw (md_up row' (md_m31 (xs (i + 1)) % nr) (md_m31 (xs (i + 2)) % 6)) col' wy nx _ _ ls hr1 hr5 hc1 hc5 n5 hcol hsrt hrw ne hec hP hD hS hl
      · refine lv_tableIn (off := 106) (tgt := 138) hx hb dL_law_32 (by decide) (by decide) (by decide) (by decide) ?_
        refine lv_aload_n hx hb dL_law_138 rfl (lv_at hl 1 rfl) ?_
        refine lv_aload_n hx hb dL_law_139 rfl (lv_at hl 0 rfl) ?_
        refine lv_iload_n hx hb dL_law_140 rfl (lv_at hl 3 rfl) ?_
        refine lv_iconst (v := nI 1) hx hb dL_law_141 (by decide) ?_
        refine nv_add hx hb dL_law_142 ?_
        refine nv_sld hx hb hX hbl hbA hS (by omega) (by omega) dL_law_143 ?_
        refine lv_aload_n hx hb dL_law_144 rfl (lv_at hl 0 rfl) ?_
        refine lv_iload_n hx hb dL_law_145 rfl (lv_at hl 3 rfl) ?_
        refine lv_iconst (v := nI 2) hx hb dL_law_146 (by decide) ?_
        refine nv_add hx hb dL_law_147 ?_
        refine nv_sld hx hb hX hbl hbA hS (by omega) (by omega) dL_law_148 ?_
        refine md_cVv (wr := [(g0, .inr (2, [.ref gr, .ref go, .int (nI nr), .int (nI nc), .ref gw, .ref gx])), (gr, .inl (dA, 5, .inl (md_iA row'))), (go, .inl (dA, 5, .inl (md_iA col'))), (gw, .inl (dL, 7776, .inr (.inl (md_lA wy)))), (gx, .inl (dL, 7776, .inr (.inl (md_lA nx))))]) hx hb hml hown hts hK hP hD hS hA [0, 1, 2, 3, 4, 5, 6] [7, 8, 9, 10, 11] rfl rfl (by decide) (by decide) (by decide) (mX0_column l D dA dL h0 hr ho hz hn hh hw H.size nr nc nn row col srt hv rw (xs (i + 1)) (xs (i + 2)) hc1 hc5) (cwV 2 hts (lw_V q61 q62 q63 q4 q64) rfl rfl rfl (by decide +kernel) ⟨Nat.le_of_ble_eq_true rfl, Nat.le_of_ble_eq_true rfl⟩) (q0 := 0) (ci := 0) rfl rfl rfl rfl hl.1 rfl (Nat.le_of_ble_eq_true rfl) dL_law_149 ⟨Nat.le_refl _, Nat.le_refl _⟩ (fun u H locs _ hP hD hS => ?_)
        have hP := hP.sub (ws' := [(h0, .inr (0, [.ref hr, .ref ho, .ref hz, .ref hn, .int (nI nr), .int (nI nc)])), (hr, .inl (dA, 5, .inl (md_iA row))), (ho, .inl (dA, 5, .inl (md_iA (md_up col (md_m31 (xs (i + 1)) % nc) (md_m31 (xs (i + 2)) % 6))))), (hz, .inl (dA, 5, .inl (md_iA srt))), (hn, .inr (1, [.ref hh, .ref hw, .int (nI nn)])), (hh, .inl (dA, 36, .inl (md_iA hv))), (hw, .inl (dA, 5, .inl (md_iA rw))), (g0, .inr (2, [.ref gr, .ref go, .int (nI nr), .int (nI nc), .ref gw, .ref gx])), (gr, .inl (dA, 5, .inl (md_iA row'))), (go, .inl (dA, 5, .inl (md_iA col'))), (gw, .inl (dL, 7776, .inr (.inl (md_lA wy)))), (gx, .inl (dL, 7776, .inr (.inl (md_lA nx))))]) [5, 6, 7, 8, 9, 10, 11, 0, 1, 2, 3, 4] rfl
        have hD := hD.sub (ws' := [(h0, .inr (0, [.ref hr, .ref ho, .ref hz, .ref hn, .int (nI nr), .int (nI nc)])), (hr, .inl (dA, 5, .inl (md_iA row))), (ho, .inl (dA, 5, .inl (md_iA (md_up col (md_m31 (xs (i + 1)) % nc) (md_m31 (xs (i + 2)) % 6))))), (hz, .inl (dA, 5, .inl (md_iA srt))), (hn, .inr (1, [.ref hh, .ref hw, .int (nI nn)])), (hh, .inl (dA, 36, .inl (md_iA hv))), (hw, .inl (dA, 5, .inl (md_iA rw))), (g0, .inr (2, [.ref gr, .ref go, .int (nI nr), .int (nI nc), .ref gw, .ref gx])), (gr, .inl (dA, 5, .inl (md_iA row'))), (go, .inl (dA, 5, .inl (md_iA col'))), (gw, .inl (dL, 7776, .inr (.inl (md_lA wy)))), (gx, .inl (dL, 7776, .inr (.inl (md_lA nx))))]) [5, 6, 7, 8, 9, 10, 11, 0, 1, 2, 3, 4] (by decide) rfl
        refine lv_aload_n hx hb dL_law_152 rfl (lv_at hl 2 rfl) ?_
        refine lv_aload_n hx hb dL_law_153 rfl (lv_at hl 0 rfl) ?_
        refine lv_iload_n hx hb dL_law_154 rfl (lv_at hl 3 rfl) ?_
        refine lv_iconst (v := nI 1) hx hb dL_law_155 (by decide) ?_
        refine nv_add hx hb dL_law_156 ?_
        refine nv_sld hx hb hX hbl hbA hS (by omega) (by omega) dL_law_157 ?_
        refine lv_aload_n hx hb dL_law_158 rfl (lv_at hl 0 rfl) ?_
        refine lv_iload_n hx hb dL_law_159 rfl (lv_at hl 3 rfl) ?_
        refine lv_iconst (v := nI 2) hx hb dL_law_160 (by decide) ?_
        refine nv_add hx hb dL_law_161 ?_
        refine nv_sld hx hb hX hbl hbA hS (by omega) (by omega) dL_law_162 ?_
        refine md_cVv (wr := [(h0, .inr (0, [.ref hr, .ref ho, .ref hz, .ref hn, .int (nI nr), .int (nI nc)])), (hr, .inl (dA, 5, .inl (md_iA row))), (ho, .inl (dA, 5, .inl (md_iA (md_up col (md_m31 (xs (i + 1)) % nc) (md_m31 (xs (i + 2)) % 6))))), (hz, .inl (dA, 5, .inl (md_iA srt))), (hn, .inr (1, [.ref hh, .ref hw, .int (nI nn)])), (hh, .inl (dA, 36, .inl (md_iA hv))), (hw, .inl (dA, 5, .inl (md_iA rw)))]) hx hb hml hown hts hK hP hD hS hA [7, 8, 9, 10, 11] [0, 1, 2, 3, 4, 5, 6] rfl rfl (by decide) (by decide) (by decide) (mX2_column l D dA dL g0 gr go gw gx H.size nr nc row' col' wy nx (xs (i + 1)) (xs (i + 2)) hc1 hc5) (cwV 2 hts (lw_V q140 q141 q142 q6 q143) rfl rfl rfl (by decide +kernel) ⟨Nat.le_of_ble_eq_true rfl, Nat.le_of_ble_eq_true rfl⟩) (q0 := 0) (ci := 2) rfl rfl rfl rfl hl.1 rfl (Nat.le_of_ble_eq_true rfl) dL_law_163 ⟨Nat.le_refl _, Nat.le_refl _⟩ (fun u' H locs _ hP hD hS => ?_)
        have hP : va_P D vwCl [(h0, .inr (0, [.ref hr, .ref ho, .ref hz, .ref hn, .int (nI nr), .int (nI nc)])), (hr, .inl (dA, 5, .inl (md_iA row))), (ho, .inl (dA, 5, .inl (md_iA (md_up col (md_m31 (xs (i + 1)) % nc) (md_m31 (xs (i + 2)) % 6))))), (hz, .inl (dA, 5, .inl (md_iA srt))), (hn, .inr (1, [.ref hh, .ref hw, .int (nI nn)])), (hh, .inl (dA, 36, .inl (md_iA hv))), (hw, .inl (dA, 5, .inl (md_iA rw))), (g0, .inr (2, [.ref gr, .ref go, .int (nI nr), .int (nI nc), .ref gw, .ref gx])), (gr, .inl (dA, 5, .inl (md_iA row'))), (go, .inl (dA, 5, .inl (md_iA (md_up col' (md_m31 (xs (i + 1)) % nc) (md_m31 (xs (i + 2)) % 6))))), (gw, .inl (dL, 7776, .inr (.inl (md_lA wy)))), (gx, .inl (dL, 7776, .inr (.inl (md_lA nx))))] H := hP
        have hD : va_D (fun q : Nat => s.heap.size ≤ q) [(h0, .inr (0, [.ref hr, .ref ho, .ref hz, .ref hn, .int (nI nr), .int (nI nc)])), (hr, .inl (dA, 5, .inl (md_iA row))), (ho, .inl (dA, 5, .inl (md_iA (md_up col (md_m31 (xs (i + 1)) % nc) (md_m31 (xs (i + 2)) % 6))))), (hz, .inl (dA, 5, .inl (md_iA srt))), (hn, .inr (1, [.ref hh, .ref hw, .int (nI nn)])), (hh, .inl (dA, 36, .inl (md_iA hv))), (hw, .inl (dA, 5, .inl (md_iA rw))), (g0, .inr (2, [.ref gr, .ref go, .int (nI nr), .int (nI nc), .ref gw, .ref gx])), (gr, .inl (dA, 5, .inl (md_iA row'))), (go, .inl (dA, 5, .inl (md_iA (md_up col' (md_m31 (xs (i + 1)) % nc) (md_m31 (xs (i + 2)) % 6))))), (gw, .inl (dL, 7776, .inr (.inl (md_lA wy)))), (gx, .inl (dL, 7776, .inr (.inl (md_lA nx))))] := hD
        refine lv_goto (tgt := 222) hx hb dL_law_166 (by decide) ?_
        have n5 : ∀ k, k < 5 → (md_up col (md_m31 (xs (i + 1)) % nc) (md_m31 (xs (i + 2)) % 6)) k ≤ 5 := fun k hk => by
          by_cases e1 : k = md_m31 (xs (i + 1)) % nc
          · rw [e1, md_up_s]; omega
          · rw [md_up_n e1]; exact hcol k hk
        have ne : ∀ k, k < 5 → (md_up col' (md_m31 (xs (i + 1)) % nc) (md_m31 (xs (i + 2)) % 6)) k = (md_up col (md_m31 (xs (i + 1)) % nc) (md_m31 (xs (i + 2)) % 6)) k := fun k hk => by
          by_cases e1 : k = md_m31 (xs (i + 1)) % nc
          · rw [e1, md_up_s, md_up_s]
          · rw [md_up_n e1, md_up_n e1]; exact hec k hk
        exact next nr nc nn row (md_up col (md_m31 (xs (i + 1)) % nc) (md_m31 (xs (i + 2)) % 6)) srt hv rw row' (md_up col' (md_m31 (xs (i + 1)) % nc) (md_m31 (xs (i + 2)) % 6)) wy nx _ _ ls hr1 hr5 hc1 hc5 hrow n5 hsrt hrw her ne hP hD hS hl
      · refine lv_tableIn (off := 137) (tgt := 169) hx hb dL_law_32 (by decide) (by decide) (by decide) (by decide) ?_
        refine lv_aload_n hx hb dL_law_169 rfl (lv_at hl 1 rfl) ?_
        refine md_cVl (wr := [(g0, .inr (2, [.ref gr, .ref go, .int (nI nr), .int (nI nc), .ref gw, .ref gx])), (gr, .inl (dA, 5, .inl (md_iA row'))), (go, .inl (dA, 5, .inl (md_iA col'))), (gw, .inl (dL, 7776, .inr (.inl (md_lA wy)))), (gx, .inl (dL, 7776, .inr (.inl (md_lA nx))))]) hx hb hml hown hts hK hP hD hS hA [0, 1, 2, 3, 4, 5, 6] [7, 8, 9, 10, 11] rfl rfl (by decide) (by decide) (by decide) (mX0_count l D dA dL h0 hr ho hz hn hh hw H.size nr nc nn row col srt hv rw hr5 hc5 hrw hrow hcol) (cwV 0 hts (lw_V q65 q66 q67 q4 q68) rfl rfl rfl (by decide +kernel) ⟨Nat.le_of_ble_eq_true rfl, Nat.le_of_ble_eq_true rfl⟩) (q0 := 0) (ci := 0) rfl rfl rfl rfl hl.1 rfl (Nat.le_of_ble_eq_true rfl) dL_law_170 ⟨Nat.le_refl _, Nat.le_refl _⟩ (fun r1 u H locs hw1 hP hD hS => ?_)
        have hP := hP.sub (ws' := [(h0, .inr (0, [.ref hr, .ref ho, .ref hz, .ref hn, .int (nI nr), .int (nI nc)])), (hr, .inl (dA, 5, .inl (md_iA row))), (ho, .inl (dA, 5, .inl (md_iA col))), (hz, .inl (dA, 5, .inl (md_iA srt))), (hn, .inr (1, [.ref hh, .ref hw, .int (nI nr)])), (hh, .inl (dA, 36, .inl (md_iA u.1))), (hw, .inl (dA, 5, .inl (md_iA u.2))), (g0, .inr (2, [.ref gr, .ref go, .int (nI nr), .int (nI nc), .ref gw, .ref gx])), (gr, .inl (dA, 5, .inl (md_iA row'))), (go, .inl (dA, 5, .inl (md_iA col'))), (gw, .inl (dL, 7776, .inr (.inl (md_lA wy)))), (gx, .inl (dL, 7776, .inr (.inl (md_lA nx))))]) [5, 6, 7, 8, 9, 10, 11, 0, 1, 2, 3, 4] rfl
        have hD := hD.sub (ws' := [(h0, .inr (0, [.ref hr, .ref ho, .ref hz, .ref hn, .int (nI nr), .int (nI nc)])), (hr, .inl (dA, 5, .inl (md_iA row))), (ho, .inl (dA, 5, .inl (md_iA col))), (hz, .inl (dA, 5, .inl (md_iA srt))), (hn, .inr (1, [.ref hh, .ref hw, .int (nI nr)])), (hh, .inl (dA, 36, .inl (md_iA u.1))), (hw, .inl (dA, 5, .inl (md_iA u.2))), (g0, .inr (2, [.ref gr, .ref go, .int (nI nr), .int (nI nc), .ref gw, .ref gx])), (gr, .inl (dA, 5, .inl (md_iA row'))), (go, .inl (dA, 5, .inl (md_iA col'))), (gw, .inl (dL, 7776, .inr (.inl (md_lA wy)))), (gx, .inl (dL, 7776, .inr (.inl (md_lA nx))))]) [5, 6, 7, 8, 9, 10, 11, 0, 1, 2, 3, 4] (by decide) rfl
        refine lv_aload_n hx hb dL_law_173 rfl (lv_at hl 2 rfl) ?_
        refine md_cVl (wr := [(h0, .inr (0, [.ref hr, .ref ho, .ref hz, .ref hn, .int (nI nr), .int (nI nc)])), (hr, .inl (dA, 5, .inl (md_iA row))), (ho, .inl (dA, 5, .inl (md_iA col))), (hz, .inl (dA, 5, .inl (md_iA srt))), (hn, .inr (1, [.ref hh, .ref hw, .int (nI nr)])), (hh, .inl (dA, 36, .inl (md_iA u.1))), (hw, .inl (dA, 5, .inl (md_iA u.2)))]) hx hb hml hown hts hK hP hD hS hA [7, 8, 9, 10, 11] [0, 1, 2, 3, 4, 5, 6] rfl rfl (by decide) (by decide) (by decide) (mX2_count l D dA dL g0 gr go gw gx H.size nr nc row' col' wy nx hr5 hc1 hc5 (fun k hk => by rw [her k hk]; exact hrow k hk) (fun k hk => by rw [hec k hk]; exact hcol k hk)) (cwV 0 hts (lw_V q144 q145 q146 q6 q147) rfl rfl rfl (by decide +kernel) ⟨Nat.le_of_ble_eq_true rfl, Nat.le_of_ble_eq_true rfl⟩) (q0 := 0) (ci := 2) rfl rfl rfl rfl hl.1 rfl (Nat.le_of_ble_eq_true rfl) dL_law_174 ⟨Nat.le_refl _, Nat.le_refl _⟩ (fun r2 u' H locs hw2 hP hD hS => ?_)
        have hP : va_P D vwCl [(h0, .inr (0, [.ref hr, .ref ho, .ref hz, .ref hn, .int (nI nr), .int (nI nc)])), (hr, .inl (dA, 5, .inl (md_iA row))), (ho, .inl (dA, 5, .inl (md_iA col))), (hz, .inl (dA, 5, .inl (md_iA srt))), (hn, .inr (1, [.ref hh, .ref hw, .int (nI nr)])), (hh, .inl (dA, 36, .inl (md_iA u.1))), (hw, .inl (dA, 5, .inl (md_iA u.2))), (g0, .inr (2, [.ref gr, .ref go, .int (nI nr), .int (nI nc), .ref gw, .ref gx])), (gr, .inl (dA, 5, .inl (md_iA row'))), (go, .inl (dA, 5, .inl (md_iA col'))), (gw, .inl (dL, 7776, .inr (.inl (md_lA u'.1)))), (gx, .inl (dL, 7776, .inr (.inl (md_lA u'.2))))] H := hP
        have hD : va_D (fun q : Nat => s.heap.size ≤ q) [(h0, .inr (0, [.ref hr, .ref ho, .ref hz, .ref hn, .int (nI nr), .int (nI nc)])), (hr, .inl (dA, 5, .inl (md_iA row))), (ho, .inl (dA, 5, .inl (md_iA col))), (hz, .inl (dA, 5, .inl (md_iA srt))), (hn, .inr (1, [.ref hh, .ref hw, .int (nI nr)])), (hh, .inl (dA, 36, .inl (md_iA u.1))), (hw, .inl (dA, 5, .inl (md_iA u.2))), (g0, .inr (2, [.ref gr, .ref go, .int (nI nr), .int (nI nc), .ref gw, .ref gx])), (gr, .inl (dA, 5, .inl (md_iA row'))), (go, .inl (dA, 5, .inl (md_iA col'))), (gw, .inl (dL, 7776, .inr (.inl (md_lA u'.1)))), (gx, .inl (dL, 7776, .inr (.inl (md_lA u'.2))))] := hD
        have er : r1 = r2 := by rw [hw1.1, hw2, md_both hr5 hc5 her hec, md_count hr5 (fun j hj => hcol j (by omega))]
        subst er
        refine W.lcmp hx hb dL_law_177 ?_
        refine lv_if_eq (tgt := 222) hx hb dL_law_178 (by decide) (fun _ => ?_) (fun hz => absurd (nv_cmpE r1) hz)
        exact next nr nc nr row col srt u.1 u.2 row' col' u'.1 u'.2 _ _ ls hr1 hr5 hc1 hc5 hrow hcol hsrt hw1.2 her hec hP hD hS hl
      · refine lv_tableIn (off := 151) (tgt := 183) hx hb dL_law_32 (by decide) (by decide) (by decide) (by decide) ?_
        refine lv_aload_n hx hb dL_law_183 rfl (lv_at hl 1 rfl) ?_
        refine md_cVi (wr := [(g0, .inr (2, [.ref gr, .ref go, .int (nI nr), .int (nI nc), .ref gw, .ref gx])), (gr, .inl (dA, 5, .inl (md_iA row'))), (go, .inl (dA, 5, .inl (md_iA col'))), (gw, .inl (dL, 7776, .inr (.inl (md_lA wy)))), (gx, .inl (dL, 7776, .inr (.inl (md_lA nx))))]) hx hb hml hown hts hK hP hD hS hA [0, 1, 2, 3, 4, 5, 6] [7, 8, 9, 10, 11] rfl rfl (by decide) (by decide) (by decide) (mX0_any l D dA dL h0 hr ho hz hn hh hw H.size nr nc nn row col srt hv rw hr5 hc5 hrow hcol hsrt) (cwV 0 hts (lw_V q85 q86 q87 q4 q88) rfl rfl rfl (by decide +kernel) ⟨Nat.le_of_ble_eq_true rfl, Nat.le_of_ble_eq_true rfl⟩) (q0 := 0) (ci := 0) rfl rfl rfl rfl hl.1 rfl (Nat.le_of_ble_eq_true rfl) dL_law_184 ⟨Nat.le_refl _, Nat.le_refl _⟩ (fun r1 u H locs hw1 hP hD hS => ?_)
        have hP := hP.sub (ws' := [(h0, .inr (0, [.ref hr, .ref ho, .ref hz, .ref hn, .int (nI nr), .int (nI nc)])), (hr, .inl (dA, 5, .inl (md_iA row))), (ho, .inl (dA, 5, .inl (md_iA col))), (hz, .inl (dA, 5, .inl (md_iA u))), (hn, .inr (1, [.ref hh, .ref hw, .int (nI nn)])), (hh, .inl (dA, 36, .inl (md_iA hv))), (hw, .inl (dA, 5, .inl (md_iA rw))), (g0, .inr (2, [.ref gr, .ref go, .int (nI nr), .int (nI nc), .ref gw, .ref gx])), (gr, .inl (dA, 5, .inl (md_iA row'))), (go, .inl (dA, 5, .inl (md_iA col'))), (gw, .inl (dL, 7776, .inr (.inl (md_lA wy)))), (gx, .inl (dL, 7776, .inr (.inl (md_lA nx))))]) [5, 6, 7, 8, 9, 10, 11, 0, 1, 2, 3, 4] rfl
        have hD := hD.sub (ws' := [(h0, .inr (0, [.ref hr, .ref ho, .ref hz, .ref hn, .int (nI nr), .int (nI nc)])), (hr, .inl (dA, 5, .inl (md_iA row))), (ho, .inl (dA, 5, .inl (md_iA col))), (hz, .inl (dA, 5, .inl (md_iA u))), (hn, .inr (1, [.ref hh, .ref hw, .int (nI nn)])), (hh, .inl (dA, 36, .inl (md_iA hv))), (hw, .inl (dA, 5, .inl (md_iA rw))), (g0, .inr (2, [.ref gr, .ref go, .int (nI nr), .int (nI nc), .ref gw, .ref gx])), (gr, .inl (dA, 5, .inl (md_iA row'))), (go, .inl (dA, 5, .inl (md_iA col'))), (gw, .inl (dL, 7776, .inr (.inl (md_lA wy)))), (gx, .inl (dL, 7776, .inr (.inl (md_lA nx))))]) [5, 6, 7, 8, 9, 10, 11, 0, 1, 2, 3, 4] (by decide) rfl
        refine lv_aload_n hx hb dL_law_187 rfl (lv_at hl 2 rfl) ?_
        refine md_cVi (wr := [(h0, .inr (0, [.ref hr, .ref ho, .ref hz, .ref hn, .int (nI nr), .int (nI nc)])), (hr, .inl (dA, 5, .inl (md_iA row))), (ho, .inl (dA, 5, .inl (md_iA col))), (hz, .inl (dA, 5, .inl (md_iA u))), (hn, .inr (1, [.ref hh, .ref hw, .int (nI nn)])), (hh, .inl (dA, 36, .inl (md_iA hv))), (hw, .inl (dA, 5, .inl (md_iA rw)))]) hx hb hml hown hts hK hP hD hS hA [7, 8, 9, 10, 11] [0, 1, 2, 3, 4, 5, 6] rfl rfl (by decide) (by decide) (by decide) (mX2_any l D dA dL g0 gr go gw gx H.size nr nc row' col' wy nx hr5 hc1 hc5 (fun k hk => by rw [her k hk]; exact hrow k hk) (fun k hk => by rw [hec k hk]; exact hcol k hk)) (cwV 0 hts (lw_V q152 q153 q154 q6 q155) rfl rfl rfl (by decide +kernel) ⟨Nat.le_of_ble_eq_true rfl, Nat.le_of_ble_eq_true rfl⟩) (q0 := 0) (ci := 2) rfl rfl rfl rfl hl.1 rfl (Nat.le_of_ble_eq_true rfl) dL_law_188 ⟨Nat.le_refl _, Nat.le_refl _⟩ (fun r2 u' H locs hw2 hP hD hS => ?_)
        have hP : va_P D vwCl [(h0, .inr (0, [.ref hr, .ref ho, .ref hz, .ref hn, .int (nI nr), .int (nI nc)])), (hr, .inl (dA, 5, .inl (md_iA row))), (ho, .inl (dA, 5, .inl (md_iA col))), (hz, .inl (dA, 5, .inl (md_iA u))), (hn, .inr (1, [.ref hh, .ref hw, .int (nI nn)])), (hh, .inl (dA, 36, .inl (md_iA hv))), (hw, .inl (dA, 5, .inl (md_iA rw))), (g0, .inr (2, [.ref gr, .ref go, .int (nI nr), .int (nI nc), .ref gw, .ref gx])), (gr, .inl (dA, 5, .inl (md_iA row'))), (go, .inl (dA, 5, .inl (md_iA col'))), (gw, .inl (dL, 7776, .inr (.inl (md_lA u'.1)))), (gx, .inl (dL, 7776, .inr (.inl (md_lA u'.2))))] H := hP
        have hD : va_D (fun q : Nat => s.heap.size ≤ q) [(h0, .inr (0, [.ref hr, .ref ho, .ref hz, .ref hn, .int (nI nr), .int (nI nc)])), (hr, .inl (dA, 5, .inl (md_iA row))), (ho, .inl (dA, 5, .inl (md_iA col))), (hz, .inl (dA, 5, .inl (md_iA u))), (hn, .inr (1, [.ref hh, .ref hw, .int (nI nn)])), (hh, .inl (dA, 36, .inl (md_iA hv))), (hw, .inl (dA, 5, .inl (md_iA rw))), (g0, .inr (2, [.ref gr, .ref go, .int (nI nr), .int (nI nc), .ref gw, .ref gx])), (gr, .inl (dA, 5, .inl (md_iA row'))), (go, .inl (dA, 5, .inl (md_iA col'))), (gw, .inl (dL, 7776, .inr (.inl (md_lA u'.1)))), (gx, .inl (dL, 7776, .inr (.inl (md_lA u'.2))))] := hD
        rw [md_both hr5 hc5 her hec] at hw2
        have ha := md_any (n := nr) (m := nc) (row := row) (col := col) (srt := srt) hr5 (fun j hj => hcol j (by omega))
        have er : r1 = r2 := by
          by_cases h9 : 0 < md_W nc row nr (md_code (md_rl col 0 nc))
          · rw [hw1.1 (ha.mpr h9), hw2.1 h9]
          · rw [hw1.2.1 (fun z => h9 (ha.mp z)), hw2.2 h9]
        refine lv_icmp_eq (tgt := 222) hx hb dL_law_191 (by decide) (fun _ => ?_) (fun hz => absurd er hz)
        exact next nr nc nn row col u hv rw row' col' u'.1 u'.2 _ _ ls hr1 hr5 hc1 hc5 hrow hcol hw1.2.2 hrw her hec hP hD hS hl
      · refine lv_tableIn (off := 164) (tgt := 196) hx hb dL_law_32 (by decide) (by decide) (by decide) (by decide) ?_
        refine lv_aload_n hx hb dL_law_196 rfl (lv_at hl 1 rfl) ?_
        refine md_cVi (wr := [(g0, .inr (2, [.ref gr, .ref go, .int (nI nr), .int (nI nc), .ref gw, .ref gx])), (gr, .inl (dA, 5, .inl (md_iA row'))), (go, .inl (dA, 5, .inl (md_iA col'))), (gw, .inl (dL, 7776, .inr (.inl (md_lA wy)))), (gx, .inl (dL, 7776, .inr (.inl (md_lA nx))))]) hx hb hml hown hts hK hP hD hS hA [0, 1, 2, 3, 4, 5, 6] [7, 8, 9, 10, 11] rfl rfl (by decide) (by decide) (by decide) (mX0_rows l D dA dL h0 hr ho hz hn hh hw H.size nr nc nn row col srt hv rw hr5) (cwV 0 hts (lw_V q103 q90 q91 q4 q92) rfl rfl rfl (by decide +kernel) ⟨Nat.le_of_ble_eq_true rfl, Nat.le_of_ble_eq_true rfl⟩) (q0 := 0) (ci := 0) rfl rfl rfl rfl hl.1 rfl (Nat.le_of_ble_eq_true rfl) dL_law_197 ⟨Nat.le_refl _, Nat.le_refl _⟩ (fun r1 u H locs hw1 hP hD hS => ?_)
        have hP := hP.sub (ws' := [(h0, .inr (0, [.ref hr, .ref ho, .ref hz, .ref hn, .int (nI nr), .int (nI nc)])), (hr, .inl (dA, 5, .inl (md_iA row))), (ho, .inl (dA, 5, .inl (md_iA col))), (hz, .inl (dA, 5, .inl (md_iA srt))), (hn, .inr (1, [.ref hh, .ref hw, .int (nI nn)])), (hh, .inl (dA, 36, .inl (md_iA hv))), (hw, .inl (dA, 5, .inl (md_iA rw))), (g0, .inr (2, [.ref gr, .ref go, .int (nI nr), .int (nI nc), .ref gw, .ref gx])), (gr, .inl (dA, 5, .inl (md_iA row'))), (go, .inl (dA, 5, .inl (md_iA col'))), (gw, .inl (dL, 7776, .inr (.inl (md_lA wy)))), (gx, .inl (dL, 7776, .inr (.inl (md_lA nx))))]) [5, 6, 7, 8, 9, 10, 11, 0, 1, 2, 3, 4] rfl
        have hD := hD.sub (ws' := [(h0, .inr (0, [.ref hr, .ref ho, .ref hz, .ref hn, .int (nI nr), .int (nI nc)])), (hr, .inl (dA, 5, .inl (md_iA row))), (ho, .inl (dA, 5, .inl (md_iA col))), (hz, .inl (dA, 5, .inl (md_iA srt))), (hn, .inr (1, [.ref hh, .ref hw, .int (nI nn)])), (hh, .inl (dA, 36, .inl (md_iA hv))), (hw, .inl (dA, 5, .inl (md_iA rw))), (g0, .inr (2, [.ref gr, .ref go, .int (nI nr), .int (nI nc), .ref gw, .ref gx])), (gr, .inl (dA, 5, .inl (md_iA row'))), (go, .inl (dA, 5, .inl (md_iA col'))), (gw, .inl (dL, 7776, .inr (.inl (md_lA wy)))), (gx, .inl (dL, 7776, .inr (.inl (md_lA nx))))]) [5, 6, 7, 8, 9, 10, 11, 0, 1, 2, 3, 4] (by decide) rfl
        refine lv_aload_n hx hb dL_law_200 rfl (lv_at hl 2 rfl) ?_
        refine md_cVi (wr := [(h0, .inr (0, [.ref hr, .ref ho, .ref hz, .ref hn, .int (nI nr), .int (nI nc)])), (hr, .inl (dA, 5, .inl (md_iA row))), (ho, .inl (dA, 5, .inl (md_iA col))), (hz, .inl (dA, 5, .inl (md_iA srt))), (hn, .inr (1, [.ref hh, .ref hw, .int (nI nn)])), (hh, .inl (dA, 36, .inl (md_iA hv))), (hw, .inl (dA, 5, .inl (md_iA rw)))]) hx hb hml hown hts hK hP hD hS hA [7, 8, 9, 10, 11] [0, 1, 2, 3, 4, 5, 6] rfl rfl (by decide) (by decide) (by decide) (mX2_rows l D dA dL g0 gr go gw gx H.size nr nc row' col' wy nx hr5) (cwV 0 hts (lw_V q157 q158 q159 q6 q160) rfl rfl rfl (by decide +kernel) ⟨Nat.le_of_ble_eq_true rfl, Nat.le_of_ble_eq_true rfl⟩) (q0 := 0) (ci := 2) rfl rfl rfl rfl hl.1 rfl (Nat.le_of_ble_eq_true rfl) dL_law_201 ⟨Nat.le_refl _, Nat.le_refl _⟩ (fun r2 u' H locs hw2 hP hD hS => ?_)
        have hP : va_P D vwCl [(h0, .inr (0, [.ref hr, .ref ho, .ref hz, .ref hn, .int (nI nr), .int (nI nc)])), (hr, .inl (dA, 5, .inl (md_iA row))), (ho, .inl (dA, 5, .inl (md_iA col))), (hz, .inl (dA, 5, .inl (md_iA srt))), (hn, .inr (1, [.ref hh, .ref hw, .int (nI nn)])), (hh, .inl (dA, 36, .inl (md_iA hv))), (hw, .inl (dA, 5, .inl (md_iA rw))), (g0, .inr (2, [.ref gr, .ref go, .int (nI nr), .int (nI nc), .ref gw, .ref gx])), (gr, .inl (dA, 5, .inl (md_iA row'))), (go, .inl (dA, 5, .inl (md_iA col'))), (gw, .inl (dL, 7776, .inr (.inl (md_lA wy)))), (gx, .inl (dL, 7776, .inr (.inl (md_lA nx))))] H := hP
        have hD : va_D (fun q : Nat => s.heap.size ≤ q) [(h0, .inr (0, [.ref hr, .ref ho, .ref hz, .ref hn, .int (nI nr), .int (nI nc)])), (hr, .inl (dA, 5, .inl (md_iA row))), (ho, .inl (dA, 5, .inl (md_iA col))), (hz, .inl (dA, 5, .inl (md_iA srt))), (hn, .inr (1, [.ref hh, .ref hw, .int (nI nn)])), (hh, .inl (dA, 36, .inl (md_iA hv))), (hw, .inl (dA, 5, .inl (md_iA rw))), (g0, .inr (2, [.ref gr, .ref go, .int (nI nr), .int (nI nc), .ref gw, .ref gx])), (gr, .inl (dA, 5, .inl (md_iA row'))), (go, .inl (dA, 5, .inl (md_iA col'))), (gw, .inl (dL, 7776, .inr (.inl (md_lA wy)))), (gx, .inl (dL, 7776, .inr (.inl (md_lA nx))))] := hD
        have er : r1 = r2 := by rw [hw1, hw2, md_sum_ext (f := row') (g := row) (fun j hj => her j (by omega))]
        refine lv_icmp_eq (tgt := 222) hx hb dL_law_204 (by decide) (fun _ => ?_) (fun hz => absurd er hz)
        exact next nr nc nn row col srt hv rw row' col' wy nx _ _ ls hr1 hr5 hc1 hc5 hrow hcol hsrt hrw her hec hP hD hS hl
      · refine lv_tableIn (off := 177) (tgt := 209) hx hb dL_law_32 (by decide) (by decide) (by decide) (by decide) ?_
        refine lv_aload_n hx hb dL_law_209 rfl (lv_at hl 1 rfl) ?_
        refine md_cVi (wr := [(g0, .inr (2, [.ref gr, .ref go, .int (nI nr), .int (nI nc), .ref gw, .ref gx])), (gr, .inl (dA, 5, .inl (md_iA row'))), (go, .inl (dA, 5, .inl (md_iA col'))), (gw, .inl (dL, 7776, .inr (.inl (md_lA wy)))), (gx, .inl (dL, 7776, .inr (.inl (md_lA nx))))]) hx hb hml hown hts hK hP hD hS hA [0, 1, 2, 3, 4, 5, 6] [7, 8, 9, 10, 11] rfl rfl (by decide) (by decide) (by decide) (mX0_columns l D dA dL h0 hr ho hz hn hh hw H.size nr nc nn row col srt hv rw hc5) (cwV 0 hts (lw_V q104 q97 q98 q4 q99) rfl rfl rfl (by decide +kernel) ⟨Nat.le_of_ble_eq_true rfl, Nat.le_of_ble_eq_true rfl⟩) (q0 := 0) (ci := 0) rfl rfl rfl rfl hl.1 rfl (Nat.le_of_ble_eq_true rfl) dL_law_210 ⟨Nat.le_refl _, Nat.le_refl _⟩ (fun r1 u H locs hw1 hP hD hS => ?_)
        have hP := hP.sub (ws' := [(h0, .inr (0, [.ref hr, .ref ho, .ref hz, .ref hn, .int (nI nr), .int (nI nc)])), (hr, .inl (dA, 5, .inl (md_iA row))), (ho, .inl (dA, 5, .inl (md_iA col))), (hz, .inl (dA, 5, .inl (md_iA srt))), (hn, .inr (1, [.ref hh, .ref hw, .int (nI nn)])), (hh, .inl (dA, 36, .inl (md_iA hv))), (hw, .inl (dA, 5, .inl (md_iA rw))), (g0, .inr (2, [.ref gr, .ref go, .int (nI nr), .int (nI nc), .ref gw, .ref gx])), (gr, .inl (dA, 5, .inl (md_iA row'))), (go, .inl (dA, 5, .inl (md_iA col'))), (gw, .inl (dL, 7776, .inr (.inl (md_lA wy)))), (gx, .inl (dL, 7776, .inr (.inl (md_lA nx))))]) [5, 6, 7, 8, 9, 10, 11, 0, 1, 2, 3, 4] rfl
        have hD := hD.sub (ws' := [(h0, .inr (0, [.ref hr, .ref ho, .ref hz, .ref hn, .int (nI nr), .int (nI nc)])), (hr, .inl (dA, 5, .inl (md_iA row))), (ho, .inl (dA, 5, .inl (md_iA col))), (hz, .inl (dA, 5, .inl (md_iA srt))), (hn, .inr (1, [.ref hh, .ref hw, .int (nI nn)])), (hh, .inl (dA, 36, .inl (md_iA hv))), (hw, .inl (dA, 5, .inl (md_iA rw))), (g0, .inr (2, [.ref gr, .ref go, .int (nI nr), .int (nI nc), .ref gw, .ref gx])), (gr, .inl (dA, 5, .inl (md_iA row'))), (go, .inl (dA, 5, .inl (md_iA col'))), (gw, .inl (dL, 7776, .inr (.inl (md_lA wy)))), (gx, .inl (dL, 7776, .inr (.inl (md_lA nx))))]) [5, 6, 7, 8, 9, 10, 11, 0, 1, 2, 3, 4] (by decide) rfl
        refine lv_aload_n hx hb dL_law_213 rfl (lv_at hl 2 rfl) ?_
        refine md_cVi (wr := [(h0, .inr (0, [.ref hr, .ref ho, .ref hz, .ref hn, .int (nI nr), .int (nI nc)])), (hr, .inl (dA, 5, .inl (md_iA row))), (ho, .inl (dA, 5, .inl (md_iA col))), (hz, .inl (dA, 5, .inl (md_iA srt))), (hn, .inr (1, [.ref hh, .ref hw, .int (nI nn)])), (hh, .inl (dA, 36, .inl (md_iA hv))), (hw, .inl (dA, 5, .inl (md_iA rw)))]) hx hb hml hown hts hK hP hD hS hA [7, 8, 9, 10, 11] [0, 1, 2, 3, 4, 5, 6] rfl rfl (by decide) (by decide) (by decide) (mX2_columns l D dA dL g0 gr go gw gx H.size nr nc row' col' wy nx hc5) (cwV 0 hts (lw_V q161 q162 q163 q6 q164) rfl rfl rfl (by decide +kernel) ⟨Nat.le_of_ble_eq_true rfl, Nat.le_of_ble_eq_true rfl⟩) (q0 := 0) (ci := 2) rfl rfl rfl rfl hl.1 rfl (Nat.le_of_ble_eq_true rfl) dL_law_214 ⟨Nat.le_refl _, Nat.le_refl _⟩ (fun r2 u' H locs hw2 hP hD hS => ?_)
        have hP : va_P D vwCl [(h0, .inr (0, [.ref hr, .ref ho, .ref hz, .ref hn, .int (nI nr), .int (nI nc)])), (hr, .inl (dA, 5, .inl (md_iA row))), (ho, .inl (dA, 5, .inl (md_iA col))), (hz, .inl (dA, 5, .inl (md_iA srt))), (hn, .inr (1, [.ref hh, .ref hw, .int (nI nn)])), (hh, .inl (dA, 36, .inl (md_iA hv))), (hw, .inl (dA, 5, .inl (md_iA rw))), (g0, .inr (2, [.ref gr, .ref go, .int (nI nr), .int (nI nc), .ref gw, .ref gx])), (gr, .inl (dA, 5, .inl (md_iA row'))), (go, .inl (dA, 5, .inl (md_iA col'))), (gw, .inl (dL, 7776, .inr (.inl (md_lA wy)))), (gx, .inl (dL, 7776, .inr (.inl (md_lA nx))))] H := hP
        have hD : va_D (fun q : Nat => s.heap.size ≤ q) [(h0, .inr (0, [.ref hr, .ref ho, .ref hz, .ref hn, .int (nI nr), .int (nI nc)])), (hr, .inl (dA, 5, .inl (md_iA row))), (ho, .inl (dA, 5, .inl (md_iA col))), (hz, .inl (dA, 5, .inl (md_iA srt))), (hn, .inr (1, [.ref hh, .ref hw, .int (nI nn)])), (hh, .inl (dA, 36, .inl (md_iA hv))), (hw, .inl (dA, 5, .inl (md_iA rw))), (g0, .inr (2, [.ref gr, .ref go, .int (nI nr), .int (nI nc), .ref gw, .ref gx])), (gr, .inl (dA, 5, .inl (md_iA row'))), (go, .inl (dA, 5, .inl (md_iA col'))), (gw, .inl (dL, 7776, .inr (.inl (md_lA wy)))), (gx, .inl (dL, 7776, .inr (.inl (md_lA nx))))] := hD
        have er : r1 = r2 := by rw [hw1, hw2, md_sum_ext (f := col') (g := col) (fun j hj => hec j (by omega))]
        refine lv_icmp_eq (tgt := 222) hx hb dL_law_217 (by decide) (fun _ => ?_) (fun hz => absurd er hz)
        exact next nr nc nn row col srt hv rw row' col' wy nx _ _ ls hr1 hr5 hc1 hc5 hrow hcol hsrt hrw her hec hP hD hS hl
      · refine lv_tableOut (tgt := 222) hx hb dL_law_32 (by decide) (by decide) ?_
        exact next nr nc nn row col srt hv rw row' col' wy nx _ _ ls hr1 hr5 hc1 hc5 hrow hcol hsrt hrw her hec hP hD hS hl
set_option maxHeartbeats 4000000 in
set_option maxRecDepth 100000 in
/-- YOUR PART: from the entry, for every script of at most 192 ints, the law comes to its end with true -/
theorem whole_start {p : Program} {e : Env} {s : State} {m : MethodId} {below : List Frame} {meth : Method} {c : Code} (l : Launch) {b L : Nat} {xs : Nat → Int32} (hL : L ≤ 192) (C0 : lw_At p s m meth c b L xs) : W p l e room_1 s m #[Value.ref b] below meth c s.heap [] 0 0 (lw_Z below #[Value.ref b] s) (entryFrame m ([Value.ref b] : List Value).toArray 4) := by
  have C1 := C0
  obtain ⟨hx, hb, hrt, hml, hown, hts0, hX, hbl, hlocks, hgv⟩ := C0
  have hts : ∀ w ∈ lw_all, w.before #[Value.ref b] s = true := fun w h => hts0 w (lw_all_tbl h)
  obtain ⟨D, dA, dL, hK⟩ := md_known hts0
  have hb : c.code = cL_law := hb
  have hA : ∀ q : Nat, s.heap.size ≤ q → (fun q : Nat => s.heap.size ≤ q) q := fun _ h => h
  have hS : va_S (fun q : Nat => s.heap.size ≤ q) s.heap s.heap [] := va_S.rf
  have hP : va_P D vwCl [] s.heap := fun k q h => by cases h
  have hD : va_D (fun q : Nat => s.heap.size ≤ q) [] := ⟨fun i j p q h => (by cases h), fun k q h => (by cases h)⟩
  have hl := lv_entry ([.ref b]) (n := 4) (Nat.le_of_ble_eq_true rfl)
  rw [lg_entry_eq]
  generalize (lg_sl ([.ref b]) ++ List.replicate (4 - (lg_sl ([.ref b])).length) Slot.unset).toArray = ls at hl ⊢
  have hl : lv_has ls 4 [(0, .ref b)] := hl
  refine va_new (ci := 0) (fs := [.null, .null, .null, .null, .int (nI 0), .int (nI 0)]) (C := RX0) (T := TX0) (N := 6) hx hb hts in_X0 tyX0 tyX0_ok hown (hts _ q8) (hts _ q9) (hts _ q4) hK hP hD hS hA rfl (fun j hj => by rcases (show j = 0 ∨ j = 1 ∨ j = 2 ∨ j = 3 ∨ j = 4 ∨ j = 5 by omega) with rfl | rfl | rfl | rfl | rfl | rfl <;> rfl) (Nat.le_of_ble_eq_true rfl) (Nat.le_of_ble_eq_true rfl) dL_law_0 (fun h0 H hP hD hS => ?_)
  have hP : va_P D vwCl [(h0, .inr (0, [.null, .null, .null, .null, .int (nI 0), .int (nI 0)]))] H := hP
  have hD : va_D (fun q : Nat => s.heap.size ≤ q) [(h0, .inr (0, [.null, .null, .null, .null, .int (nI 0), .int (nI 0)]))] := hD
  refine lv_dup hx hb dL_law_3 rfl ?_
  have hNw : va_Nw (.methodLinkNest "MarginDesk" 21 yX1_init "MarginDesk") s := va_Nw.of rfl (hts0 _ q18)
  refine md_cI (X := va_Nw (.methodLinkNest "MarginDesk" 21 yX1_init "MarginDesk")) (wr := []) hx hb hml hown hts hK hP hD hS hA [0] [] rfl rfl (by decide) (by decide) (by decide) (mX0_init l D dA dL h0 H.size) (fun a U g mk h => va_Nw.same rfl rfl h) (fun U hW => va_Nw.warmM hW hNw) (cwI 0 hts (lw_meth q12) rfl rfl rfl (hts _ q4) (hts _ q10) (hts _ q11) rfl (by decide +kernel) ⟨Nat.le_of_ble_eq_true rfl, Nat.le_of_ble_eq_true rfl⟩) rfl hl.1 rfl (Nat.le_of_ble_eq_true rfl) dL_law_4 ⟨Nat.le_of_ble_eq_true rfl, Nat.le_of_ble_eq_true rfl⟩ (fun u H locs _ hP hD hS => ?_)
  obtain ⟨hr, ho, hz, hn, hh, hw⟩ := u
  have hP : va_P D vwCl [(h0, .inr (0, [.ref hr, .ref ho, .ref hz, .ref hn, .int (nI 3), .int (nI 3)])), (hr, .inl (dA, 5, .inl (md_iA (fun _ => 0)))), (ho, .inl (dA, 5, .inl (md_iA (fun _ => 0)))), (hz, .inl (dA, 5, .inl (md_iA (fun _ => 0)))), (hn, .inr (1, [.ref hh, .ref hw, .int (nI 0)])), (hh, .inl (dA, 36, .inl (md_iA (fun _ => 0)))), (hw, .inl (dA, 5, .inl (md_iA (fun _ => 0))))] H := hP
  have hD : va_D (fun q : Nat => s.heap.size ≤ q) [(h0, .inr (0, [.ref hr, .ref ho, .ref hz, .ref hn, .int (nI 3), .int (nI 3)])), (hr, .inl (dA, 5, .inl (md_iA (fun _ => 0)))), (ho, .inl (dA, 5, .inl (md_iA (fun _ => 0)))), (hz, .inl (dA, 5, .inl (md_iA (fun _ => 0)))), (hn, .inr (1, [.ref hh, .ref hw, .int (nI 0)])), (hh, .inl (dA, 36, .inl (md_iA (fun _ => 0)))), (hw, .inl (dA, 5, .inl (md_iA (fun _ => 0))))] := hD
  refine lv_astore_n (lv' := [(1, .ref h0), (0, .ref b)]) hx hb dL_law_7 rfl hl (by decide) rfl (fun ls hl => ?_)
  refine va_new (ci := 2) (fs := [.null, .null, .int (nI 0), .int (nI 0), .null, .null]) (C := RX2) (T := TX2) (N := 6) hx hb hts in_X2 tyX2 tyX2_ok hown (hts _ q105) (hts _ q106) (hts _ q6) hK hP hD hS hA rfl (fun j hj => by rcases (show j = 0 ∨ j = 1 ∨ j = 2 ∨ j = 3 ∨ j = 4 ∨ j = 5 by omega) with rfl | rfl | rfl | rfl | rfl | rfl <;> rfl) (Nat.le_of_ble_eq_true rfl) (Nat.le_of_ble_eq_true rfl) dL_law_8 (fun g0 H hP hD hS => ?_)
  have hP : va_P D vwCl [(h0, .inr (0, [.ref hr, .ref ho, .ref hz, .ref hn, .int (nI 3), .int (nI 3)])), (hr, .inl (dA, 5, .inl (md_iA (fun _ => 0)))), (ho, .inl (dA, 5, .inl (md_iA (fun _ => 0)))), (hz, .inl (dA, 5, .inl (md_iA (fun _ => 0)))), (hn, .inr (1, [.ref hh, .ref hw, .int (nI 0)])), (hh, .inl (dA, 36, .inl (md_iA (fun _ => 0)))), (hw, .inl (dA, 5, .inl (md_iA (fun _ => 0)))), (g0, .inr (2, [.null, .null, .int (nI 0), .int (nI 0), .null, .null]))] H := hP
  have hD : va_D (fun q : Nat => s.heap.size ≤ q) [(h0, .inr (0, [.ref hr, .ref ho, .ref hz, .ref hn, .int (nI 3), .int (nI 3)])), (hr, .inl (dA, 5, .inl (md_iA (fun _ => 0)))), (ho, .inl (dA, 5, .inl (md_iA (fun _ => 0)))), (hz, .inl (dA, 5, .inl (md_iA (fun _ => 0)))), (hn, .inr (1, [.ref hh, .ref hw, .int (nI 0)])), (hh, .inl (dA, 36, .inl (md_iA (fun _ => 0)))), (hw, .inl (dA, 5, .inl (md_iA (fun _ => 0)))), (g0, .inr (2, [.null, .null, .int (nI 0), .int (nI 0), .null, .null]))] := hD
  refine lv_dup hx hb dL_law_11 rfl ?_
  refine md_cI (X := fun _ => True) (wr := [(h0, .inr (0, [.ref hr, .ref ho, .ref hz, .ref hn, .int (nI 3), .int (nI 3)])), (hr, .inl (dA, 5, .inl (md_iA (fun _ => 0)))), (ho, .inl (dA, 5, .inl (md_iA (fun _ => 0)))), (hz, .inl (dA, 5, .inl (md_iA (fun _ => 0)))), (hn, .inr (1, [.ref hh, .ref hw, .int (nI 0)])), (hh, .inl (dA, 36, .inl (md_iA (fun _ => 0)))), (hw, .inl (dA, 5, .inl (md_iA (fun _ => 0))))]) hx hb hml hown hts hK hP hD hS hA [7] [0, 1, 2, 3, 4, 5, 6] rfl rfl (by decide) (by decide) (by decide) (mX2_init l D dA dL g0 H.size) (fun _ _ _ _ _ => trivial) (fun _ _ => trivial) (cwI 0 hts (lw_meth q109) rfl rfl rfl (hts _ q6) (hts _ q107) (hts _ q108) rfl (by decide +kernel) ⟨Nat.le_of_ble_eq_true rfl, Nat.le_of_ble_eq_true rfl⟩) rfl hl.1 rfl (Nat.le_of_ble_eq_true rfl) dL_law_12 ⟨Nat.le_of_ble_eq_true rfl, Nat.le_of_ble_eq_true rfl⟩ (fun u H locs _ hP hD hS => ?_)
  obtain ⟨gr, go, gw, gx⟩ := u
  have hP : va_P D vwCl [(h0, .inr (0, [.ref hr, .ref ho, .ref hz, .ref hn, .int (nI 3), .int (nI 3)])), (hr, .inl (dA, 5, .inl (md_iA (fun _ => 0)))), (ho, .inl (dA, 5, .inl (md_iA (fun _ => 0)))), (hz, .inl (dA, 5, .inl (md_iA (fun _ => 0)))), (hn, .inr (1, [.ref hh, .ref hw, .int (nI 0)])), (hh, .inl (dA, 36, .inl (md_iA (fun _ => 0)))), (hw, .inl (dA, 5, .inl (md_iA (fun _ => 0)))), (g0, .inr (2, [.ref gr, .ref go, .int (nI 3), .int (nI 3), .ref gw, .ref gx])), (gr, .inl (dA, 5, .inl (md_iA (fun _ => 0)))), (go, .inl (dA, 5, .inl (md_iA (fun _ => 0)))), (gw, .inl (dL, 7776, .inr (.inl (md_lA (fun _ => 0))))), (gx, .inl (dL, 7776, .inr (.inl (md_lA (fun _ => 0)))))] H := hP
  have hD : va_D (fun q : Nat => s.heap.size ≤ q) [(h0, .inr (0, [.ref hr, .ref ho, .ref hz, .ref hn, .int (nI 3), .int (nI 3)])), (hr, .inl (dA, 5, .inl (md_iA (fun _ => 0)))), (ho, .inl (dA, 5, .inl (md_iA (fun _ => 0)))), (hz, .inl (dA, 5, .inl (md_iA (fun _ => 0)))), (hn, .inr (1, [.ref hh, .ref hw, .int (nI 0)])), (hh, .inl (dA, 36, .inl (md_iA (fun _ => 0)))), (hw, .inl (dA, 5, .inl (md_iA (fun _ => 0)))), (g0, .inr (2, [.ref gr, .ref go, .int (nI 3), .int (nI 3), .ref gw, .ref gx])), (gr, .inl (dA, 5, .inl (md_iA (fun _ => 0)))), (go, .inl (dA, 5, .inl (md_iA (fun _ => 0)))), (gw, .inl (dL, 7776, .inr (.inl (md_lA (fun _ => 0))))), (gx, .inl (dL, 7776, .inr (.inl (md_lA (fun _ => 0)))))] := hD
  refine lv_astore_n (lv' := [(2, .ref g0), (1, .ref h0), (0, .ref b)]) hx hb dL_law_15 rfl hl (by decide) rfl (fun ls hl => ?_)
  refine lv_iconst (v := nI 0) hx hb dL_law_16 (by decide) ?_
  refine lv_istore_n (lv' := [(3, .int (nI 0)), (2, .ref g0), (1, .ref h0), (0, .ref b)]) hx hb dL_law_17 rfl hl (by decide) rfl (fun ls hl => ?_)
  refine W.widen (k := 600000) (n := 7302250) (Nat.le_of_ble_eq_true rfl) (Nat.le_of_ble_eq_true rfl) ?_
  exact law_loop hL C1 hK h0 hr ho hz hn hh hw g0 gr go gw gx L 0 3 3 0 (fun _ => 0) (fun _ => 0) (fun _ => 0) (fun _ => 0) (fun _ => 0) (fun _ => 0) (fun _ => 0) (fun _ => 0) (fun _ => 0) _ _ ls (by omega) (by omega) (by omega) (by omega) (by omega) (by omega) (fun _ _ => Nat.zero_le _) (fun _ _ => Nat.zero_le _) (fun _ _ => Nat.zero_le _) (fun _ _ => Nat.zero_le _) (fun _ _ => rfl) (fun _ _ => rfl) hP hD hS (lv_sub hl [3, 2, 1, 0] rfl)
end
section
set_option maxHeartbeats 4000000 in
theorem lw_walk (l : Launch) (b : Addr) (xs : List Int32) : MetFree l x (headSpec (Jvm.Cond.code x code maxLocals ret :: tables_1) room_1) (lw_P b xs) (fun _ _ _ _ _ => True) lw_Q := by
  refine MetFree.of_bodyS (code := code) (maxLocals := maxLocals) (ret := ret) (by decide) ?_ ?_
  · intro args s m h hn
    obtain ⟨meth, c, h1, h2, h3, h4, h5, h6, -, -⟩ := Cond.code_spec hn (atoms_spec (ws := Jvm.Cond.code x code maxLocals ret :: tables_1) h _ List.mem_cons_self)
    exact ⟨meth, c, h1, h2, h3, h4, h5, h6⟩
  · intro p e s m args below meth c s₁ B hml0 hP _
    obtain ⟨rfl, hx, hbd, hgv⟩ := hP
    obtain ⟨scr, harrAt, hlist, hof, hsmall⟩ := hx
    obtain ⟨hcb, hkn, -, -⟩ := State.arrayAt?_spec harrAt
    have hown : s.vm.findClass R_law = some m.cls := findClass_of_methodNamed B.named
    have hts0 : ∀ c ∈ (Jvm.Cond.code x code maxLocals ret :: tables_1), c.before #[Value.ref b] s = true := atoms_spec (ws := Jvm.Cond.code x code maxLocals ret :: tables_1) B.pre
    have hts : ∀ w ∈ lw_tbl, w.before #[Value.ref b] s = true := k2_hts_sels lw_privs (fun w hw => hts0 w (List.mem_cons_of_mem _ hw)) lw_privs_ok
    have hml : c.maxLocals = 4 := B.maxLocals_eq (hts0 _ List.mem_cons_self)
    have X₀ : Stand p l e room_1 s m #[Value.ref b] below meth c s₁ [] 0 0 := Stand.of_body B
    have hh0 : s₁.heap = s.heap := by rw [B.state]; rfl
    have hsz : scr.slots.size = xs.length := by rw [← Array.length_toList, hlist, List.length_map]
    have hval : ∀ j : Nat, j < xs.length → scr.slots[j]? = some (.int (xs.getD j 0)) := fun j hj => by
      rw [← Array.getElem?_toList, hlist]
      simp [hj]
    have hbl : b < s.heap.size := (Array.getElem?_eq_some_iff.mp hcb).1
    have hX : va_X b xs.length (fun j => xs.getD j 0) s s.heap := ⟨scr, hcb, hof, hkn, hsz, hval⟩
    have K : W p l e room_1 s m #[Value.ref b] below meth c s₁.heap [] 0 0 (lw_Z below #[Value.ref b] s) (entryFrame m ([Value.ref b] : List Value).toArray 4) := by
      rw [hh0]
      exact whole_start l hbd ⟨B.exec, B.bytes, B.returns, hml, hown, hts, hX, hbl, B.notSynchronized, hgv⟩
    obtain ⟨t, a1, o, b1, b2, b3⟩ := K s₁ rfl X₀
    exact ⟨t, o, a1, b1, b2, b3⟩
theorem lw_pre_spec {args : Array Value} {s : State} (h : (Jvm.Cond.and given_1 narrow_1).before args s = true) (hr : rest_1_c.before args s = true) : ∃ (b : Addr) (xs : List Int32), lw_P b xs args s := by
  have hs := flat_of_before _ h
  have hq := flat_of_before _ hr
  have hc : (Cond.count 1).before args s = true := hs _ (by decide +kernel)
  have harr : (Cond.arrayOf (.arg 0) .int).before args s = true := hs _ (by decide +kernel)
  have hle : (Cond.le (.length (.arg 0)) (.int 192)).before args s = true := hs _ (by decide +kernel)
  have hlen : (Cond.isInt (.length (.arg 0))).before args s = true := hq _ (by decide +kernel)
  have hall : (Cond.all (.arg 0) (.isInt (.elem (.arg 0) (.index 0)))).before args s = true := hq _ (by decide +kernel)
  obtain ⟨b, xs, hb, hx⟩ := State.ints_of_pre rfl harr hlen hall
  have hsm : xs.length < 2 ^ 31 := hx.choose_spec.2.2.2
  have hev : (Term.length (.arg 0)).eval args s none [] s = some (.int xs.length.toInt32) := hx.length_eval hb
  have hv := Cond.le_ints hev (show (Term.int 192).eval args s none [] s = some (.int 192) from rfl)
  have hd : xs.length.toInt32 ≤ 192 := by
    simpa [Cond.before, Cond.holds, hv] using hle
  have hN : xs.length ≤ 192 := (Int32.ofNat_le_ofNat hsm (by decide)).mp (show Int32.ofNat xs.length ≤ Int32.ofNat 192 from hd)
  exact ⟨b, xs, Cond.one_arg hc (show args[0]? = some (.ref b) from hb), hx, hN, h⟩
theorem lw_comes (l : Launch) : Comes l x (Jvm.Cond.code x code maxLocals ret :: tables_1) room_1 (fun tb e args s => Calls_1 tb e args s ∧ rest_1 tb e args s ∧ Pre_1 tb e args s)
    (fun _ _ args s o t => lw_Q args s o t) := by
  intro p e ha hc hk s m args below hf hfit hheap happ hpre
  obtain ⟨b, xs, hP⟩ := lw_pre_spec hpre.2.2 hpre.2.1
  obtain ⟨k, o, h1, h2, h3, hQ⟩ := lw_walk l b xs p e ha hc hk s m args below hf ((Spec.applies_iff_loose hf).mp happ).1 hP trivial
  exact ⟨k, o, h1, h2, h3, hQ⟩
theorem lw_frame {s t : State} {o : Outcome} {args : Array Value} (h : Framed s o t [] 600000 7302250) :
    Framed s o t (fieldLocs frame_1_writes args s ++ arrayLocs frame_1_arrays args s ++ staticLocs frame_1_statics s) 600000 7302250 := h
theorem lw_limb (L : Cond) (hL : ∀ (args : Array Value) (s t : State), L.after args s (.returned (some (.int 1))) t = true) :
    ArmFor flags0 classFile x code maxLocals ret World_1 tables_1 room_1 Calls_1 rest_1 Pre_1
      (fun tb e a s o t => postC L tb e a s o t ∧ Framed s o t (fieldLocs frame_1_writes a s ++ arrayLocs frame_1_arrays a s ++ staticLocs frame_1_statics s) 600000 7302250) := by
  intro l _ _ _ p e ha hc hk s m args below hf hfit hheap happ hpre
  obtain ⟨k, o, h1, h2, h3, rfl, hF⟩ := lw_comes l p e ha hc hk s m args below hf hfit hheap happ hpre
  exact ⟨k, _, h1, h2, h3, hL args s _, lw_frame hF⟩
theorem i_vc : Claimed_1_1 ∧ Claimed_1_2 := ⟨lw_limb limb_1_1 (fun args s t => by simp [limb_1_1, Cond.after, Cond.holds, Cond.value]), lw_limb limb_1_2 (fun args s t => Cond.after_iff.mpr (by
  first | (rw [show limb_1_2 = Cond.eq .result (.int 1) from rfl, Cond.eq_ints (x := 1) (y := 1) rfl rfl]; simp; done) | (simp [limb_1_2, Cond.value, Term.eval]; done)))⟩
end
