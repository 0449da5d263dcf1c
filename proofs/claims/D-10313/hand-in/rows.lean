section
/-! the pure picture: T the table of steps, S the number of states, 25 the dead one -/
/-- how many words of n letters go on from s without dying -/
def ff_W (T : Nat → Nat) (S : Nat) : Nat → Nat → Nat
  | 0 => fun s => if s < S then 1 else 0
  | n + 1 => fun s => if s < S then ff_W T S n (T (3 * s)) + ff_W T S n (T (3 * s + 1)) + ff_W T S n (T (3 * s + 2)) else 0
/-- those of n + 1 letters whose first letter is below l -/
def ff_P (T : Nat → Nat) (S n s : Nat) : Nat → Nat
  | 0 => 0
  | l + 1 => ff_P T S n s l + ff_W T S n (T (3 * s + l))
/-- reading the last n letters of c from s -/
def ff_R (T : Nat → Nat) (c : Nat) : Nat → Nat → Nat
  | 0 => fun s => s
  | n + 1 => fun s => ff_R T c n (T (3 * s + c / 3 ^ n % 3))
/-- what below sums up -/
def ff_B (T : Nat → Nat) (S c : Nat) : Nat → Nat → Nat
  | 0 => fun _ => 0
  | n + 1 => fun s => ff_P T S n s (c / 3 ^ n % 3) + ff_B T S c n (T (3 * s + c / 3 ^ n % 3))
/-- the letter that unrank takes -/
def ff_L (T : Nat → Nat) (S n s i : Nat) : Nat := if i < ff_P T S n s 1 then 0 else if i < ff_P T S n s 2 then 1 else 2
def ff_U (T : Nat → Nat) (S : Nat) : Nat → Nat → Nat → Nat
  | 0 => fun _ _ => 0
  | n + 1 => fun s i => ff_L T S n s i * 3 ^ n + ff_U T S n (T (3 * s + ff_L T S n s i)) (i - ff_P T S n s (ff_L T S n s i))
def ff_sum (f : Nat → Nat) : Nat → Nat
  | 0 => 0
  | m + 1 => ff_sum f m + f m

theorem ff_W0 (T : Nat → Nat) (S s : Nat) : ff_W T S 0 s = if s < S then 1 else 0 := rfl
theorem ff_P1 (T : Nat → Nat) (S n s : Nat) : ff_P T S n s 1 = 0 + ff_W T S n (T (3 * s + 0)) := rfl
theorem ff_P2 (T : Nat → Nat) (S n s : Nat) : ff_P T S n s 2 = 0 + ff_W T S n (T (3 * s + 0)) + ff_W T S n (T (3 * s + 1)) := rfl
theorem ff_P3 (T : Nat → Nat) (S n s : Nat) : ff_P T S n s 3 = 0 + ff_W T S n (T (3 * s + 0)) + ff_W T S n (T (3 * s + 1)) + ff_W T S n (T (3 * s + 2)) := rfl
theorem ff_Ws {T : Nat → Nat} {S n s : Nat} (h : s < S) : ff_W T S (n + 1) s = ff_P T S n s 3 := by
  have e : ff_W T S (n + 1) s = if s < S then ff_W T S n (T (3 * s)) + ff_W T S n (T (3 * s + 1)) + ff_W T S n (T (3 * s + 2)) else 0 := rfl
  rw [e, if_pos h, ff_P3, Nat.zero_add]
  rfl
theorem ff_Wd {T : Nat → Nat} {S n s : Nat} (h : S ≤ s) : ff_W T S n s = 0 := by
  have hn : ¬ s < S := by omega
  cases n with
  | zero => exact if_neg hn
  | succ n => exact if_neg hn
theorem ff_Wl {T : Nat → Nat} {S n s : Nat} (h : 0 < ff_W T S n s) : s < S := by
  rcases Nat.lt_or_ge s S with z | z
  · exact z
  · rw [ff_Wd z] at h
    omega
theorem ff_Wb (T : Nat → Nat) (S : Nat) : ∀ n s, ff_W T S n s ≤ 3 ^ n := by
  intro n
  induction n with
  | zero =>
    intro s
    rw [ff_W0]
    split
    · decide
    · decide
  | succ n ih =>
    intro s
    rcases Nat.lt_or_ge s S with z | z
    · rw [ff_Ws z, Nat.pow_succ, ff_P3]
      have h0 := ih (T (3 * s + 0))
      have h1 := ih (T (3 * s + 1))
      have h2 := ih (T (3 * s + 2))
      omega
    · rw [ff_Wd z]
      exact Nat.zero_le _
theorem ff_Pm {T : Nat → Nat} {S n s l m : Nat} (h : l ≤ m) : ff_P T S n s l ≤ ff_P T S n s m := by
  induction m with
  | zero =>
    have e : l = 0 := by omega
    rw [e]
    exact Nat.le_refl _
  | succ m ih =>
    rcases Nat.lt_or_ge m l with z | z
    · have e : l = m + 1 := by omega
      rw [e]
      exact Nat.le_refl _
    · exact Nat.le_trans (ih z) (Nat.le_add_right _ _)
theorem ff_Ll {T : Nat → Nat} {S n s l j : Nat} (hl : l < 3) (hj : j < ff_W T S n (T (3 * s + l))) : ff_L T S n s (ff_P T S n s l + j) = l := by
  have h1 : l = 0 ∨ l = 1 ∨ l = 2 := by omega
  have e0 : ff_P T S n s 0 = 0 := rfl
  unfold ff_L
  rcases h1 with rfl | rfl | rfl
  · have a : ff_P T S n s 0 + j < ff_P T S n s 1 := by rw [e0, ff_P1]; omega
    rw [if_pos a]
  · have a : ¬ ff_P T S n s 1 + j < ff_P T S n s 1 := by omega
    have b : ff_P T S n s 1 + j < ff_P T S n s 2 := by rw [ff_P1, ff_P2]; omega
    rw [if_neg a, if_pos b]
  · have a : ¬ ff_P T S n s 2 + j < ff_P T S n s 1 := by rw [ff_P1, ff_P2]; omega
    have b : ¬ ff_P T S n s 2 + j < ff_P T S n s 2 := by omega
    rw [if_neg a, if_neg b]
theorem ff_Lx {T : Nat → Nat} {S n s i : Nat} (h : i < ff_P T S n s 3) : ∃ l j, l < 3 ∧ j < ff_W T S n (T (3 * s + l)) ∧ i = ff_P T S n s l + j := by
  rw [ff_P3] at h
  by_cases h0 : i < ff_W T S n (T (3 * s + 0))
  · exact ⟨0, i, by omega, h0, (Nat.zero_add i).symm⟩
  · by_cases h1 : i < ff_W T S n (T (3 * s + 0)) + ff_W T S n (T (3 * s + 1))
    · exact ⟨1, i - ff_W T S n (T (3 * s + 0)), by omega, by omega, by rw [ff_P1]; omega⟩
    · exact ⟨2, i - (ff_W T S n (T (3 * s + 0)) + ff_W T S n (T (3 * s + 1))), by omega, by omega, by rw [ff_P2]; omega⟩
theorem ff_Us {T : Nat → Nat} {S n s l j : Nat} (hl : l < 3) (hj : j < ff_W T S n (T (3 * s + l))) : ff_U T S (n + 1) s (ff_P T S n s l + j) = l * 3 ^ n + ff_U T S n (T (3 * s + l)) j := by
  have e : ff_U T S (n + 1) s (ff_P T S n s l + j) = ff_L T S n s (ff_P T S n s l + j) * 3 ^ n + ff_U T S n (T (3 * s + ff_L T S n s (ff_P T S n s l + j))) (ff_P T S n s l + j - ff_P T S n s (ff_L T S n s (ff_P T S n s l + j))) := rfl
  rw [e, ff_Ll hl hj, Nat.add_sub_cancel_left]

theorem ff_3p (n : Nat) : 0 < 3 ^ n := Nat.pow_pos (by decide)
theorem ff_dT {l d n : Nat} (hl : l < 3) (hd : d < 3 ^ n) : (l * 3 ^ n + d) / 3 ^ n % 3 = l := by
  rw [Nat.add_comm, Nat.add_mul_div_right _ _ (ff_3p n), Nat.div_eq_of_lt hd]
  omega
theorem ff_dL {l d n k : Nat} (hk : k < n) : (l * 3 ^ n + d) / 3 ^ k % 3 = d / 3 ^ k % 3 := by
  obtain ⟨m, rfl⟩ : ∃ m, n = k + 1 + m := ⟨n - k - 1, by omega⟩
  have e : l * 3 ^ (k + 1 + m) + d = d + (l * 3 ^ m * 3) * 3 ^ k := by
    rw [Nat.pow_add, Nat.pow_succ, Nat.add_comm]
    congr 1
    simp only [Nat.mul_assoc, Nat.mul_comm, Nat.mul_left_comm]
  rw [e, Nat.add_mul_div_right _ _ (ff_3p k), Nat.add_mul_mod_self_right]
theorem ff_Rc {T : Nat → Nat} {c c' : Nat} : ∀ n s, (∀ k, k < n → c / 3 ^ k % 3 = c' / 3 ^ k % 3) → ff_R T c n s = ff_R T c' n s := by
  intro n
  induction n with
  | zero => intro s h; rfl
  | succ n ih =>
    intro s h
    show ff_R T c n (T (3 * s + c / 3 ^ n % 3)) = ff_R T c' n (T (3 * s + c' / 3 ^ n % 3))
    rw [h n (by omega)]
    exact ih _ (fun k hk => h k (by omega))
theorem ff_Bc {T : Nat → Nat} {S c c' : Nat} : ∀ n s, (∀ k, k < n → c / 3 ^ k % 3 = c' / 3 ^ k % 3) → ff_B T S c n s = ff_B T S c' n s := by
  intro n
  induction n with
  | zero => intro s h; rfl
  | succ n ih =>
    intro s h
    show ff_P T S n s (c / 3 ^ n % 3) + ff_B T S c n (T (3 * s + c / 3 ^ n % 3)) = ff_P T S n s (c' / 3 ^ n % 3) + ff_B T S c' n (T (3 * s + c' / 3 ^ n % 3))
    rw [h n (by omega), ih _ (fun k hk => h k (by omega))]
theorem ff_Rs {T : Nat → Nat} {l d n s : Nat} (hl : l < 3) (hd : d < 3 ^ n) : ff_R T (l * 3 ^ n + d) (n + 1) s = ff_R T d n (T (3 * s + l)) := by
  show ff_R T (l * 3 ^ n + d) n (T (3 * s + (l * 3 ^ n + d) / 3 ^ n % 3)) = _
  rw [ff_dT hl hd]
  exact ff_Rc n _ (fun k hk => ff_dL hk)
theorem ff_Bs {T : Nat → Nat} {S l d n s : Nat} (hl : l < 3) (hd : d < 3 ^ n) : ff_B T S (l * 3 ^ n + d) (n + 1) s = ff_P T S n s l + ff_B T S d n (T (3 * s + l)) := by
  show ff_P T S n s ((l * 3 ^ n + d) / 3 ^ n % 3) + ff_B T S (l * 3 ^ n + d) n (T (3 * s + (l * 3 ^ n + d) / 3 ^ n % 3)) = _
  rw [ff_dT hl hd]
  rw [ff_Bc (c' := d) n _ (fun k hk => ff_dL hk)]
theorem ff_B0 {T : Nat → Nat} {S : Nat} : ∀ n s, ff_B T S 0 n s = 0 := by
  intro n
  induction n with
  | zero => intro s; rfl
  | succ n ih =>
    intro s
    show ff_P T S n s (0 / 3 ^ n % 3) + ff_B T S 0 n (T (3 * s + 0 / 3 ^ n % 3)) = 0
    rw [Nat.zero_div, ih]
    rfl
theorem ff_A {T : Nat → Nat} {S : Nat} : ∀ n s i, i < ff_W T S n s → ff_U T S n s i < 3 ^ n ∧ ff_R T (ff_U T S n s i) n s < S ∧ ff_B T S (ff_U T S n s i) n s = i := by
  intro n
  induction n with
  | zero =>
    intro s i h
    have hs : s < S := ff_Wl (Nat.lt_of_le_of_lt (Nat.zero_le i) h)
    rw [ff_W0, if_pos hs] at h
    have hi : i = 0 := by omega
    exact ⟨by show 0 < 3 ^ 0; decide, hs, hi.symm⟩
  | succ n ih =>
    intro s i h
    have hs : s < S := ff_Wl (Nat.lt_of_le_of_lt (Nat.zero_le i) h)
    rw [ff_Ws hs] at h
    obtain ⟨l, j, hl, hj, rfl⟩ := ff_Lx h
    obtain ⟨h1, h2, h3⟩ := ih _ j hj
    rw [ff_Us hl hj, ff_Rs hl h1, ff_Bs hl h1, h3]
    refine ⟨?_, h2, rfl⟩
    have hm : l * 3 ^ n ≤ 2 * 3 ^ n := Nat.mul_le_mul_right _ (by omega)
    rw [Nat.pow_succ]
    omega
theorem ff_Pd {T : Nat → Nat} {S n : Nat} (hS : S ≤ 25) (hD : ∀ l, l < 3 → T (75 + l) = 25) : ∀ l, l ≤ 3 → ff_P T S n 25 l = 0 := by
  intro l
  induction l with
  | zero => intro _; rfl
  | succ l ih =>
    intro h
    show ff_P T S n 25 l + ff_W T S n (T (75 + l)) = 0
    rw [ih (by omega), hD l (by omega), ff_Wd hS]
theorem ff_cnt {T : Nat → Nat} {S : Nat} (hS : S ≤ 25) (hT : ∀ k, T k < S ∨ T k = 25) (hD : ∀ l, l < 3 → T (75 + l) = 25) : ∀ n s c, (s < S ∨ s = 25) → c < 3 ^ n → ff_B T S c n s + (if ff_R T c n s < S then 1 else 0) = if c + 1 < 3 ^ n then ff_B T S (c + 1) n s else ff_W T S n s := by
  intro n
  induction n with
  | zero =>
    intro s c hs hc
    have h1 : ¬ c + 1 < 3 ^ 0 := by
      rw [Nat.pow_zero]
      omega
    rw [if_neg h1, ff_W0]
    show 0 + (if s < S then 1 else 0) = _
    rw [Nat.zero_add]
  | succ n ih =>
    intro s c hs hc
    obtain ⟨l, d, hl, hd, rfl⟩ : ∃ l d, l < 3 ∧ d < 3 ^ n ∧ c = l * 3 ^ n + d := ⟨c / 3 ^ n, c % 3 ^ n, Nat.div_lt_of_lt_mul (by rw [Nat.pow_succ] at hc; exact hc), Nat.mod_lt _ (ff_3p n), (Nat.div_add_mod' c (3 ^ n)).symm⟩
    have IH := ih (T (3 * s + l)) d (hT _) hd
    rw [ff_Rs hl hd, ff_Bs hl hd]
    by_cases e : d + 1 < 3 ^ n
    · rw [if_pos e] at IH
      have hm : l * 3 ^ n ≤ 2 * 3 ^ n := Nat.mul_le_mul_right _ (by omega)
      have e2 : l * 3 ^ n + (d + 1) < 3 ^ (n + 1) := by
        rw [Nat.pow_succ]
        omega
      rw [Nat.add_assoc (l * 3 ^ n), if_pos e2, ff_Bs hl e, ← IH, Nat.add_assoc]
    · rw [if_neg e] at IH
      have ed : d + 1 = 3 ^ n := by omega
      by_cases l2 : l < 2
      · have e2 : l * 3 ^ n + d + 1 = (l + 1) * 3 ^ n + 0 := by
          rw [Nat.succ_mul]
          omega
        have hm : (l + 1) * 3 ^ n ≤ 2 * 3 ^ n := Nat.mul_le_mul_right _ (by omega)
        have hp := ff_3p n
        have e3 : (l + 1) * 3 ^ n + 0 < 3 ^ (n + 1) := by
          rw [Nat.pow_succ]
          omega
        rw [e2, if_pos e3, ff_Bs (by omega) (ff_3p n), ff_B0, Nat.add_assoc, IH]
        rfl
      · have l2' : l = 2 := by omega
        subst l2'
        have e3 : ¬ 2 * 3 ^ n + d + 1 < 3 ^ (n + 1) := by
          rw [Nat.pow_succ]
          omega
        rw [if_neg e3, Nat.add_assoc, IH]
        rcases hs with hs | hs
        · rw [ff_Ws hs]
          rfl
        · subst hs
          rw [ff_Wd hS]
          exact ff_Pd hS hD 3 (by omega)
theorem ff_Bm {T : Nat → Nat} {S : Nat} (hS : S ≤ 25) (hT : ∀ k, T k < S ∨ T k = 25) (hD : ∀ l, l < 3 → T (75 + l) = 25) {n s : Nat} (hs : s < S ∨ s = 25) {c : Nat} : ∀ c', c ≤ c' → c' < 3 ^ n → ff_B T S c n s ≤ ff_B T S c' n s := by
  intro c'
  induction c' with
  | zero =>
    intro h _
    have e : c = 0 := by omega
    rw [e]
    exact Nat.le_refl _
  | succ m ih =>
    intro h h'
    by_cases e : c = m + 1
    · rw [e]
      exact Nat.le_refl _
    · have a := ff_cnt hS hT hD n s m hs (by omega)
      rw [if_pos h'] at a
      have b := ih (by omega) (by omega)
      omega
theorem ff_sumc {f g : Nat → Nat} : ∀ m, (∀ j, j < m → f j = g j) → ff_sum f m = ff_sum g m := by
  intro m
  induction m with
  | zero => intro _; rfl
  | succ m ih =>
    intro h
    show ff_sum f m + f m = ff_sum g m + g m
    rw [ih (fun j hj => h j (by omega)), h m (by omega)]
theorem ff_suma (f : Nat → Nat) (a : Nat) : ∀ b, ff_sum f (a + b) = ff_sum f a + ff_sum (fun j => f (a + j)) b := by
  intro b
  induction b with
  | zero => rfl
  | succ b ih =>
    show ff_sum f (a + b) + f (a + b) = ff_sum f a + (ff_sum (fun j => f (a + j)) b + f (a + b))
    rw [ih, Nat.add_assoc]
theorem ff_sum0 {f : Nat → Nat} : ∀ m, (∀ j, j < m → f j = 0) → ff_sum f m = 0 := by
  intro m
  induction m with
  | zero => intro _; rfl
  | succ m ih =>
    intro h
    show ff_sum f m + f m = 0
    rw [ih (fun j hj => h j (by omega)), h m (by omega)]
theorem ff_sump (f g : Nat → Nat) : ∀ m, ff_sum (fun j => f j + g j) m = ff_sum f m + ff_sum g m := by
  intro m
  induction m with
  | zero => rfl
  | succ m ih =>
    show ff_sum (fun j => f j + g j) m + (f m + g m) = (ff_sum f m + f m) + (ff_sum g m + g m)
    rw [ih]
    omega
theorem ff_Qs {T : Nat → Nat} {S : Nat} : ∀ n s, ff_sum (fun j => ff_W T S 1 (ff_R T (ff_U T S n s j) n s)) (ff_W T S n s) = ff_W T S (n + 1) s := by
  intro n
  induction n with
  | zero =>
    intro s
    rcases Nat.lt_or_ge s S with z | z
    · have e : ff_W T S 0 s = 1 := if_pos z
      rw [e]
      show 0 + ff_W T S 1 s = ff_W T S 1 s
      rw [Nat.zero_add]
    · rw [ff_Wd (n := 0) z, ff_Wd z]
      rfl
  | succ n ih =>
    intro s
    rcases Nat.lt_or_ge s S with z | z
    · have key : ∀ l, l ≤ 3 → ff_sum (fun j => ff_W T S 1 (ff_R T (ff_U T S (n + 1) s j) (n + 1) s)) (ff_P T S n s l) = ff_P T S (n + 1) s l := by
        intro l
        induction l with
        | zero => intro _; rfl
        | succ l il =>
          intro hl
          show ff_sum _ (ff_P T S n s l + ff_W T S n (T (3 * s + l))) = ff_P T S (n + 1) s l + ff_W T S (n + 1) (T (3 * s + l))
          rw [ff_suma, il (by omega), ← ih (T (3 * s + l))]
          congr 1
          apply ff_sumc
          intro j hj
          show ff_W T S 1 (ff_R T (ff_U T S (n + 1) s (ff_P T S n s l + j)) (n + 1) s) = _
          rw [ff_Us (by omega) hj, ff_Rs (by omega) (ff_A n _ j hj).1]
      rw [ff_Ws (n := n) z, ff_Ws (n := n + 1) z]
      exact key 3 (by omega)
    · rw [ff_Wd (n := n + 1) z, ff_Wd z]
      rfl
end
section
/-! the table of countWith: by state and letters 0 -/
def ff_add (g : Nat → Nat) (q v : Nat) : Nat → Nat := fun j => if j = q then g j + v else g j
def ff_z (i l : Nat) : Nat := i % 10 + (if l = 0 then 1 else 0)
def ff_put (T : Nat → Nat) (f : Nat → Nat) (i l : Nat) (g : Nat → Nat) : Nat → Nat := if T (3 * (i / 10) + l) = 25 then g else if 10 ≤ ff_z i l then g else ff_add g (10 * T (3 * (i / 10) + l) + ff_z i l) (f i)
def ff_row (T : Nat → Nat) (f : Nat → Nat) (i : Nat) (g : Nat → Nat) : Nat → Nat → Nat
  | 0 => g
  | l + 1 => ff_put T f i l (ff_row T f i g l)
def ff_sp (T : Nat → Nat) (f : Nat → Nat) : Nat → Nat → Nat
  | 0 => fun _ => 0
  | i + 1 => ff_row T f i (ff_sp T f i) 3
def ff_Z (T : Nat → Nat) (S : Nat) : Nat → Nat → Nat
  | 0 => fun j => if j = 0 then 1 else 0
  | t + 1 => ff_sp T (ff_Z T S t) (10 * S)
def ff_ws (T : Nat → Nat) (S m : Nat) (g : Nat → Nat) : Nat := ff_sum (fun j => g j * ff_W T S m (j / 10)) (10 * S)
theorem ff_zle (i l : Nat) : ff_z i l ≤ i % 10 + 1 := by
  unfold ff_z
  split
  · omega
  · omega
theorem ff_addS (g w : Nat → Nat) (q v : Nat) : ∀ M, (M ≤ q → ff_sum (fun j => ff_add g q v j * w j) M = ff_sum (fun j => g j * w j) M) ∧ (q < M → ff_sum (fun j => ff_add g q v j * w j) M = ff_sum (fun j => g j * w j) M + v * w q) := by
  intro M
  induction M with
  | zero => exact ⟨fun _ => rfl, fun h => absurd h (by omega)⟩
  | succ M ih =>
    have e1 : ff_sum (fun j => ff_add g q v j * w j) (M + 1) = ff_sum (fun j => ff_add g q v j * w j) M + ff_add g q v M * w M := rfl
    have e2 : ff_sum (fun j => g j * w j) (M + 1) = ff_sum (fun j => g j * w j) M + g M * w M := rfl
    rw [e1, e2]
    constructor
    · intro h
      have hq : ¬ M = q := by omega
      have e3 : ff_add g q v M = g M := if_neg hq
      rw [ih.1 (by omega), e3]
    · intro h
      by_cases hq : M = q
      · have e3 : ff_add g q v M = g M + v := if_pos hq
        rw [ih.1 (by omega), e3, Nat.add_mul, hq, Nat.add_assoc]
      · have e3 : ff_add g q v M = g M := if_neg hq
        rw [ih.2 (by omega), e3]
        omega
theorem ff_wsP {T : Nat → Nat} {S m : Nat} (hS : S ≤ 25) (hT : ∀ k, T k < S ∨ T k = 25) {f g : Nat → Nat} {i l : Nat} (h9 : i % 10 = 9 → f i = 0) : ff_ws T S m (ff_put T f i l g) = ff_ws T S m g + f i * ff_W T S m (T (3 * (i / 10) + l)) := by
  have hz := ff_zle i l
  unfold ff_put
  by_cases h : T (3 * (i / 10) + l) = 25
  · rw [if_pos h, h, ff_Wd hS, Nat.mul_zero, Nat.add_zero]
  · rw [if_neg h]
    by_cases h2 : 10 ≤ ff_z i l
    · rw [if_pos h2, h9 (by omega), Nat.zero_mul, Nat.add_zero]
    · rw [if_neg h2]
      have ht : T (3 * (i / 10) + l) < S := by
        rcases hT (3 * (i / 10) + l) with t | t
        · exact t
        · exact absurd t h
      unfold ff_ws
      rw [(ff_addS g (fun j => ff_W T S m (j / 10)) (10 * T (3 * (i / 10) + l) + ff_z i l) (f i) (10 * S)).2 (by omega)]
      have e : (10 * T (3 * (i / 10) + l) + ff_z i l) / 10 = T (3 * (i / 10) + l) := by omega
      rw [e]
theorem ff_wsR {T : Nat → Nat} {S m : Nat} (hS : S ≤ 25) (hT : ∀ k, T k < S ∨ T k = 25) {f g : Nat → Nat} {i : Nat} (h9 : i % 10 = 9 → f i = 0) : ∀ l, ff_ws T S m (ff_row T f i g l) = ff_ws T S m g + f i * ff_P T S m (i / 10) l := by
  intro l
  induction l with
  | zero =>
    show ff_ws T S m g = ff_ws T S m g + f i * 0
    rw [Nat.mul_zero, Nat.add_zero]
  | succ l ih =>
    show ff_ws T S m (ff_put T f i l (ff_row T f i g l)) = ff_ws T S m g + f i * (ff_P T S m (i / 10) l + ff_W T S m (T (3 * (i / 10) + l)))
    rw [ff_wsP hS hT h9, ih, Nat.mul_add, Nat.add_assoc]
theorem ff_wsS {T : Nat → Nat} {S m : Nat} (hS : S ≤ 25) (hT : ∀ k, T k < S ∨ T k = 25) {f : Nat → Nat} (h9 : ∀ i, i % 10 = 9 → f i = 0) : ∀ i, i ≤ 10 * S → ff_ws T S m (ff_sp T f i) = ff_sum (fun j => f j * ff_W T S (m + 1) (j / 10)) i := by
  intro i
  induction i with
  | zero =>
    intro _
    show ff_sum (fun j => 0 * ff_W T S m (j / 10)) (10 * S) = 0
    exact ff_sum0 _ (fun j _ => Nat.zero_mul _)
  | succ i ih =>
    intro hi
    show ff_ws T S m (ff_row T f i (ff_sp T f i) 3) = ff_sum (fun j => f j * ff_W T S (m + 1) (j / 10)) i + f i * ff_W T S (m + 1) (i / 10)
    rw [ff_wsR hS hT (h9 i) 3, ih (by omega), ff_Ws (show i / 10 < S by omega)]
/-- at most t letters 0 -/
theorem ff_supP {T : Nat → Nat} {f g : Nat → Nat} {i l t : Nat} (hf : t < i % 10 → f i = 0) (hg : ∀ j, t + 1 < j % 10 → g j = 0) : ∀ j, t + 1 < j % 10 → ff_put T f i l g j = 0 := by
  intro j hj
  have hz := ff_zle i l
  unfold ff_put
  by_cases h : T (3 * (i / 10) + l) = 25
  · rw [if_pos h]
    exact hg j hj
  · rw [if_neg h]
    by_cases h2 : 10 ≤ ff_z i l
    · rw [if_pos h2]
      exact hg j hj
    · rw [if_neg h2]
      by_cases e : j = 10 * T (3 * (i / 10) + l) + ff_z i l
      · have e2 : ff_add g (10 * T (3 * (i / 10) + l) + ff_z i l) (f i) j = g j + f i := if_pos e
        rw [e2, hg j hj, hf (by omega)]
      · have e2 : ff_add g (10 * T (3 * (i / 10) + l) + ff_z i l) (f i) j = g j := if_neg e
        rw [e2]
        exact hg j hj
theorem ff_supR {T : Nat → Nat} {f g : Nat → Nat} {i t : Nat} (hf : t < i % 10 → f i = 0) (hg : ∀ j, t + 1 < j % 10 → g j = 0) : ∀ l j, t + 1 < j % 10 → ff_row T f i g l j = 0 := by
  intro l
  induction l with
  | zero => exact hg
  | succ l ih => exact ff_supP hf ih
theorem ff_supS {T : Nat → Nat} {f : Nat → Nat} {t : Nat} (hf : ∀ i, t < i % 10 → f i = 0) : ∀ i j, t + 1 < j % 10 → ff_sp T f i j = 0 := by
  intro i
  induction i with
  | zero => intro j _; rfl
  | succ i ih => exact ff_supR (hf i) ih 3
theorem ff_supZ (T : Nat → Nat) (S : Nat) : ∀ t j, t < j % 10 → ff_Z T S t j = 0 := by
  intro t
  induction t with
  | zero =>
    intro j hj
    have e : ¬ j = 0 := by
      intro e
      rw [e] at hj
      omega
    exact if_neg e
  | succ t ih => exact ff_supS ih _
theorem ff_wsZ {T : Nat → Nat} {S : Nat} (h1 : 1 ≤ S) (hS : S ≤ 25) (hT : ∀ k, T k < S ∨ T k = 25) : ∀ t m, t ≤ 9 → ff_ws T S m (ff_Z T S t) = ff_W T S (t + m) 0 := by
  intro t
  induction t with
  | zero =>
    intro m _
    have e : ff_Z T S 0 = ff_add (fun _ => 0) 0 1 := by
      funext j
      show (if j = 0 then 1 else 0) = (if j = 0 then 0 + 1 else 0)
      rfl
    unfold ff_ws
    rw [e, (ff_addS (fun _ => 0) (fun j => ff_W T S m (j / 10)) 0 1 (10 * S)).2 (by omega), ff_sum0 _ (fun j _ => Nat.zero_mul _), Nat.zero_add, Nat.one_mul, Nat.zero_add]
  | succ t ih =>
    intro m ht
    show ff_ws T S m (ff_sp T (ff_Z T S t) (10 * S)) = ff_W T S (t + 1 + m) 0
    rw [ff_wsS hS hT (fun i hi => ff_supZ T S t i (by omega)) (10 * S) (Nat.le_refl _)]
    have a := ih (m + 1) (by omega)
    rw [show t + 1 + m = t + (m + 1) by omega, ← a]
    rfl
theorem ff_dbl (f : Nat → Nat) : ∀ S, ff_sum (fun k => ff_sum (fun s => f (10 * s + k)) S) 10 = ff_sum f (10 * S) := by
  intro S
  induction S with
  | zero => rfl
  | succ S ih =>
    have e : (fun k => ff_sum (fun s => f (10 * s + k)) (S + 1)) = (fun k => ff_sum (fun s => f (10 * s + k)) S + f (10 * S + k)) := rfl
    rw [e, ff_sump, ih, Nat.mul_succ, ff_suma]
theorem ff_tot {T : Nat → Nat} {S : Nat} (h1 : 1 ≤ S) (hS : S ≤ 25) (hT : ∀ k, T k < S ∨ T k = 25) {n : Nat} (hn : n ≤ 9) : ff_sum (fun k => ff_sum (fun s => ff_Z T S n (10 * s + k)) S) 10 = ff_W T S n 0 := by
  rw [ff_dbl]
  have a := ff_wsZ h1 hS hT n 0 hn
  rw [Nat.add_zero] at a
  rw [← a]
  unfold ff_ws
  apply ff_sumc
  intro j hj
  have e : ff_W T S 0 (j / 10) = 1 := if_pos (by omega)
  show ff_Z T S n j = ff_Z T S n j * ff_W T S 0 (j / 10)
  rw [e, Nat.mul_one]
end
section
/-! walks: small methods, target, countWays, build -/
section
variable {fc fs fb : Int32} {a1 a2 a3 : Nat → Int32} {a4 a5 a6 : Nat → Int64} {a7 a8 : Nat → Int32}
theorem ff_p3 (i : Nat) : nI (3 ^ i) * 3 = nI (3 ^ (i + 1)) := by
  rw [Nat.pow_succ, ← pk_mul]
  rfl
theorem ff_p3b {k : Nat} (h : k ≤ 9) : 3 ^ k ≤ 19683 := Nat.pow_le_pow_right (n := 3) (j := 9) (by decide) h
theorem ff_p3n {k : Nat} (h : k ≤ 9) : ¬ nI (3 ^ k) = 0 := nI_ne0 (ff_3p k) (by have := ff_p3b h; omega)
theorem ff_i26 (m i : Nat) : 26 * nI m + nI i = nI (26 * m + i) := by
  rw [show (26 : Int32) = nI 26 from rfl, pk_mul, nI_add]
theorem ff_i3 (m i : Nat) : 3 * nI m + nI i = nI (3 * m + i) := by
  rw [show (3 : Int32) = nI 3 from rfl, pk_mul, nI_add]
theorem ff_i10 (m i : Nat) : 10 * nI m + nI i = nI (10 * m + i) := by
  rw [show (10 : Int32) = nI 10 from rfl, pk_mul, nI_add]
theorem ff_pw {post : Int32 → Prop} {x : Int32} (n : Nat) (hx : x = nI n) (hn : n < 2 ^ 31) (h : post (nI (3 ^ n))) : wpX_power post () x := by
  subst hx
  exact pk_loop (fun f i y => wX_power_4 post (nI n) f y (nI i)) (fun i y => y = nI (3 ^ i)) n 0 1 (by omega) rfl
    (fun f y hy => pk_le n n (fun _ => by rw [hy]; exact h) (fun z => absurd z (by omega)))
    (fun f i y hi hy hw => pk_le n i (fun z => absurd z (by omega)) (fun _ => nm_e (nm_r (nI_1 i) (hw _ (by rw [hy]; exact ff_p3 i)))))
theorem ff_pw0 {post : Int32 → Prop} {x : Int32} (hx : x ≤ 0) (h : post 1) : wpX_power post () x := ⟨1, br_t hx h⟩
theorem ff_place {post : Int32 → Prop} {c : Nat} {p : Int32} (hc : c ≤ 6) (h1 : post (-1)) (h2 : ∀ j, j < c → post (nI j)) : wpX_place post (nI c, fs, fb, a1, a2, a3, a4, a5, a6, a7, a8) p :=
  pk_loop (σ := Unit) (fun f i _ => wX_place_2 post p (nI c) fs fb a1 a2 a3 a4 a5 a6 a7 a8 f (nI i)) (fun _ _ => True) c 0 () (by omega) trivial
    (fun f _ _ => pk_le c c (fun _ => h1) (fun z => absurd z (by omega)))
    (fun f i _ hi _ hw => pk_le c i (fun z => absurd z (by omega)) (fun _ => ⟨pk_in i 6 (by omega), br_c (fun _ => h2 i hi) (fun _ => nm_r (nI_1 i) (hw () trivial))⟩))
theorem ff_stateOf {post : Int32 → Prop} {S : Nat} {p : Int32} (hS : S ≤ 26) (h1 : post (-1)) (h2 : ∀ j, j < S → post (nI j)) : wpX_stateOf post (fc, nI S, fb, a1, a2, a3, a4, a5, a6, a7, a8) p :=
  pk_loop (σ := Unit) (fun f i _ => wX_stateOf_2 post p fc (nI S) fb a1 a2 a3 a4 a5 a6 a7 a8 f (nI i)) (fun _ _ => True) S 0 () (by omega) trivial
    (fun f _ _ => pk_le S S (fun _ => h1) (fun z => absurd z (by omega)))
    (fun f i _ hi _ hw => pk_le S i (fun z => absurd z (by omega)) (fun _ => ⟨pk_in i 26 (by omega), br_c (fun _ => h2 i hi) (fun _ => nm_r (nI_1 i) (hw () trivial))⟩))
theorem ff_sizeOf {post : Int32 → Prop} {p : Int32} (h : ∀ j, 1 ≤ j → j ≤ 4 → post (nI j)) : wpX_sizeOf post () p :=
  pk_loop (σ := Unit) (fun f i _ => wX_sizeOf_2 post p f (nI i)) (fun i _ => 1 ≤ i) 4 1 () (by omega) (Nat.le_refl 1)
    (fun f _ _ => pk_le 4 4 (fun _ => h 4 (by omega) (by omega)) (fun z => absurd z (by omega)))
    (fun f i _ hi h1 hw => pk_le 4 i (fun z => absurd z (by omega)) (fun _ => ff_pw i rfl (by omega) (br_c (fun _ => h i h1 (by omega)) (fun _ => nm_r (nI_1 i) (hw () (by omega))))))
theorem ff_isPiece {post : Int32 → Prop} {p : Int32} (h0 : post 0) (h1 : post 1) : wpX_isPiece post () p := by
  unfold wpX_isPiece
  exact ff_sizeOf (fun j _ _ => ff_pw j rfl (by omega) (br_c (fun _ => h0) (fun _ => ff_pw j rfl (by omega) (br_c (fun _ => h0) (fun _ => h1)))))
theorem ff_t90 {post : Int32 → Prop} {S m : Nat} {x3 : Int32} (h1 : 1 ≤ S) (hS : S ≤ 25) (hm : m ≤ 5) (hp : ∀ t, (t < S ∨ t = 25) → post (nI t)) : ∃ f, wX_target_90 post (nI m) x3 fc (nI S) fb a1 a2 a3 a4 a5 a6 a7 a8 f 0 :=
  pk_loop (σ := Unit) (fun f i _ => wX_target_90 post (nI m) x3 fc (nI S) fb a1 a2 a3 a4 a5 a6 a7 a8 f (nI i)) (fun _ _ => True) m 0 () (by omega) trivial
    (fun f _ _ => pk_le m m (fun _ => hp 0 (Or.inl (by omega))) (fun z => absurd z (by omega)))
    (fun f i _ hi _ hw => pk_le m i (fun z => absurd z (by omega)) (fun _ => ff_pw (m - i) (pk_sub (by omega)) (by omega) (ff_pw (m - i) (pk_sub (by omega)) (by omega)
      ⟨ff_p3n (by omega), nm_e (ff_stateOf (by omega) (br_t (by decide) (nm_r (nI_1 i) (hw () trivial))) (fun j hj => br_f (nI_pos (by omega)) (hp j (Or.inl hj))))⟩)))
theorem ff_t44 {post : Int32 → Prop} {c S m : Nat} {x3 : Int32} (hc : c ≤ 6) (h1 : 1 ≤ S) (hS : S ≤ 25) (hm : m ≤ 5) (hp : ∀ t, (t < S ∨ t = 25) → post (nI t)) : ∃ f, wX_target_44 post (nI m) x3 (nI c) (nI S) fb a1 a2 a3 a4 a5 a6 a7 a8 f 0 :=
  pk_loop (σ := Unit) (fun f i _ => wX_target_44 post (nI m) x3 (nI c) (nI S) fb a1 a2 a3 a4 a5 a6 a7 a8 f (nI i)) (fun _ _ => True) m 0 () (by omega) trivial
    (fun f _ _ => pk_le m m (fun _ => ff_t90 h1 hS hm hp) (fun z => absurd z (by omega)))
    (fun f i _ hi _ hw => pk_le m i (fun z => absurd z (by omega)) (fun _ => ff_pw (m - i) (pk_sub (by omega)) (by omega) (ff_pw (m - i) (pk_sub (by omega)) (by omega)
      ⟨ff_p3n (by omega), nm_e (ff_place hc (br_t (by decide) (nm_r (nI_1 i) (hw () trivial))) (fun j hj => br_f (nI_pos (by omega)) (hp 25 (Or.inr rfl))))⟩)))
theorem ff_t34 {post : Int32 → Prop} {c S m : Nat} {x1 : Int32} (hc : c ≤ 6) (h1 : 1 ≤ S) (hS : S ≤ 25) (hm : m ≤ 5) (hp : ∀ t, (t < S ∨ t = 25) → post (nI t)) : wX_target_34 post x1 (nI m) (nI c) (nI S) fb a1 a2 a3 a4 a5 a6 a7 a8 := by
  unfold wX_target_34
  exact ff_pw m rfl (by omega) (nm_e (ff_t44 hc h1 hS hm hp))
theorem ff_t34n {post : Int32 → Prop} {c S : Nat} {x1 : Int32} (hc : c ≤ 6) (h1 : 1 ≤ S) (hp : ∀ t, (t < S ∨ t = 25) → post (nI t)) : wX_target_34 post x1 (-1) (nI c) (nI S) fb a1 a2 a3 a4 a5 a6 a7 a8 := by
  unfold wX_target_34
  exact ff_pw0 (by decide) (nm_e ⟨1, br_t (by decide) ⟨1, br_t (by decide) (hp 0 (Or.inl (by omega)))⟩⟩)
theorem ff_t23 {post : Int32 → Prop} {c S m : Nat} {x1 : Int32} (hc : c ≤ 6) (h1 : 1 ≤ S) (hS : S ≤ 25) (hm : m ≤ 5) (hp : ∀ t, (t < S ∨ t = 25) → post (nI t)) : wX_target_23 post x1 (nI m) (nI c) (nI S) fb a1 a2 a3 a4 a5 a6 a7 a8 := by
  unfold wX_target_23
  refine ff_pw m rfl (by omega) (br_c (fun _ => ff_t34 hc h1 hS hm hp) (fun _ => ?_))
  cases m with
  | zero => exact nm_r (e' := (-1 : Int32)) (by decide) (ff_t34n hc h1 hp)
  | succ m => exact nm_r (pk_m1 m) (ff_t34 hc h1 hS (by omega) hp)
theorem ff_target {post : Int32 → Prop} {c S : Nat} {p : Int32} (hc : c ≤ 6) (h1 : 1 ≤ S) (hS : S ≤ 25) (hp : ∀ t, (t < S ∨ t = 25) → post (nI t)) : wpX_target post (nI c, nI S, fb, a1, a2, a3, a4, a5, a6, a7, a8) p :=
  pk_loop (σ := Unit) (fun f i _ => wX_target_2 post p (nI c) (nI S) fb a1 a2 a3 a4 a5 a6 a7 a8 f (nI i)) (fun _ _ => True) 5 0 () (by omega) trivial
    (fun f _ _ => pk_le 5 5 (fun _ => ff_t23 (m := 5) hc h1 hS (by omega) hp) (fun z => absurd z (by omega)))
    (fun f i _ hi _ hw => pk_le 5 i (fun z => absurd z (by omega)) (fun _ => ff_pw (i + 1) (nI_1 i) (by omega) (br_c (fun _ => ff_t23 hc h1 hS (by omega) hp) (fun _ => nm_r (nI_1 i) (hw () trivial)))))

/-- the table of steps is well formed, and a3 holds it -/
def ff_G (T : Nat → Nat) (S : Nat) (a3 : Nat → Int32) : Prop := 1 ≤ S ∧ S ≤ 25 ∧ (∀ k, T k < S ∨ T k = 25) ∧ (∀ l, l < 3 → T (75 + l) = 25) ∧ (∀ s l, (s < S ∨ s = 25) → l < 3 → a3 (3 * s + l) = nI (T (3 * s + l)))
/-- a4 holds the ways -/
def ff_V (T : Nat → Nat) (S : Nat) (a4 : Nat → Int64) : Prop := ∀ n s, n ≤ 30 → s < 26 → a4 (26 * n + s) = lN (ff_W T S n s)
theorem ff_Tb {T : Nat → Nat} {S : Nat} (hG : ff_G T S a3) (k : Nat) : T k < 26 := by
  obtain ⟨g1, g2, g3, _, _⟩ := hG
  rcases g3 k with t | t
  · omega
  · omega
theorem ff_g3 {T : Nat → Nat} {S s l : Nat} (hG : ff_G T S a3) (hs : s < S ∨ s = 25) (hl : l < 3) : a3 (3 * nI s + nI l).toNatClampNeg = nI (T (3 * s + l)) := by
  have hb : 3 * s + l < 2 ^ 31 := by
    have := hG.2.1
    omega
  rw [ff_i3, nI_clamp hb]
  exact hG.2.2.2.2 s l hs hl
theorem ff_63 {post : St1 → Prop} {J35 J43 : Int32 → (Nat → Int32) → (Nat → Int32) → (Nat → Int32) → (Nat → Int64) → (Nat → Int64) → (Nat → Int64) → (Nat → Int32) → (Nat → Int32) → Prop} {T : Nat → Nat} {S m i : Nat} (hG : ff_G T S a3) (hm : m < 30) (hi : i < 26) (h0 : a4 (26 * (m + 1) + i) = lN 0) (hr : ∀ t, t < 26 → a4 (26 * m + t) = lN (ff_W T S m t))
    (hJ : ∀ a, (∀ q, q ≠ 26 * (m + 1) + i → a q = a4 q) → a (26 * (m + 1) + i) = lN (ff_W T S (m + 1) i) → J43 (nI (i + 1)) a1 a2 a3 a a5 a6 a7 a8) : ∃ f, wX_countWays_63 post J35 J43 (nI (m + 1)) (nI i) fc (nI S) fb f 0 a1 a2 a3 a4 a5 a6 a7 a8 := by
  have hS := hG.2.1
  by_cases z : S ≤ i
  · exact ⟨1, pk_le 3 0 (fun z => absurd z (by omega)) (fun _ => pk_le S i (fun _ => nm_r (nI_1 i) (hJ a4 (fun _ _ => rfl) (by rw [h0, ff_Wd z]))) (fun z' => absurd z' (by omega)))⟩
  · have zi : i < S := by omega
    refine pk_loop (fun f l s => wX_countWays_63 post J35 J43 (nI (m + 1)) (nI i) fc (nI S) fb f (nI l) a1 a2 a3 s a5 a6 a7 a8) (fun l s => (∀ q, q ≠ 26 * (m + 1) + i → s q = a4 q) ∧ s (26 * (m + 1) + i) = lN (ff_P T S m i l)) 3 0 a4 (by omega) ⟨fun _ _ => rfl, h0⟩
      (fun f s h => pk_le 3 3 (fun _ => nm_r (nI_1 i) (hJ s h.1 (by rw [h.2, ff_Ws zi]))) (fun z => absurd z (by omega))) ?_
    intro f l s hl h hw
    have ht := ff_Tb hG (3 * i + l)
    have e3 := ff_g3 hG (Or.inl zi) hl
    have ev : vp_updL s (26 * nI (m + 1) + nI i).toNatClampNeg (s (26 * nI (m + 1) + nI i).toNatClampNeg + s (26 * (nI (m + 1) - 1) + a3 (3 * nI i + nI l).toNatClampNeg).toNatClampNeg) = vp_updL s (26 * (m + 1) + i) (lN (ff_P T S m i l + ff_W T S m (T (3 * i + l)))) := by
      rw [nI_pred, e3, ff_i26, ff_i26, nI_clamp (show 26 * (m + 1) + i < 2 ^ 31 by omega), nI_clamp (show 26 * m + T (3 * i + l) < 2 ^ 31 by omega), h.2, h.1 _ (by omega), hr _ ht, lN_add]
    exact pk_le 3 l (fun z => absurd z (by omega)) (fun _ => pk_le S i (fun z' => absurd z' (by omega)) (fun _ => ⟨pk_in (26 * (m + 1) + i) 806 (by omega) (ff_i26 _ _), pk_in (3 * i + l) 78 (by omega) (ff_i3 _ _), pk_in (26 * m + T (3 * i + l)) 806 (by omega) (by rw [nI_pred, e3, ff_i26]), pk_in (26 * (m + 1) + i) 806 (by omega) (ff_i26 _ _),
      nm_r ev (nm_r (nI_1 l) (hw _ ⟨fun q hq => by rw [pk_uLn hq]; exact h.1 q hq, pk_uLs⟩))⟩))
theorem ff_43 {post : St1 → Prop} {J35 : Int32 → (Nat → Int32) → (Nat → Int32) → (Nat → Int32) → (Nat → Int64) → (Nat → Int64) → (Nat → Int64) → (Nat → Int32) → (Nat → Int32) → Prop} {T : Nat → Nat} {S m : Nat} (hG : ff_G T S a3) (hm : m < 30) (hr : ∀ n t, n < m + 1 → t < 26 → a4 (26 * n + t) = lN (ff_W T S n t))
    (hJ : ∀ a, (∀ n t, n < m + 1 + 1 → t < 26 → a (26 * n + t) = lN (ff_W T S n t)) → J35 (nI (m + 1 + 1)) a1 a2 a3 a a5 a6 a7 a8) : ∃ f, wX_countWays_43 post J35 (nI (m + 1)) fc (nI S) fb f 0 a1 a2 a3 a4 a5 a6 a7 a8 := by
  refine pk_loop (fun f i s => wX_countWays_43 post J35 (nI (m + 1)) fc (nI S) fb f (nI i) a1 a2 a3 s a5 a6 a7 a8) (fun i s => (∀ n t, n < m + 1 → t < 26 → s (26 * n + t) = lN (ff_W T S n t)) ∧ (∀ t, t < i → s (26 * (m + 1) + t) = lN (ff_W T S (m + 1) t))) 26 0 a4 (by omega) ⟨hr, fun t ht => absurd ht (by omega)⟩ ?_ ?_
  · intro f s h
    refine pk_le 26 26 (fun _ => nm_r (nI_1 (m + 1)) (hJ s (fun n t hn ht => ?_))) (fun z => absurd z (by omega))
    by_cases e : n = m + 1
    · rw [e]
      exact h.2 t ht
    · exact h.1 n t (by omega) ht
  · intro f i s hi h hw
    have ev : vp_updL s (26 * nI (m + 1) + nI i).toNatClampNeg 0 = vp_updL s (26 * (m + 1) + i) 0 := by
      rw [ff_i26, nI_clamp (show 26 * (m + 1) + i < 2 ^ 31 by omega)]
    refine pk_le 26 i (fun z => absurd z (by omega)) (fun _ => ⟨pk_in (26 * (m + 1) + i) 806 (by omega) (ff_i26 _ _), nm_r ev (ff_63 hG hm hi pk_uLs (fun t ht => ?_) (fun a ha hb => hw a ⟨fun n t hn ht => ?_, fun t ht => ?_⟩))⟩)
    · rw [pk_uLn (by omega)]
      exact h.1 m t (by omega) ht
    · rw [ha _ (by omega), pk_uLn (by omega)]
      exact h.1 n t hn ht
    · by_cases e : t = i
      · rw [e]
        exact hb
      · rw [ha _ (by omega), pk_uLn (by omega)]
        exact h.2 t (by omega)
theorem ff_35 {post : St1 → Prop} {T : Nat → Nat} {S : Nat} (hG : ff_G T S a3) (hr : ∀ t, t < 26 → a4 t = lN (ff_W T S 0 t)) (hp : ∀ a, ff_V T S a → post (fc, nI S, fb, a1, a2, a3, a, a5, a6, a7, a8)) : ∃ f, wX_countWays_35 post fc (nI S) fb f 1 a1 a2 a3 a4 a5 a6 a7 a8 := by
  refine pk_loop (fun f i s => wX_countWays_35 post fc (nI S) fb f (nI i) a1 a2 a3 s a5 a6 a7 a8) (fun i s => 1 ≤ i ∧ (∀ n t, n < i → t < 26 → s (26 * n + t) = lN (ff_W T S n t))) 31 1 a4 (by omega) ⟨Nat.le_refl 1, fun n t hn ht => ?_⟩ ?_ ?_
  · have e : n = 0 := by omega
    rw [e, Nat.mul_zero, Nat.zero_add]
    exact hr t ht
  · intro f s h
    exact pk_lt 30 31 (fun _ => hp s (fun n t hn ht => h.2 n t (by omega) ht)) (fun z => absurd z (by omega))
  · intro f i s hi h hw
    obtain ⟨m, rfl⟩ : ∃ m, i = m + 1 := ⟨i - 1, by omega⟩
    exact pk_lt 30 (m + 1) (fun z => absurd z (by omega)) (fun _ => ff_43 hG (by omega) h.2 (fun a ha => hw a ⟨by omega, ha⟩))
theorem ff_countWays {post : St1 → Prop} {T : Nat → Nat} {S : Nat} (hG : ff_G T S a3) (hp : ∀ a, ff_V T S a → post (fc, nI S, fb, a1, a2, a3, a, a5, a6, a7, a8)) : wpX_countWays post (fc, nI S, fb, a1, a2, a3, a4, a5, a6, a7, a8) := by
  have hS := hG.2.1
  refine pk_loop (fun f i s => wX_countWays_2 post fc (nI S) fb f (nI i) a1 a2 a3 s a5 a6 a7 a8) (fun i s => ∀ t, t < i → s t = lN (ff_W T S 0 t)) 26 0 a4 (by omega) (fun t ht => absurd ht (by omega)) ?_ ?_
  · intro f s h
    exact pk_le 26 26 (fun _ => ff_35 hG h hp) (fun z => absurd z (by omega))
  · intro f i s hi h hw
    have key : ∀ x, x = lN (ff_W T S 0 i) → ∀ t, t < i + 1 → vp_updL s (nI i).toNatClampNeg x t = lN (ff_W T S 0 t) := by
      intro x hx t ht
      rw [nI_clamp (show i < 2 ^ 31 by omega)]
      by_cases e : t = i
      · rw [e, pk_uLs]
        exact hx
      · rw [pk_uLn e]
        exact h t (by omega)
    refine pk_le 26 i (fun z => absurd z (by omega)) (fun _ => pk_le S i (fun z => ⟨pk_in i 806 (by omega), nm_e (nm_r (nI_1 i) (hw _ (key 0 ?_)))⟩) (fun z => ⟨pk_in i 806 (by omega), nm_e (nm_r (nI_1 i) (hw _ (key 1 ?_)))⟩))
    · rw [ff_Wd z]
      rfl
    · rw [ff_W0, if_pos z]
      rfl
end
end
section
/-! build -/
section
variable {fc fs fb : Int32} {a1 a2 a3 : Nat → Int32} {a4 a5 a6 : Nat → Int64} {a7 a8 : Nat → Int32}
theorem ff_b49 {post : St1 → Prop} {J27 : Int32 → Int32 → (Nat → Int32) → (Nat → Int32) → (Nat → Int32) → (Nat → Int64) → (Nat → Int64) → (Nat → Int64) → (Nat → Int32) → (Nat → Int32) → Prop} {k e S : Nat} (hk : k < 6) (he : e ≤ 3) (h1 : 1 ≤ S) (hS : S + e ≤ 25)
    (hJ : ∀ S' x2, 1 ≤ S' → S' ≤ S + e → J27 (nI (k + 1)) (nI S') a1 x2 a3 a4 a5 a6 a7 a8) : ∃ f, wX_build_49 post J27 (nI k) fc fb f (nI e) (nI S) a1 a2 a3 a4 a5 a6 a7 a8 :=
  ⟨e + 1, pk_loopD (σ := Nat × (Nat → Int32)) (fun f i s => wX_build_49 post J27 (nI k) fc fb f (nI i) (nI s.1) a1 s.2 a3 a4 a5 a6 a7 a8) (fun i s => i ≤ 3 ∧ 1 ≤ s.1 ∧ s.1 + i ≤ S + e)
    (fun f s h => pk_lt 0 1 (fun _ => nm_r (nI_1 k) (hJ s.1 s.2 h.2.1 h.2.2)) (fun z => absurd z (by omega)))
    (fun f i s h hw => pk_lt (i + 1) 1 (fun z => absurd z (by omega)) (fun _ => ⟨pk_in k 6 hk, ff_pw (i + 1) rfl (by omega) ⟨ff_p3n (by omega), nm_e (ff_stateOf (by omega)
      (br_f (by decide) ⟨pk_in s.1 26 (by omega), nm_e (nm_r (nI_1 s.1) (nm_r (pk_m1 i) (hw (s.1 + 1, _) ⟨by omega, Nat.le_add_left 1 s.1, by show s.1 + 1 + i ≤ S + e; omega⟩)))⟩)
      (fun j hj => br_t (nI_pos' (by omega)) (nm_r (pk_m1 i) (hw s ⟨by omega, h.2.1, by omega⟩))))⟩⟩))
    e (S, a2) ⟨he, h1, Nat.le_refl _⟩⟩
theorem ff_b153 {post : St1 → Prop} {S : Nat} (h1 : 1 ≤ S) (hS : S ≤ 25) (h3 : ∀ j, j < 3 * S → ∃ t, (t < S ∨ t = 25) ∧ a3 j = nI t)
    (hp : ∀ T x3 x4, ff_G T S x3 → ff_V T S x4 → post (fc, nI S, fb, a1, a2, x3, x4, a5, a6, a7, a8)) : ∃ f, wX_build_153 post fc (nI S) fb f 0 a1 a2 a3 a4 a5 a6 a7 a8 := by
  refine pk_loop (fun f i s => wX_build_153 post fc (nI S) fb f (nI i) a1 a2 s a4 a5 a6 a7 a8) (fun i s => (∀ j, j < 3 * S → ∃ t, (t < S ∨ t = 25) ∧ s j = nI t) ∧ (∀ j, j < i → s (75 + j) = nI 25)) 3 0 a3 (by omega) ⟨h3, fun j hj => absurd hj (by omega)⟩ ?_ ?_
  · intro f s h
    have hG : ff_G (fun k => if k < 3 * S then (s k).toNatClampNeg else 25) S s := by
      have hk : ∀ k, k < 3 * S → ((s k).toNatClampNeg < S ∨ (s k).toNatClampNeg = 25) ∧ s k = nI (s k).toNatClampNeg := by
        intro k hk
        obtain ⟨t, ht, e⟩ := h.1 k hk
        have e2 : (s k).toNatClampNeg = t := by
          rw [e]
          exact nI_clamp (by omega)
        rw [e2]
        exact ⟨ht, e⟩
      refine ⟨h1, hS, fun k => ?_, fun l hl => ?_, fun t l ht hl => ?_⟩
      · show (if k < 3 * S then (s k).toNatClampNeg else 25) < S ∨ (if k < 3 * S then (s k).toNatClampNeg else 25) = 25
        by_cases g : k < 3 * S
        · rw [if_pos g]
          exact (hk k g).1
        · rw [if_neg g]
          exact Or.inr rfl
      · exact if_neg (by omega)
      · show s (3 * t + l) = nI (if 3 * t + l < 3 * S then (s (3 * t + l)).toNatClampNeg else 25)
        by_cases g : 3 * t + l < 3 * S
        · rw [if_pos g]
          exact (hk _ g).2
        · rw [if_neg g]
          have e : t = 25 := by omega
          rw [e]
          exact h.2 l hl
    exact pk_le 3 3 (fun _ => ff_countWays hG (fun a ha => hp _ s a hG ha)) (fun z => absurd z (by omega))
  · intro f i s hi h hw
    have e : (75 : Int32) + nI i = nI (75 + i) := by
      rw [show (75 : Int32) = nI 75 from rfl, nI_add]
    have ev : upd s (75 + nI i).toNatClampNeg 25 = upd s (75 + i) 25 := by
      rw [e, nI_clamp (show 75 + i < 2 ^ 31 by omega)]
    refine pk_le 3 i (fun z => absurd z (by omega)) (fun _ => ⟨pk_in (75 + i) 78 (by omega) e, nm_r ev (nm_r (nI_1 i) (hw _ ⟨fun j hj => ?_, fun j hj => ?_⟩))⟩)
    · by_cases g : j = 75 + i
      · exact ⟨25, Or.inr rfl, by rw [g, pk_us]; rfl⟩
      · rw [pk_un g]
        exact h.1 j hj
    · by_cases g : j = i
      · rw [g, pk_us]
        rfl
      · rw [pk_un (by omega)]
        exact h.2 j (by omega)
theorem ff_b111 {post : St1 → Prop} {c S : Nat} (hc : c ≤ 6) (h1 : 1 ≤ S) (hS : S ≤ 25)
    (hp : ∀ T x3 x4, ff_G T S x3 → ff_V T S x4 → post (nI c, nI S, fb, a1, a2, x3, x4, a5, a6, a7, a8)) : ∃ f, wX_build_111 post (nI c) (nI S) fb f 0 a1 a2 a3 a4 a5 a6 a7 a8 := by
  refine pk_loop (fun f i s => wX_build_111 post (nI c) (nI S) fb f (nI i) a1 a2 s a4 a5 a6 a7 a8) (fun i s => ∀ j, j < i → ∃ t, (t < S ∨ t = 25) ∧ s j = nI t) (3 * S) 0 a3 (by omega) (fun j hj => absurd hj (by omega)) ?_ ?_
  · intro f s h
    exact pk_le (3 * S) (3 * S) (fun _ => ff_b153 h1 hS h hp) (fun z => absurd z (by omega)) (pk_mul 3 S)
  · intro f i s hi h hw
    refine pk_le (3 * S) i (fun z => absurd z (by omega)) (fun _ => ⟨by decide, pk_in (i / 3) 26 (by omega) (pk_div (d := 3) (by omega) (by omega) (by omega)), by decide, ff_target hc h1 hS (fun t ht => ⟨pk_in i 78 (by omega), nm_e (nm_r (nI_1 i) (hw _ (fun j hj => ?_)))⟩)⟩) (pk_mul 3 S)
    rw [nI_clamp (show i < 2 ^ 31 by omega)]
    by_cases g : j = i
    · exact ⟨t, ht, by rw [g, pk_us]⟩
    · rw [pk_un g]
      exact h j (by omega)
theorem ff_build {post : St1 → Prop} {c : Nat} (hc : c ≤ 6) (hb : fb = 0)
    (hp : ∀ S T x2 x3 x4, ff_G T S x3 → ff_V T S x4 → post (nI c, nI S, 1, a1, x2, x3, x4, a5, a6, a7, a8)) : wpX_build post (nI c, fs, fb, a1, a2, a3, a4, a5, a6, a7, a8) := by
  refine br_t hb (nm_e (pk_loop (σ := Nat × (Nat → Int32)) (fun f i s => wX_build_27 post (nI c) 1 f (nI i) (nI s.1) a1 s.2 a3 a4 a5 a6 a7 a8) (fun i s => 1 ≤ s.1 ∧ s.1 ≤ 1 + 3 * i) c 0 (1, upd a2 0 1) (by omega) ⟨Nat.le_refl 1, Nat.le_refl 1⟩ ?_ ?_))
  · intro f s h
    have h2 := h.2
    exact pk_le c c (fun _ => ff_b111 hc h.1 (by omega) (fun T x3 x4 => hp s.1 T s.2 x3 x4)) (fun z => absurd z (by omega))
  · intro f i s hi h hw
    have h2 := h.2
    exact pk_le c i (fun z => absurd z (by omega)) (fun _ => ⟨pk_in i 6 (by omega), ff_sizeOf (fun j j1 j4 => nm_r (pk_sub (b := 1) j1) (ff_b49 (by omega) (by omega) h.1 (by omega) (fun S' x2 g1 g2 => hw (S', x2) ⟨g1, by show S' ≤ 1 + 3 * (i + 1); omega⟩)))⟩)
end
end
section
/-! read, below, unrank and what calls them, over a built state -/
section
variable {fc fs fb : Int32} {a1 a2 a3 : Nat → Int32} {a4 a5 a6 : Nat → Int64} {a7 a8 : Nat → Int32} {T : Nat → Nat} {S : Nat}
theorem ff_m1 (k : Nat) : nI k + (-1) = nI k - 1 := (Int32.sub_eq_add_neg _ _).symm
theorem ff_pm1 (k : Nat) : nI (k + 1) - 1 + (-1) = nI k - 1 := by
  rw [nI_pred, ff_m1]
theorem ff_let {c k : Nat} (hc : c < 2 ^ 31) (hk : k ≤ 9) : nI c / nI (3 ^ k) - nI c / nI (3 ^ k) / 3 * 3 = nI (c / 3 ^ k % 3) := by
  have hb := ff_p3b hk
  rw [pk_div hc (ff_3p k) (by omega)]
  exact pk_rem (d := 3) (Nat.lt_of_le_of_lt (Nat.div_le_self _ _) hc) (by omega) (by omega)
theorem ff_read {post : Int32 → Prop} {n c : Nat} (s : Nat) (hG : ff_G T S a3) (hn : n ≤ 9) (hc : c < 2 ^ 31) (hs : s < S ∨ s = 25) (hp : post (nI (ff_R T c n s))) : wpX_read post (fc, fs, fb, a1, a2, a3, a4, a5, a6, a7, a8) (nI s) (nI n) (nI c) := by
  have hS := hG.2.1
  refine nm_e ⟨n + 1, pk_loopD (fun f i q => wX_read_8 post (nI c) fc fs fb a1 a2 a3 a4 a5 a6 a7 a8 f (nI q) (nI i - 1)) (fun i q => i ≤ 9 ∧ (q < S ∨ q = 25) ∧ ff_R T c i q = ff_R T c n s) ?_ ?_ n s ⟨hn, hs, rfl⟩⟩
  · intro f q h
    have e : q = ff_R T c n s := h.2.2
    refine br_t (by decide) ?_
    rw [e]
    exact hp
  · intro f i q h hw
    obtain ⟨h1, h2, h3⟩ := h
    have hl : c / 3 ^ i % 3 < 3 := Nat.mod_lt _ (by decide)
    exact br_f (by rw [nI_pred]; exact nI_pos (by omega)) (ff_pw i (nI_pred i) (by omega) ⟨ff_p3n (by omega), by decide, nm_r (ff_let hc (by omega)) ⟨pk_in (3 * q + c / 3 ^ i % 3) 78 (by omega) (ff_i3 _ _), nm_r (ff_g3 hG h2 hl) (nm_r (ff_pm1 i) (hw _ ⟨by omega, hG.2.2.1 _, h3⟩))⟩⟩)
theorem ff_29 {post : Int32 → Prop} {J10 : Int32 → Int64 → Int32 → Prop} {x2 x6 : Int32} {s k l q : Nat} (hG : ff_G T S a3) (hV : ff_V T S a4) (hs : s < S ∨ s = 25) (hx : x6 = nI k) (hk : k ≤ 9) (hl : l < 3)
    (hJ : J10 (nI (T (3 * s + l))) (lN (q + ff_P T S k s l)) (nI k - 1)) : ∃ f, wX_below_29 post J10 x2 (nI s) x6 (nI l) fc fs fb a1 a2 a3 a4 a5 a6 a7 a8 f (lN q) 0 := by
  subst hx
  have hS := hG.2.1
  refine pk_loop (σ := Unit) (fun f i _ => wX_below_29 post J10 x2 (nI s) (nI k) (nI l) fc fs fb a1 a2 a3 a4 a5 a6 a7 a8 f (lN (q + ff_P T S k s i)) (nI i)) (fun _ _ => True) l 0 () (by omega) trivial ?_ ?_
  · intro f _ _
    exact pk_le l l (fun _ => ⟨pk_in (3 * s + l) 78 (by omega) (ff_i3 _ _), nm_r (ff_g3 hG hs hl) (nm_r (ff_m1 k) hJ)⟩) (fun z => absurd z (by omega))
  · intro f i _ hi _ hw
    have ht := ff_Tb hG (3 * s + i)
    have e3 := ff_g3 hG hs (show i < 3 by omega)
    have ev : lN (q + ff_P T S k s i) + a4 (26 * nI k + a3 (3 * nI s + nI i).toNatClampNeg).toNatClampNeg = lN (q + ff_P T S k s (i + 1)) := by
      rw [e3, ff_i26, nI_clamp (show 26 * k + T (3 * s + i) < 2 ^ 31 by omega), hV k _ (by omega) ht, lN_add, Nat.add_assoc]
      rfl
    exact pk_le l i (fun z => absurd z (by omega)) (fun _ => ⟨pk_in (3 * s + i) 78 (by omega) (ff_i3 _ _), pk_in (26 * k + T (3 * s + i)) 806 (by omega) (by rw [e3, ff_i26]), nm_r ev (nm_r (nI_1 i) (hw () trivial))⟩)
theorem ff_below {post : Int32 → Prop} {n c : Nat} {y : Int32} (hG : ff_G T S a3) (hV : ff_V T S a4) (hn : n ≤ 9) (hy : y = nI c) (hc : c < 2 ^ 31) (hp : post (nI (ff_B T S c n 0))) : wpX_below post (fc, fs, fb, a1, a2, a3, a4, a5, a6, a7, a8) (nI n) y := by
  subst hy
  have h1S := hG.1
  refine nm_e ⟨n + 1, pk_loopD (σ := Nat × Nat) (fun f i q => wX_below_10 post (nI c) fc fs fb a1 a2 a3 a4 a5 a6 a7 a8 f (nI q.1) (lN q.2) (nI i - 1)) (fun i q => i ≤ 9 ∧ (q.1 < S ∨ q.1 = 25) ∧ q.2 + ff_B T S c i q.1 = ff_B T S c n 0) ?_ ?_ n (0, 0) ⟨hn, Or.inl h1S, Nat.zero_add _⟩⟩
  · intro f q h
    have e : q.2 = ff_B T S c n 0 := h.2.2
    refine br_t (by decide) ?_
    rw [lN_i, e]
    exact hp
  · intro f i q h hw
    obtain ⟨h1, h2, h3⟩ := h
    have hl : c / 3 ^ i % 3 < 3 := Nat.mod_lt _ (by decide)
    exact br_f (by rw [nI_pred]; exact nI_pos (by omega)) (ff_pw i (nI_pred i) (by omega) ⟨ff_p3n (by omega), by decide, nm_r (ff_let hc (by omega)) (ff_29 hG hV h2 (nI_pred i) (by omega) hl (hw (T (3 * q.1 + c / 3 ^ i % 3), q.2 + ff_P T S i q.1 (c / 3 ^ i % 3)) ⟨by omega, hG.2.2.1 _, (Nat.add_assoc _ _ _).trans h3⟩))⟩)
theorem ff_89 {post : Int32 → Prop} {J14 : Int32 → Int64 → Int32 → Int32 → Prop} {x4 : Int64} {x7 : Int32} {s k l code : Nat} (hG : ff_G T S a3) (hs : s < S) (hx : x7 = nI k) (hl : l < 3)
    (hJ : J14 (nI (T (3 * s + l))) x4 (nI (3 * code + l)) (nI k - 1)) : wX_unrank_89 post J14 (nI s) x4 (nI code) x7 (nI l) fc fs fb a1 a2 a3 a4 a5 a6 a7 a8 := by
  subst hx
  have hS := hG.2.1
  unfold wX_unrank_89
  exact nm_r (ff_i3 code l) ⟨pk_in (3 * s + l) 78 (by omega) (ff_i3 _ _), nm_r (ff_g3 hG (Or.inl hs) hl) (nm_r (ff_m1 k) hJ)⟩
theorem ff_Wb9 {k s : Nat} (hk : k ≤ 9) : ff_W T S k s ≤ 19683 := Nat.le_trans (ff_Wb T S k s) (ff_p3b hk)
theorem ff_Pb {k s l : Nat} (hk : k ≤ 9) (hl : l ≤ 3) : ff_P T S k s l ≤ 59049 := by
  refine Nat.le_trans (ff_Pm hl) ?_
  rw [ff_P3]
  have h0 : ff_W T S k (T (3 * s + 0)) ≤ 19683 := ff_Wb9 hk
  have h1 : ff_W T S k (T (3 * s + 1)) ≤ 19683 := ff_Wb9 hk
  have h2 : ff_W T S k (T (3 * s + 2)) ≤ 19683 := ff_Wb9 hk
  omega
theorem ff_g4 {s k l : Nat} (hG : ff_G T S a3) (hV : ff_V T S a4) (hs : s < S ∨ s = 25) (hk : k ≤ 9) (hl : l < 3) : vp_in (26 * nI k + a3 (3 * nI s + nI l).toNatClampNeg) 806 ∧ a4 (26 * nI k + a3 (3 * nI s + nI l).toNatClampNeg).toNatClampNeg = lN (ff_W T S k (T (3 * s + l))) := by
  have ht := ff_Tb hG (3 * s + l)
  have e3 := ff_g3 hG hs hl
  refine ⟨pk_in (26 * k + T (3 * s + l)) 806 (by omega) (by rw [e3, ff_i26]), ?_⟩
  rw [e3, ff_i26, nI_clamp (show 26 * k + T (3 * s + l) < 2 ^ 31 by omega), hV k _ (by omega) ht]
theorem ff_22 {post : Int32 → Prop} {J14 : Int32 → Int64 → Int32 → Int32 → Prop} {x7 : Int32} {s k l j code : Nat} (hG : ff_G T S a3) (hV : ff_V T S a4) (hs : s < S) (hx : x7 = nI k) (hk : k ≤ 9) (hl : l < 3) (hj : j < ff_W T S k (T (3 * s + l)))
    (hJ : J14 (nI (T (3 * s + l))) (lN j) (nI (3 * code + l)) (nI k - 1)) : ∃ f, wX_unrank_22 post J14 (nI s) (nI code) x7 fc fs fb a1 a2 a3 a4 a5 a6 a7 a8 f (lN (ff_P T S k s l + j)) 0 := by
  subst hx
  have hS := hG.2.1
  have hP : ff_P T S k s l ≤ 59049 := ff_Pb hk (by omega)
  have hW : ff_W T S k (T (3 * s + l)) ≤ 19683 := ff_Wb9 hk
  refine pk_loop (σ := Unit) (fun f i _ => wX_unrank_22 post J14 (nI s) (nI code) (nI k) fc fs fb a1 a2 a3 a4 a5 a6 a7 a8 f (lN (ff_P T S k s l + j - ff_P T S k s i)) (nI i)) (fun _ _ => True) l 0 () (by omega) trivial ?_ ?_
  · intro f _ _
    have e : ff_P T S k s l + j - ff_P T S k s l = j := Nat.add_sub_cancel_left _ _
    have done : wX_unrank_89 post J14 (nI s) (lN (ff_P T S k s l + j - ff_P T S k s l)) (nI code) (nI k) (nI l) fc fs fb a1 a2 a3 a4 a5 a6 a7 a8 := by
      rw [e]
      exact ff_89 hG hs rfl hl hJ
    have g4 := ff_g4 hG hV (Or.inl hs) hk hl
    exact pk_le 2 l (fun _ => done) (fun z => ⟨pk_in (3 * s + l) 78 (by omega) (ff_i3 _ _), g4.1, br_t (by rw [e, g4.2]; exact (lN_lt (by omega) (by omega)).mpr hj) done⟩)
  · intro f i _ hi _ hw
    have g4 := ff_g4 hG hV (Or.inl hs) hk (show i < 3 by omega)
    have hm : ff_P T S k s i + ff_W T S k (T (3 * s + i)) ≤ ff_P T S k s l := ff_Pm (l := i + 1) (by omega)
    have ev : lN (ff_P T S k s l + j - ff_P T S k s i) - a4 (26 * nI k + a3 (3 * nI s + nI i).toNatClampNeg).toNatClampNeg = lN (ff_P T S k s l + j - ff_P T S k s (i + 1)) := by
      rw [g4.2, lN_sub (by omega), Nat.sub_sub]
      rfl
    have hn : ¬ lN (ff_P T S k s l + j - ff_P T S k s i) < a4 (26 * nI k + a3 (3 * nI s + nI i).toNatClampNeg).toNatClampNeg := by
      rw [g4.2, lN_lt (by omega) (by omega)]
      omega
    exact pk_le 2 i (fun z => absurd z (by omega)) (fun z => ⟨pk_in (3 * s + i) 78 (by omega) (ff_i3 _ _), g4.1, br_f hn ⟨pk_in (3 * s + i) 78 (by omega) (ff_i3 _ _), g4.1, nm_r ev (nm_r (nI_1 i) (hw () trivial))⟩⟩)
theorem ff_unrank {post : Int32 → Prop} {n i : Nat} {y : Int32} (hG : ff_G T S a3) (hV : ff_V T S a4) (hn : n ≤ 9) (hy : y = nI i) (hi : i < ff_W T S n 0) (hp : post (nI (ff_U T S n 0 i))) : wpX_unrank post (fc, fs, fb, a1, a2, a3, a4, a5, a6, a7, a8) (nI n) y := by
  subst hy
  have hW : ff_W T S n 0 ≤ 19683 := ff_Wb9 hn
  have key : ∃ f, wX_unrank_14 post fc fs fb a1 a2 a3 a4 a5 a6 a7 a8 f 0 (lN i) 0 (nI n - 1) := by
    refine ⟨n + 1, pk_loopD (σ := Nat × Nat × Nat) (fun f m q => wX_unrank_14 post fc fs fb a1 a2 a3 a4 a5 a6 a7 a8 f (nI q.1) (lN q.2.1) (nI q.2.2) (nI m - 1)) (fun m q => m ≤ 9 ∧ q.2.1 < ff_W T S m q.1 ∧ q.2.2 * 3 ^ m + ff_U T S m q.1 q.2.1 = ff_U T S n 0 i) ?_ ?_ n (0, i, 0) ⟨hn, hi, ?_⟩⟩
    · intro f q h
      have e : q.2.2 * 1 + 0 = ff_U T S n 0 i := h.2.2
      rw [Nat.mul_one, Nat.add_zero] at e
      refine br_t (by decide) ?_
      rw [e]
      exact hp
    · intro f m q h hw
      obtain ⟨s, left, code⟩ := q
      obtain ⟨h1, h2, h3⟩ := h
      have h2' : left < ff_W T S (m + 1) s := h2
      have h3' : code * 3 ^ (m + 1) + ff_U T S (m + 1) s left = ff_U T S n 0 i := h3
      have hs : s < S := ff_Wl (Nat.lt_of_le_of_lt (Nat.zero_le left) h2')
      rw [ff_Ws hs] at h2'
      obtain ⟨l, j, hl, hj, e⟩ := ff_Lx h2'
      subst e
      rw [ff_Us hl hj, Nat.pow_succ] at h3'
      have e1 : 3 * code * 3 ^ m = code * (3 ^ m * 3) := by
        rw [Nat.mul_comm 3 code, Nat.mul_assoc, Nat.mul_comm 3 (3 ^ m)]
      have e2 : (3 * code + l) * 3 ^ m + ff_U T S m (T (3 * s + l)) j = ff_U T S n 0 i := by
        rw [← h3', Nat.add_mul, e1, Nat.add_assoc]
      exact br_f (by rw [nI_pred]; exact nI_pos (by omega)) (ff_22 hG hV hs (nI_pred m) (by omega) hl hj (hw (T (3 * s + l), j, 3 * code + l) ⟨by omega, hj, e2⟩))
    · show 0 * 3 ^ n + ff_U T S n 0 i = ff_U T S n 0 i
      rw [Nat.zero_mul, Nat.zero_add]
  refine nm_e ?_
  rw [nI_l (by omega)]
  exact key
theorem ff_w0i {n : Nat} (hn : n ≤ 30) : vp_in (26 * nI n) 806 := pk_in (26 * n) 806 (by omega) (pk_mul 26 n)
theorem ff_w0 {n : Nat} (hV : ff_V T S a4) (hn : n ≤ 30) : a4 (26 * nI n).toNatClampNeg = lN (ff_W T S n 0) := by
  have e : (26 : Int32) * nI n = nI (26 * n) := pk_mul 26 n
  rw [e, nI_clamp (by omega)]
  exact hV n 0 hn (by omega)
theorem ff_bld {post : St1 → Prop} (hb : ¬ fb = 0) (h : post (fc, fs, fb, a1, a2, a3, a4, a5, a6, a7, a8)) : wpX_build post (fc, fs, fb, a1, a2, a3, a4, a5, a6, a7, a8) := br_f hb h
theorem ff_count {post : Int64 → St1 → Prop} {n : Nat} {y : Int32} (hb : ¬ fb = 0) (hV : ff_V T S a4) (hy : y = nI n) (hn : n ≤ 30) (hp : post (lN (ff_W T S n 0)) (fc, fs, fb, a1, a2, a3, a4, a5, a6, a7, a8)) : wpX_count post (fc, fs, fb, a1, a2, a3, a4, a5, a6, a7, a8) y := by
  subst hy
  exact pk_lt n 0 (fun z => absurd z (by omega)) (fun _ => pk_le n 30 (fun _ => ff_bld hb ⟨ff_w0i hn, by rw [ff_w0 hV hn]; exact hp⟩) (fun z => absurd z (by omega)))
theorem ff_isLen {post : Int32 → Prop} {n : Nat} (hn : n ≤ 9) (hp : post 1) : wpX_isLength post () (nI n) :=
  pk_lt n 0 (fun z => absurd z (by omega)) (fun _ => pk_lt 9 n (fun z => absurd z (by omega)) (fun _ => hp))
/-- the word that the law holds after i turns -/
def ff_la (T : Nat → Nat) (S n : Nat) : Nat → Int32
  | 0 => -1
  | i + 1 => nI (ff_U T S n 0 i)
theorem ff_nx {post : Int32 → St1 → Prop} {n i : Nat} {y : Int32} (hG : ff_G T S a3) (hV : ff_V T S a4) (hn : n ≤ 9) (hy : y = nI i) (hi : i ≤ ff_W T S n 0) (hp : i < ff_W T S n 0 → post (nI (ff_U T S n 0 i)) (fc, fs, fb, a1, a2, a3, a4, a5, a6, a7, a8)) (hq : i = ff_W T S n 0 → post (-2) (fc, fs, fb, a1, a2, a3, a4, a5, a6, a7, a8)) : wX_next_45 post (nI n) y fc fs fb a1 a2 a3 a4 a5 a6 a7 a8 := by
  subst hy
  have hW : ff_W T S n 0 ≤ 19683 := ff_Wb9 hn
  unfold wX_next_45
  rw [ff_w0 hV (by omega), nI_l (by omega)]
  refine ⟨ff_w0i (by omega), ?_⟩
  rcases Nat.lt_or_ge i (ff_W T S n 0) with z | z
  · exact br_f (by rw [lN_le (by omega) (by omega)]; omega) (ff_unrank hG hV hn rfl z (hp z))
  · exact br_t (by rw [lN_le (by omega) (by omega)]; omega) (hq (by omega))
theorem ff_next {post : Int32 → St1 → Prop} {n i : Nat} (hb : ¬ fb = 0) (hG : ff_G T S a3) (hV : ff_V T S a4) (hn : n ≤ 9) (hi : i ≤ ff_W T S n 0) (hp : i < ff_W T S n 0 → post (nI (ff_U T S n 0 i)) (fc, fs, fb, a1, a2, a3, a4, a5, a6, a7, a8)) (hq : i = ff_W T S n 0 → post (-2) (fc, fs, fb, a1, a2, a3, a4, a5, a6, a7, a8)) : wpX_next post (fc, fs, fb, a1, a2, a3, a4, a5, a6, a7, a8) (nI n) (ff_la T S n i) := by
  have h3 := ff_3p n
  have hb9 := ff_p3b hn
  have e1 : nI (3 ^ n) - 1 = nI (3 ^ n - 1) := pk_sub (b := 1) h3
  unfold wpX_next
  refine ff_isLen hn (br_f (by decide) (ff_bld hb (ff_pw n rfl (by omega) ?_)))
  cases i with
  | zero =>
    have hm : (-1 : Int32) < nI (3 ^ n) - 1 := by
      rw [e1, Int32.lt_iff_toInt_lt, nI_toInt (by omega)]
      have : (-1 : Int32).toInt = -1 := by decide
      omega
    have hz : (-1 : Int32) < 0 := by decide
    exact br_t hm (br_t hz (ff_nx (i := 0) hG hV hn rfl hi hp hq))
  | succ i =>
    obtain ⟨A1, A2, A3⟩ := ff_A n 0 i (show i < ff_W T S n 0 by omega)
    have C := ff_cnt hG.2.1 hG.2.2.1 hG.2.2.2.1 n 0 (ff_U T S n 0 i) (Or.inl hG.1) A1
    rw [if_pos A2, A3] at C
    refine pk_lt (ff_U T S n 0 i) (3 ^ n - 1) (fun z => br_f (nI_pos (by omega)) (ff_below hG hV hn (nI_1 _) (by omega) (ff_nx hG hV hn ?_ hi hp hq))) (fun z => hq ?_) rfl e1
    · rw [C, if_pos (by omega)]
    · rw [C, if_neg (by omega)]
theorem ff_word {post : Int32 → St1 → Prop} {n i : Nat} {y : Int32} (hb : ¬ fb = 0) (hG : ff_G T S a3) (hV : ff_V T S a4) (hn : n ≤ 9) (hy : y = nI i) (hi : i ≤ ff_W T S n 0) (hp : i < ff_W T S n 0 → post (nI (ff_U T S n 0 i)) (fc, fs, fb, a1, a2, a3, a4, a5, a6, a7, a8)) (hq : i = ff_W T S n 0 → post (-2) (fc, fs, fb, a1, a2, a3, a4, a5, a6, a7, a8)) : wpX_word post (fc, fs, fb, a1, a2, a3, a4, a5, a6, a7, a8) (nI n) y := by
  subst hy
  have hW : ff_W T S n 0 ≤ 19683 := ff_Wb9 hn
  unfold wpX_word
  refine ff_isLen hn (br_f (by decide) (ff_bld hb (pk_lt i 0 (fun z => absurd z (by omega)) (fun _ => ⟨ff_w0i (by omega), ?_⟩))))
  rw [ff_w0 hV (by omega), nI_l (by omega)]
  rcases Nat.lt_or_ge i (ff_W T S n 0) with z | z
  · exact br_t (by rw [lN_lt (by omega) (by omega)]; omega) (ff_unrank hG hV hn rfl z (hp z))
  · exact br_f (by rw [lN_lt (by omega) (by omega)]; omega) (hq (by omega))
theorem ff_refused {post : Int32 → Prop} {n c : Nat} (hn : n ≤ 9) (hc : c < 3 ^ n) (hp : post 0) : wpX_refused post () (nI n) (nI c) := by
  have hb9 := ff_p3b hn
  unfold wpX_refused
  exact ff_isLen hn (br_f (by decide) (pk_lt c 0 (fun z => absurd z (by omega)) (fun _ => ff_pw n rfl (by omega) (pk_lt c (3 ^ n) (fun _ => hp) (fun z => absurd z (by omega))))))
theorem ff_allowed {post : Int32 → St1 → Prop} {n c : Nat} (hb : ¬ fb = 0) (hG : ff_G T S a3) (hn : n ≤ 9) (hc : c < 3 ^ n) (hr : ff_R T c n 0 < S) (hp : post 1 (fc, fs, fb, a1, a2, a3, a4, a5, a6, a7, a8)) : wpX_allowed post (fc, fs, fb, a1, a2, a3, a4, a5, a6, a7, a8) (nI n) (nI c) := by
  have hb9 := ff_p3b hn
  have hS := hG.2.1
  unfold wpX_allowed
  exact ff_refused hn hc (br_t (by decide) (ff_bld hb (ff_read 0 hG hn (by omega) (Or.inl hG.1) (pk_eq (ff_R T c n 0) 25 (fun z => absurd z (by omega)) (fun _ => hp)))))
theorem ff_rank {post : Int32 → St1 → Prop} {n c : Nat} (hb : ¬ fb = 0) (hG : ff_G T S a3) (hV : ff_V T S a4) (hn : n ≤ 9) (hc : c < 3 ^ n) (hp : post (nI (ff_B T S c n 0)) (fc, fs, fb, a1, a2, a3, a4, a5, a6, a7, a8)) : wpX_rank post (fc, fs, fb, a1, a2, a3, a4, a5, a6, a7, a8) (nI n) (nI c) := by
  have hb9 := ff_p3b hn
  unfold wpX_rank
  exact ff_refused hn hc (br_t (by decide) (ff_bld hb (ff_below hG hV hn rfl (by omega) hp)))
theorem ff_choices {post : Int32 → St1 → Prop} {n c : Nat} (hb : ¬ fb = 0) (hG : ff_G T S a3) (hV : ff_V T S a4) (hn : n ≤ 9) (hc : c < 3 ^ n) (hr : ff_R T c n 0 < S) (hp : post (nI (ff_W T S 1 (ff_R T c n 0))) (fc, fs, fb, a1, a2, a3, a4, a5, a6, a7, a8)) : wpX_choices post (fc, fs, fb, a1, a2, a3, a4, a5, a6, a7, a8) (nI n) (nI c) := by
  have hb9 := ff_p3b hn
  have hS := hG.2.1
  have e : (26 : Int32) + nI (ff_R T c n 0) = nI (26 + ff_R T c n 0) := by
    rw [show (26 : Int32) = nI 26 from rfl, nI_add]
  have ev : (a4 (26 + nI (ff_R T c n 0)).toNatClampNeg).toInt32 = nI (ff_W T S 1 (ff_R T c n 0)) := by
    rw [e, nI_clamp (by omega), ← lN_i]
    exact congrArg Int64.toInt32 (hV 1 _ (by omega) (by omega))
  unfold wpX_choices
  refine ff_refused hn hc (br_t (by decide) (ff_bld hb (ff_read 0 hG hn (by omega) (Or.inl hG.1) (pk_eq (ff_R T c n 0) 25 (fun z => absurd z (by omega)) (fun _ => ⟨pk_in (26 + ff_R T c n 0) 806 (by omega) e, ?_⟩)))))
  rw [ev]
  exact hp
theorem ff_inc {n i : Nat} (hG : ff_G T S a3) (hi : i + 1 < ff_W T S n 0) : ff_U T S n 0 i < ff_U T S n 0 (i + 1) := by
  obtain ⟨A1, A2, A3⟩ := ff_A n 0 i (show i < ff_W T S n 0 by omega)
  obtain ⟨B1, B2, B3⟩ := ff_A n 0 (i + 1) hi
  rcases Nat.lt_or_ge (ff_U T S n 0 i) (ff_U T S n 0 (i + 1)) with z | z
  · exact z
  · have := ff_Bm hG.2.1 hG.2.2.1 hG.2.2.2.1 (Or.inl hG.1) _ z A1
    omega
end
end
section
/-! spreadTable and countWith over a built state -/
section
variable {fc fs fb : Int32} {a1 a2 a3 : Nat → Int32} {a4 a5 a6 : Nat → Int64} {a7 a8 : Nat → Int32} {T : Nat → Nat} {S : Nat}
theorem ff_69 {post : St1 → Prop} {J24 J37 : Int32 → (Nat → Int32) → (Nat → Int32) → (Nat → Int32) → (Nat → Int64) → (Nat → Int64) → (Nat → Int64) → (Nat → Int32) → (Nat → Int32) → Prop} {f g : Nat → Nat} {i l : Nat} {z0 z1 : Int32} (hG : ff_G T S a3) (h7 : ∀ j, j < 260 → a7 j = nI (f j)) (h8 : ∀ j, j < 260 → a8 j = nI (g j)) (hi : i < 10 * S) (hz : z1 + z0 = nI (ff_z i l)) (hl : l < 3)
    (hJ : ∀ s, (∀ j, j < 260 → s j = nI (ff_put T f i l g j)) → J37 (nI (l + 1)) a1 a2 a3 a4 a5 a6 a7 s) : wX_spreadTable_69 post J24 J37 (nI i) (nI l) (nI (T (3 * (i / 10) + l))) z0 z1 fc fs fb a1 a2 a3 a4 a5 a6 a7 a8 := by
  have hS := hG.2.1
  have hzl := ff_zle i l
  have ht := ff_Tb hG (3 * (i / 10) + l)
  unfold wX_spreadTable_69
  refine nm_r hz (pk_eq (T (3 * (i / 10) + l)) 25 (fun e => nm_r (nI_1 l) (hJ a8 (fun j hj => ?_))) (fun e => pk_le 10 (ff_z i l) (fun z => nm_r (nI_1 l) (hJ a8 (fun j hj => ?_))) (fun z => ?_)))
  · rw [h8 j hj]
    unfold ff_put
    rw [if_pos e]
  · rw [h8 j hj]
    unfold ff_put
    rw [if_neg e, if_pos z]
  · have z' : ¬ 10 ≤ ff_z i l := by omega
    have hq : 10 * T (3 * (i / 10) + l) + ff_z i l < 260 := by omega
    have ev : upd a8 (10 * nI (T (3 * (i / 10) + l)) + nI (ff_z i l)).toNatClampNeg (a8 (10 * nI (T (3 * (i / 10) + l)) + nI (ff_z i l)).toNatClampNeg + a7 (nI i).toNatClampNeg) = upd a8 (10 * T (3 * (i / 10) + l) + ff_z i l) (nI (g (10 * T (3 * (i / 10) + l) + ff_z i l) + f i)) := by
      rw [ff_i10, nI_clamp (show 10 * T (3 * (i / 10) + l) + ff_z i l < 2 ^ 31 by omega), nI_clamp (show i < 2 ^ 31 by omega), h8 _ hq, h7 i (by omega), nI_add]
    refine ⟨pk_in (10 * T (3 * (i / 10) + l) + ff_z i l) 260 hq (ff_i10 _ _), pk_in i 260 (by omega), pk_in (10 * T (3 * (i / 10) + l) + ff_z i l) 260 hq (ff_i10 _ _), nm_r ev (nm_r (nI_1 l) (hJ _ (fun j hj => ?_)))⟩
    unfold ff_put
    rw [if_neg e, if_neg z']
    by_cases g1 : j = 10 * T (3 * (i / 10) + l) + ff_z i l
    · have e2 : ff_add g (10 * T (3 * (i / 10) + l) + ff_z i l) (f i) j = g j + f i := if_pos g1
      rw [e2, g1, pk_us]
    · have e2 : ff_add g (10 * T (3 * (i / 10) + l) + ff_z i l) (f i) j = g j := if_neg g1
      rw [e2, pk_un g1]
      exact h8 j hj
theorem ff_37 {post : St1 → Prop} {J24 : Int32 → (Nat → Int32) → (Nat → Int32) → (Nat → Int32) → (Nat → Int64) → (Nat → Int64) → (Nat → Int64) → (Nat → Int32) → (Nat → Int32) → Prop} {f g : Nat → Nat} {i : Nat} (hG : ff_G T S a3) (h7 : ∀ j, j < 260 → a7 j = nI (f j)) (h8 : ∀ j, j < 260 → a8 j = nI (g j)) (hi : i < 10 * S)
    (hJ : ∀ s, (∀ j, j < 260 → s j = nI (ff_row T f i g 3 j)) → J24 (nI (i + 1)) a1 a2 a3 a4 a5 a6 a7 s) : ∃ k, wX_spreadTable_37 post J24 (nI i) fc fs fb k 0 a1 a2 a3 a4 a5 a6 a7 a8 := by
  have hS := hG.2.1
  refine pk_loop (fun k l s => wX_spreadTable_37 post J24 (nI i) fc fs fb k (nI l) a1 a2 a3 a4 a5 a6 a7 s) (fun l s => ∀ j, j < 260 → s j = nI (ff_row T f i g l j)) 3 0 a8 (by omega) h8 ?_ ?_
  · intro k s h
    exact pk_le 3 3 (fun _ => nm_r (nI_1 i) (hJ s h)) (fun z => absurd z (by omega))
  · intro k l s hl h hw
    have e10 : nI i / 10 = nI (i / 10) := pk_div (d := 10) (by omega) (by omega) (by omega)
    have er : nI i - nI i / 10 * 10 = nI (i % 10) := pk_rem (d := 10) (by omega) (by omega) (by omega)
    have e3 : a3 (3 * (nI i / 10) + nI l).toNatClampNeg = nI (T (3 * (i / 10) + l)) := by
      rw [e10]
      exact ff_g3 hG (Or.inl (by omega)) hl
    refine pk_le 3 l (fun z => absurd z (by omega)) (fun _ => ⟨by decide, pk_in (3 * (i / 10) + l) 78 (by omega) (by rw [e10, ff_i3]), nm_r e3 ⟨by decide, pk_eq l 0 (fun e => ?_) (fun e => ?_)⟩⟩)
    · refine ff_69 (f := f) (g := ff_row T f i g l) hG h7 h hi ?_ hl hw
      rw [er, nI_1]
      unfold ff_z
      rw [if_pos e]
    · refine ff_69 (f := f) (g := ff_row T f i g l) hG h7 h hi ?_ hl hw
      rw [er, ← nI_0, nI_add]
      unfold ff_z
      rw [if_neg e]
theorem ff_120 {post : St1 → Prop} {g : Nat → Nat} (h8 : ∀ j, j < 260 → a8 j = nI (g j))
    (hp : ∀ s, (∀ j, j < 260 → s j = nI (g j)) → post (fc, fs, fb, a1, a2, a3, a4, a5, a6, s, a8)) : ∃ k, wX_spreadTable_120 post fc fs fb k 0 a1 a2 a3 a4 a5 a6 a7 a8 := by
  refine pk_loop (fun k i s => wX_spreadTable_120 post fc fs fb k (nI i) a1 a2 a3 a4 a5 a6 s a8) (fun i s => ∀ j, j < i → s j = nI (g j)) 260 0 a7 (by omega) (fun j hj => absurd hj (by omega)) ?_ ?_
  · intro k s h
    exact pk_le 260 260 (fun _ => hp s h) (fun z => absurd z (by omega))
  · intro k i s hi h hw
    refine pk_le 260 i (fun z => absurd z (by omega)) (fun _ => ⟨pk_in i 260 hi, pk_in i 260 hi, nm_e (nm_r (nI_1 i) (hw _ (fun j hj => ?_)))⟩)
    rw [nI_clamp (show i < 2 ^ 31 by omega)]
    by_cases e : j = i
    · rw [e, pk_us]
      exact h8 i hi
    · rw [pk_un e]
      exact h j (by omega)
theorem ff_24 {post : St1 → Prop} {f : Nat → Nat} (hG : ff_G T S a3) (h7 : ∀ j, j < 260 → a7 j = nI (f j)) (h8 : ∀ j, j < 260 → a8 j = nI 0)
    (hp : ∀ s r, (∀ j, j < 260 → s j = nI (ff_sp T f (10 * S) j)) → post (fc, nI S, fb, a1, a2, a3, a4, a5, a6, s, r)) : ∃ k, wX_spreadTable_24 post fc (nI S) fb k 0 a1 a2 a3 a4 a5 a6 a7 a8 := by
  have hS := hG.2.1
  refine pk_loop (fun k i s => wX_spreadTable_24 post fc (nI S) fb k (nI i) a1 a2 a3 a4 a5 a6 a7 s) (fun i s => ∀ j, j < 260 → s j = nI (ff_sp T f i j)) (10 * S) 0 a8 (by omega) h8 ?_ ?_
  · intro k s h
    exact pk_le (10 * S) (10 * S) (fun _ => ff_120 h (fun r hr => hp r s hr)) (fun z => absurd z (by omega)) (pk_mul 10 S)
  · intro k i s hi h hw
    exact pk_le (10 * S) i (fun z => absurd z (by omega)) (fun _ => ff_37 hG h7 h hi (fun r hr => hw r hr)) (pk_mul 10 S)
theorem ff_spread {post : St1 → Prop} {f : Nat → Nat} (hG : ff_G T S a3) (h7 : ∀ j, j < 260 → a7 j = nI (f j))
    (hp : ∀ s r, (∀ j, j < 260 → s j = nI (ff_sp T f (10 * S) j)) → post (fc, nI S, fb, a1, a2, a3, a4, a5, a6, s, r)) : wpX_spreadTable post (fc, nI S, fb, a1, a2, a3, a4, a5, a6, a7, a8) := by
  refine pk_loop (fun k i s => wX_spreadTable_2 post fc (nI S) fb k (nI i) a1 a2 a3 a4 a5 a6 a7 s) (fun i s => ∀ j, j < i → s j = nI 0) 260 0 a8 (by omega) (fun j hj => absurd hj (by omega)) ?_ ?_
  · intro k s h
    exact pk_le 260 260 (fun _ => ff_24 hG h7 h hp) (fun z => absurd z (by omega))
  · intro k i s hi h hw
    refine pk_le 260 i (fun z => absurd z (by omega)) (fun _ => ⟨pk_in i 260 hi, nm_e (nm_r (nI_1 i) (hw _ (fun j hj => ?_)))⟩)
    rw [nI_clamp (show i < 2 ^ 31 by omega)]
    by_cases e : j = i
    · rw [e, pk_us]
      rfl
    · rw [pk_un e]
      exact h j (by omega)
theorem ff_77 {post : Int32 → St1 → Prop} {f : Nat → Nat} {k : Nat} (hS : S ≤ 25) (hk : k < 10) (h7 : ∀ j, j < 260 → a7 j = nI (f j)) (hp : post (nI (ff_sum (fun s => f (10 * s + k)) S)) (fc, nI S, fb, a1, a2, a3, a4, a5, a6, a7, a8)) : ∃ n, wX_countWith_77 post (nI k) fc (nI S) fb a1 a2 a3 a4 a5 a6 a7 a8 n 0 0 := by
  refine pk_loop (σ := Unit) (fun n i _ => wX_countWith_77 post (nI k) fc (nI S) fb a1 a2 a3 a4 a5 a6 a7 a8 n (nI (ff_sum (fun s => f (10 * s + k)) i)) (nI i)) (fun _ _ => True) S 0 () (by omega) trivial ?_ ?_
  · intro n _ _
    exact pk_le S S (fun _ => hp) (fun z => absurd z (by omega))
  · intro n i _ hi _ hw
    have ev : nI (ff_sum (fun s => f (10 * s + k)) i) + a7 (10 * nI i + nI k).toNatClampNeg = nI (ff_sum (fun s => f (10 * s + k)) (i + 1)) := by
      rw [ff_i10, nI_clamp (show 10 * i + k < 2 ^ 31 by omega), h7 _ (by omega), nI_add]
      rfl
    exact pk_le S i (fun z => absurd z (by omega)) (fun _ => ⟨pk_in (10 * i + k) 260 (by omega) (ff_i10 _ _), nm_r ev (nm_r (nI_1 i) (hw () trivial))⟩)
theorem ff_57 {post : Int32 → St1 → Prop} {n k : Nat} (hG : ff_G T S a3) (hn : n ≤ 9) (hk : k < 10) (h7 : ∀ j, j < 260 → a7 j = nI (ff_Z T S 0 j))
    (hp : ∀ s r, post (nI (ff_sum (fun s => ff_Z T S n (10 * s + k)) S)) (fc, nI S, fb, a1, a2, a3, a4, a5, a6, s, r)) : ∃ q, wX_countWith_57 post (nI n) (nI k) q 0 fc (nI S) fb a1 a2 a3 a4 a5 a6 a7 a8 := by
  refine pk_loop (σ := (Nat → Int32) × (Nat → Int32)) (fun q t s => wX_countWith_57 post (nI n) (nI k) q (nI t) fc (nI S) fb a1 a2 a3 a4 a5 a6 s.1 s.2) (fun t s => ∀ j, j < 260 → s.1 j = nI (ff_Z T S t j)) n 0 (a7, a8) (by omega) h7 ?_ ?_
  · intro q s h
    exact pk_le n n (fun _ => ff_77 hG.2.1 hk h (hp s.1 s.2)) (fun z => absurd z (by omega))
  · intro q t s ht h hw
    exact pk_le n t (fun z => absurd z (by omega)) (fun _ => ff_spread hG h (fun r r2 hr => nm_r (nI_1 t) (hw (r, r2) hr)))
theorem ff_countWith {post : Int32 → St1 → Prop} {n k : Nat} (hb : ¬ fb = 0) (hG : ff_G T S a3) (hn : n ≤ 9) (hk : k < 10)
    (hp : ∀ s r, post (nI (ff_sum (fun s => ff_Z T S n (10 * s + k)) S)) (fc, nI S, fb, a1, a2, a3, a4, a5, a6, s, r)) : wpX_countWith post (fc, nI S, fb, a1, a2, a3, a4, a5, a6, a7, a8) (nI n) (nI k) := by
  unfold wpX_countWith
  refine ff_isLen hn (br_f (by decide) (pk_lt k 0 (fun z => absurd z (by omega)) (fun _ => pk_le k 9 (fun _ => ff_bld hb ?_) (fun z => absurd z (by omega)))))
  refine pk_loop (fun q i s => wX_countWith_28 post (nI n) (nI k) fc (nI S) fb q (nI i) a1 a2 a3 a4 a5 a6 s a8) (fun i s => ∀ j, j < i → s j = nI 0) 260 0 a7 (by omega) (fun j hj => absurd hj (by omega)) ?_ ?_
  · intro q s h
    refine pk_le 260 260 (fun _ => nm_e (ff_57 hG hn hk (fun j hj => ?_) hp)) (fun z => absurd z (by omega))
    by_cases e : j = 0
    · rw [e, pk_us]
      rfl
    · have e2 : ff_Z T S 0 j = 0 := if_neg e
      rw [pk_un e, e2]
      exact h j hj
  · intro q i s hi h hw
    refine pk_le 260 i (fun z => absurd z (by omega)) (fun _ => ⟨pk_in i 260 hi, nm_e (nm_r (nI_1 i) (hw _ (fun j hj => ?_)))⟩)
    rw [nI_clamp (show i < 2 ^ 31 by omega)]
    by_cases e : j = i
    · rw [e, pk_us]
      rfl
    · rw [pk_un e]
      exact h j (by omega)
end
end
section
/-! forbid, permit, the law's own methods -/
section
variable {fc fs fb : Int32} {a1 a2 a3 : Nat → Int32} {a4 a5 a6 : Nat → Int64} {a7 a8 : Nat → Int32}
theorem ff_forbid {post : Int32 → St1 → Prop} {c : Nat} {p : Int32} (hc : c ≤ 6) (hp : ∀ r c' b x1, c' ≤ 6 → (b = 0 ∨ b = fb) → post r (nI c', fs, b, x1, a2, a3, a4, a5, a6, a7, a8)) : wpX_forbid post (nI c, fs, fb, a1, a2, a3, a4, a5, a6, a7, a8) p := by
  unfold wpX_forbid
  exact ff_isPiece (br_t rfl (hp _ c fb a1 hc (Or.inr rfl))) (br_f (by decide) (ff_place hc (br_t (by decide) (pk_eq c 6 (fun _ => hp _ c fb a1 hc (Or.inr rfl)) (fun e => ⟨pk_in c 6 (by omega), nm_e (nm_r (nI_1 c) (hp _ (c + 1) 0 _ (by omega) (Or.inl rfl)))⟩))) (fun j hj => br_f (nI_pos (by omega)) (hp _ c fb a1 hc (Or.inr rfl)))))
theorem ff_permit {post : Int32 → St1 → Prop} {c : Nat} {p : Int32} (hc : c ≤ 6) (hp : ∀ r c' b x1, c' ≤ 6 → (b = 0 ∨ b = fb) → post r (nI c', fs, b, x1, a2, a3, a4, a5, a6, a7, a8)) : wpX_permit post (nI c, fs, fb, a1, a2, a3, a4, a5, a6, a7, a8) p := by
  unfold wpX_permit
  refine ff_place hc (br_f (by decide) (hp _ c fb a1 hc (Or.inr rfl))) (fun j hj => br_t (nI_pos' (by omega)) (nm_r (nI_1 j) ?_))
  exact pk_loop (fun f i s => wX_permit_16 post (nI c) fs fb f (nI i) s a2 a3 a4 a5 a6 a7 a8) (fun i _ => 1 ≤ i) c (j + 1) a1 (by omega) (by omega)
    (fun f s h => pk_le c c (fun _ => nm_r (pk_sub (b := 1) h) (hp _ (c - 1) 0 s (by omega) (Or.inl rfl))) (fun z => absurd z (by omega)))
    (fun f i s hi h hw => pk_le c i (fun z => absurd z (by omega)) (fun _ => ⟨pk_in i 6 (by omega), pk_in (i - 1) 6 (by omega) (pk_sub (b := 1) h), nm_e (nm_r (nI_1 i) (hw _ (by omega)))⟩))
theorem ff_h128 {post : Int32 → St1 → Prop} {J56 : Int64 → Int32 → Int32 → Int32 → Int32 → Int32 → (Nat → Int32) → (Nat → Int32) → (Nat → Int32) → (Nat → Int64) → (Nat → Int64) → (Nat → Int64) → (Nat → Int32) → (Nat → Int32) → Prop} {T : Nat → Nat} {S n i c q : Nat} {x2 : Int32} {x3 : Int64} (hb : ¬ fb = 0) (hG : ff_G T S a3) (hV : ff_V T S a4) (hn : n ≤ 9) (hc : c < 3 ^ n) (hr : ff_R T c n 0 < S)
    (hJ : J56 (lN (q + ff_W T S 1 (ff_R T c n 0))) (nI c) (nI (i + 1)) fc fs fb a1 a2 a3 a4 a5 a6 a7 a8) : wL_holds_128 post J56 (nI n) x2 x3 (lN q) (nI i) (nI c) fc fs fb a1 a2 a3 a4 a5 a6 a7 a8 := by
  have hW : ff_W T S 1 (ff_R T c n 0) ≤ 19683 := ff_Wb9 (by omega)
  unfold wL_holds_128
  exact ff_choices hb hG hV hn hc hr (nm_r (by rw [nI_l (by omega), lN_add]) (nm_r (nI_1 i) hJ))
theorem ff_last {T : Nat → Nat} {S n i : Nat} (hG : ff_G T S a3) (hn : n ≤ 9) (hi : i < ff_W T S n 0) : ¬ nI (ff_U T S n 0 i) ≤ ff_la T S n i := by
  have hb9 := ff_p3b hn
  have A1 := (ff_A n 0 i hi).1
  cases i with
  | zero =>
    show ¬ nI (ff_U T S n 0 0) ≤ -1
    rw [Int32.le_iff_toInt_le, nI_toInt (by omega)]
    have : (-1 : Int32).toInt = -1 := by decide
    omega
  | succ i => exact nI_ge (ff_inc hG hi) (by omega)
theorem ff_56 {post : Int32 → St1 → Prop} {T : Nat → Nat} {S n : Nat} {x2 : Int32} (hb : ¬ fb = 0) (hG : ff_G T S a3) (hV : ff_V T S a4) (hn : n ≤ 8) (hp : post 1 (fc, fs, fb, a1, a2, a3, a4, a5, a6, a7, a8)) : ∃ f, wL_holds_56 post (nI n) x2 (lN (ff_W T S n 0)) f 0 (-1) 0 fc fs fb a1 a2 a3 a4 a5 a6 a7 a8 := by
  have hW : ff_W T S n 0 ≤ 19683 := ff_Wb9 (by omega)
  refine pk_loop (σ := Unit) (fun f i _ => wL_holds_56 post (nI n) x2 (lN (ff_W T S n 0)) f (lN (ff_sum (fun j => ff_W T S 1 (ff_R T (ff_U T S n 0 j) n 0)) i)) (ff_la T S n i) (nI i) fc fs fb a1 a2 a3 a4 a5 a6 a7 a8) (fun _ _ => True) (ff_W T S n 0) 0 () (Nat.zero_le _) trivial ?_ ?_
  · intro f _ _
    exact br_t (by rw [nI_l (by omega)]; exact Int64.le_refl _) (ff_next hb hG hV (by omega) (Nat.le_refl _) (fun z => absurd z (by omega)) (fun _ => br_t rfl (ff_word hb hG hV (by omega) (lN_i _) (Nat.le_refl _) (fun z => absurd z (by omega)) (fun _ => br_t rfl (ff_count hb hV (nI_1 n) (by omega) (br_t (by rw [ff_Qs]) hp))))))
  · intro f i _ hi _ hw
    obtain ⟨A1, A2, A3⟩ := ff_A n 0 i hi
    have go := ff_h128 (post := post) (J56 := wL_holds_56 post (nI n) x2 (lN (ff_W T S n 0)) f) (x2 := x2) (x3 := lN (ff_W T S n 0)) (i := i) (q := ff_sum (fun j => ff_W T S 1 (ff_R T (ff_U T S n 0 j) n 0)) i) hb hG hV (by omega) A1 A2 (hw () trivial)
    exact br_f (by rw [nI_l (by omega), lN_le (by omega) (by omega)]; omega) (ff_next hb hG hV (by omega) (by omega) (fun _ => br_f (ff_last hG (by omega) hi) (ff_allowed hb hG (by omega) A1 A2 (br_t rfl ⟨by decide, br_c (fun _ => ff_rank hb hG hV (by omega) A1 (br_t (by rw [A3]) (ff_word hb hG hV (by omega) rfl (by omega) (fun _ => br_t rfl go) (fun z => absurd z (by omega))))) (fun _ => go)⟩))) (fun z => absurd z (by omega)))
theorem ff_12 {post : Int32 → St1 → Prop} {T : Nat → Nat} {S n : Nat} {x2 : Int32} (hb : ¬ fb = 0) (hG : ff_G T S a3) (hV : ff_V T S a4) (hn : n ≤ 8) (hp : ∀ x7 x8, post 1 (fc, nI S, fb, a1, a2, a3, a4, a5, a6, x7, x8)) : ∃ f, wL_holds_12 post (nI n) x2 (lN (ff_W T S n 0)) f 0 0 fc (nI S) fb a1 a2 a3 a4 a5 a6 a7 a8 := by
  have hW : ff_W T S n 0 ≤ 19683 := ff_Wb9 (by omega)
  refine pk_loop (σ := (Nat → Int32) × (Nat → Int32)) (fun f i s => wL_holds_12 post (nI n) x2 (lN (ff_W T S n 0)) f (nI (ff_sum (fun k => ff_sum (fun s => ff_Z T S n (10 * s + k)) S) i)) (nI i) fc (nI S) fb a1 a2 a3 a4 a5 a6 s.1 s.2) (fun _ _ => True) 10 0 (a7, a8) (by omega) trivial ?_ ?_
  · intro f s _
    refine pk_le 10 10 (fun _ => br_t ?_ (ff_56 hb hG hV hn (hp s.1 s.2))) (fun z => absurd z (by omega))
    rw [ff_tot hG.1 hG.2.1 hG.2.2.1 (by omega), nI_l (by omega)]
  · intro f i s hi _ hw
    exact pk_le 10 i (fun z => absurd z (by omega)) (fun _ => ff_countWith hb hG (by omega) hi (fun r r2 => nm_r (nI_add _ _) (nm_r (nI_1 i) (hw (r, r2) trivial))))
/-- not built, or built well -/
def ff_I (fs fb : Int32) (a3 : Nat → Int32) (a4 : Nat → Int64) : Prop := fb = 0 ∨ ∃ T S, ¬ fb = 0 ∧ fs = nI S ∧ ff_G T S a3 ∧ ff_V T S a4
theorem ff_holds {post : Int32 → St1 → Prop} {c n : Nat} {x2 : Int32} (hc : c ≤ 6) (hI : ff_I fs fb a3 a4) (hn : n ≤ 8) (hp : ∀ s b y2 y3 y4 y7 y8, ff_I s b y3 y4 → post 1 (nI c, s, b, a1, y2, y3, y4, a5, a6, y7, y8)) : wpL_holds post (nI c, fs, fb, a1, a2, a3, a4, a5, a6, a7, a8) (nI n) x2 := by
  unfold wpL_holds
  rcases hI with h0 | ⟨T, S, hb, rfl, hG, hV⟩
  · refine pk_lt n 0 (fun z => absurd z (by omega)) (fun _ => pk_le n 30 (fun _ => ff_build hc h0 (fun S T y2 y3 y4 hG hV => ⟨ff_w0i (by omega), ?_⟩)) (fun z => absurd z (by omega)))
    rw [ff_w0 hV (by omega)]
    exact ff_12 (by decide) hG hV hn (fun y7 y8 => hp _ _ y2 y3 y4 y7 y8 (Or.inr ⟨T, S, by decide, rfl, hG, hV⟩))
  · exact ff_count hb hV rfl (by omega) (ff_12 hb hG hV hn (fun y7 y8 => hp _ _ a2 a3 a4 y7 y8 (Or.inr ⟨T, S, hb, rfl, hG, hV⟩)))
theorem ff_cell {post : Int32 → Prop} {L k : Nat} {xs : Nat → Int32} {y : Int32} (hL : L ≤ 260) (hk : k < 1000) (hy : y = nI k) (hp : ∀ r, post r) : wpL_cell post L xs () y :=
  pk_le L k (fun _ => hp 0) (fun z => ⟨pk_in k L z hy, hp _⟩) rfl hy
theorem ff_piece {post : Int32 → Prop} {y : Int32} (hp : ∀ r, post r) : wpL_piece post () y :=
  nm_e (br_c (fun _ => ⟨by decide, hp _⟩) (fun _ => br_c (fun _ => ⟨by decide, hp _⟩) (fun _ => br_c (fun _ => ⟨by decide, hp _⟩) (fun _ => br_c (fun _ => ⟨by decide, hp _⟩) (fun _ => ⟨by decide, hp _⟩)))))
theorem ff_l63 {post : Int32 → Prop} {L : Nat} {xs : Nat → Int32} {J10 : Int32 → Int32 → Int32 → Int32 → (Nat → Int32) → (Nat → Int32) → (Nat → Int32) → (Nat → Int64) → (Nat → Int64) → (Nat → Int64) → (Nat → Int32) → (Nat → Int32) → Prop} {x3 : Int32} {kc ks j c : Nat} (hc : c ≤ 6) (hI : ff_I fs fb a3 a4)
    (hJ : ∀ s b y2 y3 y4 y7 y8, ff_I s b y3 y4 → J10 (nI (2 * (j + 1))) (nI c) s b a1 y2 y3 y4 a5 a6 y7 y8) : wL_law_63 post L xs J10 (nI (2 * j)) x3 kc ks (nI c) fs fb a1 a2 a3 a4 a5 a6 a7 a8 := by
  have e2 : nI (2 * j) + 2 = nI (2 * (j + 1)) := by
    rw [show (2 : Int32) = nI 2 from rfl, nI_add]
    rfl
  unfold wL_law_63
  obtain ⟨m, hm, em⟩ := pk_andE (x3 >>> ((6 : Int32) &&& 31)) (m := 15) 4 (by decide)
  rw [em]
  have er : nI m - nI m / 9 * 9 = nI (m % 9) := pk_rem (d := 9) (by omega) (by omega) (by omega)
  rw [er]
  exact br_c (fun _ => ⟨by decide, ff_holds hc hI (by omega) (fun s b y2 y3 y4 y7 y8 h => br_f (by decide) (nm_r e2 (hJ s b y2 y3 y4 y7 y8 h)))⟩) (fun _ => nm_r e2 (hJ fs fb a2 a3 a4 a7 a8 hI))
end
theorem ff_keep {fs fb b : Int32} {a3 : Nat → Int32} {a4 : Nat → Int64} (hI : ff_I fs fb a3 a4) (h : b = 0 ∨ b = fb) : ff_I fs b a3 a4 := by
  rcases h with h | h
  · exact Or.inl h
  · rw [h]
    exact hI
theorem ff_main (xs : Nat → Int32) (L : Nat) (hL : L ≤ 260) (kc ks : Nat) : ∃ f, wL_law_10 (fun r => r = 1) L xs kc ks f 0 0 0 0 (fun _ => 0) (fun _ => 0) (fun _ => 0) (fun _ => 0) (fun _ => 0) (fun _ => 0) (fun _ => 0) (fun _ => 0) := by
  refine pk_loop (σ := Nat × Int32 × Int32 × (Nat → Int32) × (Nat → Int32) × (Nat → Int32) × (Nat → Int64) × (Nat → Int64) × (Nat → Int64) × (Nat → Int32) × (Nat → Int32))
    (fun f j s => wL_law_10 (fun r => r = 1) L xs kc ks f (nI (2 * j)) (nI s.1) s.2.1 s.2.2.1 s.2.2.2.1 s.2.2.2.2.1 s.2.2.2.2.2.1 s.2.2.2.2.2.2.1 s.2.2.2.2.2.2.2.1 s.2.2.2.2.2.2.2.2.1 s.2.2.2.2.2.2.2.2.2.1 s.2.2.2.2.2.2.2.2.2.2)
    (fun j s => s.1 ≤ 6 ∧ ff_I s.2.1 s.2.2.1 s.2.2.2.2.2.1 s.2.2.2.2.2.2.1) ((L + 1) / 2) 0 (0, 0, 0, (fun _ => 0), (fun _ => 0), (fun _ => 0), (fun _ => 0), (fun _ => 0), (fun _ => 0), (fun _ => 0), (fun _ => 0)) (Nat.zero_le _) ⟨Nat.zero_le _, Or.inl rfl⟩ ?_ ?_
  · intro f s h
    exact pk_le L (2 * ((L + 1) / 2)) (fun _ => ff_holds (n := 5) h.1 h.2 (by omega) (fun s b y2 y3 y4 y7 y8 _ => rfl)) (fun z => absurd z (by omega))
  · intro f j s hj h hw
    obtain ⟨c, fs, fb, a1, a2, a3, a4, a5, a6, a7, a8⟩ := s
    obtain ⟨hc, hI⟩ := h
    refine pk_le L (2 * j) (fun z => absurd z (by omega)) (fun _ => ff_cell (k := 2 * j) hL (by omega) rfl (fun r => ff_cell (k := 2 * j + 1) hL (by omega) (nI_1 _) (fun r2 => ff_piece (fun r3 => br_c (fun _ => ff_permit hc (fun r4 c' b x1 hc' hb' => ff_l63 hc' (ff_keep hI hb') ?_)) (fun _ => ff_forbid hc (fun r4 c' b x1 hc' hb' => ff_l63 hc' (ff_keep hI hb') ?_))))))
    · exact fun s b' y2 y3 y4 y7 y8 h => hw (c', s, b', x1, y2, y3, y4, a5, a6, y7, y8) ⟨hc', h⟩
    · exact fun s b' y2 y3 y4 y7 y8 h => hw (c', s, b', x1, y2, y3, y4, a5, a6, y7, y8) ⟨hc', h⟩
end
section
theorem i_vc (xs : Nat → Int32) (L : Nat) (hL : L ≤ 260) : wpL_law (fun r => r = 1) L xs := by
  refine ⟨8, 1488, by decide, by decide, ?_⟩
  unfold wpX_init
  exact ⟨by decide, by decide, by decide, by decide, by decide, by decide, by decide, by decide, by decide, by decide, by decide, by decide, by decide, by decide, by decide, by decide, ff_main xs L hL 9 1499⟩
end
