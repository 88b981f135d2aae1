section
/-- the sum of the first n values -/
def ov_sm (f : Nat → Nat) : Nat → Nat
  | 0 => 0
  | n + 1 => ov_sm f n + f n
theorem ov_sm_congr {f g : Nat → Nat} : ∀ n, (∀ i, i < n → f i = g i) → ov_sm f n = ov_sm g n := by
  intro n
  induction n with
  | zero => intro _; rfl
  | succ n ih =>
    intro h
    show ov_sm f n + f n = ov_sm g n + g n
    rw [ih (fun i hi => h i (by omega)), h n (by omega)]
theorem ov_sm_zero {f : Nat → Nat} : ∀ n, (∀ i, i < n → f i = 0) → ov_sm f n = 0 := by
  intro n
  induction n with
  | zero => intro _; rfl
  | succ n ih =>
    intro h
    show ov_sm f n + f n = 0
    rw [ih (fun i hi => h i (by omega)), h n (by omega)]
theorem ov_sm_add (f g : Nat → Nat) : ∀ n, ov_sm (fun i => f i + g i) n = ov_sm f n + ov_sm g n := by
  intro n
  induction n with
  | zero => rfl
  | succ n ih =>
    show ov_sm (fun i => f i + g i) n + (f n + g n) = (ov_sm f n + f n) + (ov_sm g n + g n)
    rw [ih]; omega
theorem ov_sm_ge {f : Nat → Nat} : ∀ n k, k < n → f k ≤ ov_sm f n := by
  intro n
  induction n with
  | zero => intro k hk; omega
  | succ n ih =>
    intro k hk
    show f k ≤ ov_sm f n + f n
    by_cases e : k = n
    · rw [e]; omega
    · have := ih k (by omega); omega
theorem ov_sm_ge2 {f : Nat → Nat} : ∀ n j k, j < k → k < n → f j + f k ≤ ov_sm f n := by
  intro n
  induction n with
  | zero => intro j k _ hk; omega
  | succ n ih =>
    intro j k hj hk
    show f j + f k ≤ ov_sm f n + f n
    by_cases e : k = n
    · rw [e]
      have := ov_sm_ge (f := f) n j (by omega)
      omega
    · have := ih j k hj (by omega); omega
theorem ov_sm_pos {f : Nat → Nat} : ∀ n, 0 < ov_sm f n → ∃ k, k < n ∧ 0 < f k := by
  intro n
  induction n with
  | zero => intro h; exact absurd h (by show ¬ 0 < 0; omega)
  | succ n ih =>
    intro h
    have h' : 0 < ov_sm f n + f n := h
    by_cases e : 0 < f n
    · exact ⟨n, by omega, e⟩
    · obtain ⟨k, hk, hf⟩ := ih (by omega)
      exact ⟨k, by omega, hf⟩
theorem ov_sm_le {f : Nat → Nat} {b : Nat} : ∀ n, (∀ i, i < n → f i ≤ b) → ov_sm f n ≤ n * b := by
  intro n
  induction n with
  | zero => intro _; exact Nat.zero_le _
  | succ n ih =>
    intro h
    have h1 := ih (fun i hi => h i (by omega))
    have h2 := h n (by omega)
    show ov_sm f n + f n ≤ (n + 1) * b
    rw [Nat.succ_mul]; omega
theorem ov_sm3 (f : Nat → Nat) : ov_sm f 3 = f 0 + f 1 + f 2 := by
  show 0 + f 0 + f 1 + f 2 = f 0 + f 1 + f 2
  omega
theorem ov_sm2 (f : Nat → Nat) : ov_sm f 2 = f 0 + f 1 := by
  show 0 + f 0 + f 1 = f 0 + f 1
  omega
/-- bit t of a set -/
def ov_bit (s t : Nat) : Nat := s / 2 ^ t % 2
theorem ov_bit2 (s t : Nat) : ov_bit s t < 2 := Nat.mod_lt _ (by decide)
theorem ov_bitI : ∀ s, s < 8 → ∀ t, t < 3 → ((nI s >>> (nI t &&& 31)) &&& 1) = nI (ov_bit s t) := by decide +kernel
/-- a table moved by a conversion: k = 0 barred, k + 1 the cost k -/
def ov_gt (k : Nat) (T : Nat → Nat) (c : Nat) : Nat := if 1 ≤ k ∧ k - 1 ≤ c then T (c - (k - 1)) else 0
theorem ov_gt0 (T : Nat → Nat) (c : Nat) : ov_gt 0 T c = 0 := if_neg (by omega)
theorem ov_gtS (x : Nat) (T : Nat → Nat) (c : Nat) : ov_gt (x + 1) T c = if x ≤ c then T (c - x) else 0 := by
  unfold ov_gt
  by_cases h : x ≤ c
  · rw [if_pos h, if_pos (by omega)]; rfl
  · rw [if_neg h, if_neg (by omega)]
/-- the convolution, its first n terms -/
def ov_cv (L R : Nat → Nat) (j n : Nat) : Nat := ov_sm (fun a => if a ≤ j then L a * R (j - a) else 0) n
theorem ov_cv_one {L R : Nat → Nat} {g j : Nat} (hR : ∀ c, c ≤ j → R c = if c + 1 = g then 1 else 0) : ∀ n, ov_cv L R j n = if 1 ≤ g ∧ g - 1 ≤ j ∧ j - (g - 1) < n then L (j - (g - 1)) else 0 := by
  intro n
  induction n with
  | zero => exact (if_neg (by omega)).symm
  | succ n ih =>
    show ov_cv L R j n + (if n ≤ j then L n * R (j - n) else 0) = _
    rw [ih]
    by_cases hn : n ≤ j
    · rw [if_pos hn, hR _ (by omega)]
      by_cases hg : j - n + 1 = g
      · rw [if_pos hg, if_neg (by omega), if_pos (by omega), show j - (g - 1) = n by omega, Nat.mul_one, Nat.zero_add]
      · rw [if_neg hg, Nat.mul_zero, Nat.add_zero]
        by_cases h : 1 ≤ g ∧ g - 1 ≤ j ∧ j - (g - 1) < n
        · rw [if_pos h, if_pos (by omega)]
        · rw [if_neg h, if_neg (by omega)]
    · rw [if_neg hn, Nat.add_zero]
      by_cases h : 1 ≤ g ∧ g - 1 ≤ j ∧ j - (g - 1) < n
      · rw [if_pos h, if_pos (by omega)]
      · rw [if_neg h, if_neg (by omega)]
theorem ov_nIz {a b : Nat} (h : nI b = 0) : nI (a + b) = nI a := by
  rw [← nI_add, h, Int32.add_zero]
theorem ov_nImz {a b : Nat} (h : nI a = 0) : nI (a * b) = 0 := by
  rw [← pk_mul, h, Int32.zero_mul]
theorem ov_3 : (3 : Int32) = nI 3 := rfl
theorem ov_ix (k t : Nat) : (3 * nI k) + nI t = nI (3 * k + t) := by rw [ov_3, pk_mul, nI_add]
theorem ov_o (k t : Nat) : ((3 * nI k) + nI t) * 128 = nI ((3 * k + t) * 128) := by
  rw [ov_ix, show (128 : Int32) = nI 128 from rfl, pk_mul]
theorem ov_d9 {s : Nat} (h : s < 27) : nI s / 9 = nI (s / 9) := pk_div (d := 9) (by omega) (by omega) (by omega)
theorem ov_d3 {s : Nat} (h : s < 27) : nI s / 3 = nI (s / 3) := pk_div (d := 3) (by omega) (by omega) (by omega)
theorem ov_r3 {s : Nat} (h : s < 27) : nI s - nI s / 3 * 3 = nI (s % 3) := pk_rem (d := 3) (by omega) (by omega) (by omega)
theorem ov_dr {s : Nat} (h : s < 27) : nI s / 3 - nI s / 3 / 3 * 3 = nI (s / 3 % 3) := by
  rw [ov_d3 h]
  exact ov_r3 (by omega)
/-- a conversion's cost: nI k - 1 -/
theorem ov_cn : nI 0 - 1 < 0 := by decide
end
section
/-- node 0: a literal -/
def ov_t0 (st : Nat) (lit : Nat → Nat) (t c : Nat) : Nat := if ov_bit st t = 1 ∧ c = lit t then 1 else 0
/-- node 1: a use of the variable, of type u -/
def ov_t1 (u t c : Nat) : Nat := if t = u ∧ c = 0 then 1 else 0
/-- one way: signature i, the sides' types t and u -/
def ov_w (e : Nat → Nat → Nat) (sg sk lit : Nat → Nat) (st i t u c : Nat) : Nat :=
  if ov_bit st t = 1 ∧ 1 ≤ e t (sg i / 9) ∧ 1 ≤ e u (sg i / 3 % 3) ∧ c = lit t + (e t (sg i / 9) - 1) + (e u (sg i / 3 % 3) - 1) + sk i then 1 else 0
/-- the ways through signature i -/
def ov_ws (e : Nat → Nat → Nat) (sg sk lit : Nat → Nat) (st i u c : Nat) : Nat := ov_sm (fun t => ov_w e sg sk lit st i t u c) 3
/-- node 2's table at type ty -/
def ov_t2 (e : Nat → Nat → Nat) (sg sk lit : Nat → Nat) (st u ty c : Nat) : Nat := ov_sm (fun i => if sg i % 3 = ty then ov_ws e sg sk lit st i u c else 0) 2
def ov_tt (e : Nat → Nat → Nat) (sg sk lit : Nat → Nat) (st u c : Nat) : Nat := ov_sm (fun ty => ov_t2 e sg sk lit st u ty c) 3
/-- the total of the first n pairs -/
def ov_tot (e : Nat → Nat → Nat) (sg sk lit : Nat → Nat) (st kn c n : Nat) : Nat := ov_sm (fun p => if p % 3 = 0 ∧ ov_bit kn (p / 3) = 1 then ov_tt e sg sk lit st (p / 3) c else 0) n
theorem ov_gt_0 (st : Nat) (lit : Nat → Nat) (g t c : Nat) : ov_gt g (ov_t0 st lit t) c = if ov_bit st t = 1 ∧ 1 ≤ g ∧ c = lit t + (g - 1) then 1 else 0 := by
  unfold ov_gt ov_t0
  by_cases h1 : 1 ≤ g ∧ g - 1 ≤ c
  · rw [if_pos h1]
    by_cases h2 : ov_bit st t = 1 ∧ c - (g - 1) = lit t
    · rw [if_pos h2, if_pos (by omega)]
    · rw [if_neg h2, if_neg (by omega)]
  · rw [if_neg h1, if_neg (by omega)]
theorem ov_gt_1 (u g t c : Nat) : ov_gt g (ov_t1 u t) c = if t = u ∧ c + 1 = g then 1 else 0 := by
  unfold ov_gt ov_t1
  by_cases h1 : 1 ≤ g ∧ g - 1 ≤ c
  · rw [if_pos h1]
    by_cases h2 : t = u ∧ c - (g - 1) = 0
    · rw [if_pos h2, if_pos (by omega)]
    · rw [if_neg h2, if_neg (by omega)]
  · rw [if_neg h1, if_neg (by omega)]
theorem ov_R (e : Nat → Nat → Nat) {u : Nat} (hu : u < 3) (r c : Nat) : ov_sm (fun t => ov_gt (e t r) (ov_t1 u t) c) 3 = if c + 1 = e u r then 1 else 0 := by
  rw [ov_sm3, ov_gt_1, ov_gt_1, ov_gt_1]
  have h : u = 0 ∨ u = 1 ∨ u = 2 := by omega
  rcases h with h | h | h
  · subst h
    rw [if_neg (c := 1 = 0 ∧ _) (by omega), if_neg (c := 2 = 0 ∧ _) (by omega)]
    by_cases h : c + 1 = e 0 r
    · rw [if_pos h, if_pos ⟨rfl, h⟩]
    · rw [if_neg h, if_neg (fun z => h z.2)]
  · subst h
    rw [if_neg (c := 0 = 1 ∧ _) (by omega), if_neg (c := 2 = 1 ∧ _) (by omega)]
    by_cases h : c + 1 = e 1 r
    · rw [if_pos h, if_pos ⟨rfl, h⟩]
    · rw [if_neg h, if_neg (fun z => h z.2)]
  · subst h
    rw [if_neg (c := 0 = 2 ∧ _) (by omega), if_neg (c := 1 = 2 ∧ _) (by omega)]
    by_cases h : c + 1 = e 2 r
    · rw [if_pos h, if_pos ⟨rfl, h⟩]
    · rw [if_neg h, if_neg (fun z => h z.2)]
/-- what joining the sides adds is the number of ways through the signature -/
theorem ov_joined (e : Nat → Nat → Nat) (sg sk lit : Nat → Nat) (st i : Nat) {u j : Nat} (hu : u < 3) (hj : j < 128) :
    (if sk i ≤ j then ov_cv (fun c => ov_sm (fun t => ov_gt (e t (sg i / 9)) (ov_t0 st lit t) c) 3) (fun c => ov_sm (fun t => ov_gt (e t (sg i / 3 % 3)) (ov_t1 u t) c) 3) (j - sk i) (128 - sk i) else 0) = ov_ws e sg sk lit st i u j := by
  unfold ov_ws
  rw [ov_sm3]
  by_cases h1 : sk i ≤ j
  · rw [if_pos h1, ov_cv_one (g := e u (sg i / 3 % 3)) (fun c _ => ov_R e hu _ c)]
    by_cases h2 : 1 ≤ e u (sg i / 3 % 3) ∧ e u (sg i / 3 % 3) - 1 ≤ j - sk i ∧ j - sk i - (e u (sg i / 3 % 3) - 1) < 128 - sk i
    · rw [if_pos h2]
      show ov_sm (fun t => ov_gt (e t (sg i / 9)) (ov_t0 st lit t) (j - sk i - (e u (sg i / 3 % 3) - 1))) 3 = _
      rw [ov_sm3]
      have hw : ∀ t, ov_gt (e t (sg i / 9)) (ov_t0 st lit t) (j - sk i - (e u (sg i / 3 % 3) - 1)) = ov_w e sg sk lit st i t u j := by
        intro t
        rw [ov_gt_0]
        unfold ov_w
        by_cases h3 : ov_bit st t = 1 ∧ 1 ≤ e t (sg i / 9) ∧ j - sk i - (e u (sg i / 3 % 3) - 1) = lit t + (e t (sg i / 9) - 1)
        · rw [if_pos h3, if_pos (by omega)]
        · rw [if_neg h3, if_neg (by omega)]
      rw [hw, hw, hw]
    · rw [if_neg h2]
      have hw : ∀ t, ov_w e sg sk lit st i t u j = 0 := by
        intro t
        unfold ov_w
        exact if_neg (by omega)
      rw [hw, hw, hw]
  · rw [if_neg h1]
    have hw : ∀ t, ov_w e sg sk lit st i t u j = 0 := by
      intro t
      unfold ov_w
      exact if_neg (by omega)
    rw [hw, hw, hw]
theorem ov_pick (X Y a b : Nat) (ha : a < 3) (hb : b < 3) : ((if a = 0 then X else 0) + (if b = 0 then Y else 0)) + ((if a = 1 then X else 0) + (if b = 1 then Y else 0)) + ((if a = 2 then X else 0) + (if b = 2 then Y else 0)) = X + Y := by
  have h : a = 0 ∨ a = 1 ∨ a = 2 := by omega
  have h' : b = 0 ∨ b = 1 ∨ b = 2 := by omega
  rcases h with h | h | h <;> rcases h' with h' | h' | h' <;> subst h <;> subst h' <;> simp <;> omega
theorem ov_tt_eq (e : Nat → Nat → Nat) (sg sk lit : Nat → Nat) (st u c : Nat) : ov_tt e sg sk lit st u c = ov_ws e sg sk lit st 0 u c + ov_ws e sg sk lit st 1 u c := by
  unfold ov_tt
  rw [ov_sm3]
  unfold ov_t2
  rw [ov_sm2, ov_sm2, ov_sm2]
  exact ov_pick _ _ _ _ (Nat.mod_lt _ (by decide)) (Nat.mod_lt _ (by decide))
/-- the price (plus one) of way q; 0: not allowed -/
def ov_pv (e : Nat → Nat → Nat) (sg sk lit : Nat → Nat) (st kn q : Nat) : Nat :=
  if ov_bit st (q % 9 / 3) = 1 ∧ ov_bit kn (q % 3) = 1 ∧ 1 ≤ e (q % 9 / 3) (sg (q / 9) / 9) ∧ 1 ≤ e (q % 3) (sg (q / 9) / 3 % 3) then 1 + (lit (q % 9 / 3) + (e (q % 9 / 3) (sg (q / 9) / 9) - 1) + (e (q % 3) (sg (q / 9) / 3 % 3) - 1) + sk (q / 9)) else 0
theorem ov_pv_at (e : Nat → Nat → Nat) (sg sk lit : Nat → Nat) (st kn : Nat) {q i t u : Nat} (hq : q = 9 * i + 3 * t + u) (ht : t < 3) (hu : u < 3) : ov_pv e sg sk lit st kn q = if ov_bit st t = 1 ∧ ov_bit kn u = 1 ∧ 1 ≤ e t (sg i / 9) ∧ 1 ≤ e u (sg i / 3 % 3) then 1 + (lit t + (e t (sg i / 9) - 1) + (e u (sg i / 3 % 3) - 1) + sk i) else 0 := by
  unfold ov_pv
  rw [show q / 9 = i by omega, show q % 9 / 3 = t by omega, show q % 3 = u by omega]
theorem ov_pv_w (e : Nat → Nat → Nat) (sg sk lit : Nat → Nat) (st kn c : Nat) {q : Nat} (i t u : Nat) (hq : q = 9 * i + 3 * t + u) (ht : t < 3) (hu : u < 3) : (if ov_pv e sg sk lit st kn q = c + 1 then 1 else 0) = if ov_bit kn u = 1 then ov_w e sg sk lit st i t u c else 0 := by
  rw [ov_pv_at e sg sk lit st kn hq ht hu]
  unfold ov_w
  by_cases hk : ov_bit kn u = 1
  · rw [if_pos hk]
    by_cases h : ov_bit st t = 1 ∧ 1 ≤ e t (sg i / 9) ∧ 1 ≤ e u (sg i / 3 % 3) ∧ c = lit t + (e t (sg i / 9) - 1) + (e u (sg i / 3 % 3) - 1) + sk i
    · rw [if_pos h, if_pos (c := ov_bit st t = 1 ∧ _) ⟨h.1, hk, h.2.1, h.2.2.1⟩, if_pos (by omega)]
    · rw [if_neg h]
      by_cases h2 : ov_bit st t = 1 ∧ ov_bit kn u = 1 ∧ 1 ≤ e t (sg i / 9) ∧ 1 ≤ e u (sg i / 3 % 3)
      · rw [if_pos h2]
        exact if_neg (fun z => h ⟨h2.1, h2.2.2.1, h2.2.2.2, by omega⟩)
      · rw [if_neg h2]
        exact if_neg (by omega)
  · rw [if_neg hk, if_neg (c := ov_bit st t = 1 ∧ _) (fun z => hk z.2.1)]
    exact if_neg (by omega)
/-- how many of the first n ways have the price c -/
def ov_cnt (pv : Nat → Nat) (c n : Nat) : Nat := ov_sm (fun q => if pv q = c + 1 then 1 else 0) n
theorem ov_sm9 (f : Nat → Nat) : ov_sm f 9 = f 0 + f 1 + f 2 + f 3 + f 4 + f 5 + f 6 + f 7 + f 8 := by
  show 0 + f 0 + f 1 + f 2 + f 3 + f 4 + f 5 + f 6 + f 7 + f 8 = _
  omega
theorem ov_sm18 (f : Nat → Nat) : ov_sm f 18 = (f 0 + f 1 + f 2 + f 3 + f 4 + f 5 + f 6 + f 7 + f 8) + (f 9 + f 10 + f 11 + f 12 + f 13 + f 14 + f 15 + f 16 + f 17) := by
  show 0 + f 0 + f 1 + f 2 + f 3 + f 4 + f 5 + f 6 + f 7 + f 8 + f 9 + f 10 + f 11 + f 12 + f 13 + f 14 + f 15 + f 16 + f 17 = _
  omega
theorem ov_if3 (b x y z x' y' z' : Nat) : (if b = 1 then x + y + z + (x' + y' + z') else 0) = ((if b = 1 then x else 0) + (if b = 1 then y else 0) + (if b = 1 then z else 0)) + ((if b = 1 then x' else 0) + (if b = 1 then y' else 0) + (if b = 1 then z' else 0)) := by
  by_cases h : b = 1
  · simp only [if_pos h]
  · simp only [if_neg h]
theorem ov_tot9 (e : Nat → Nat → Nat) (sg sk lit : Nat → Nat) (st kn c : Nat) : ov_tot e sg sk lit st kn c 9 = (if ov_bit kn 0 = 1 then ov_tt e sg sk lit st 0 c else 0) + (if ov_bit kn 1 = 1 then ov_tt e sg sk lit st 1 c else 0) + (if ov_bit kn 2 = 1 then ov_tt e sg sk lit st 2 c else 0) := by
  unfold ov_tot
  rw [ov_sm9]
  simp
theorem ov_tot_cnt (e : Nat → Nat → Nat) (sg sk lit : Nat → Nat) (st kn c : Nat) : ov_tot e sg sk lit st kn c 9 = ov_cnt (ov_pv e sg sk lit st kn) c 18 := by
  rw [ov_tot9, ov_tt_eq, ov_tt_eq, ov_tt_eq]
  unfold ov_ws
  rw [ov_sm3, ov_sm3, ov_sm3, ov_sm3, ov_sm3, ov_sm3, ov_if3, ov_if3, ov_if3]
  unfold ov_cnt
  rw [ov_sm18]
  rw [ov_pv_w e sg sk lit st kn c 0 0 0 rfl (by omega) (by omega), ov_pv_w e sg sk lit st kn c 0 0 1 rfl (by omega) (by omega), ov_pv_w e sg sk lit st kn c 0 0 2 rfl (by omega) (by omega)]
  rw [ov_pv_w e sg sk lit st kn c 0 1 0 rfl (by omega) (by omega), ov_pv_w e sg sk lit st kn c 0 1 1 rfl (by omega) (by omega), ov_pv_w e sg sk lit st kn c 0 1 2 rfl (by omega) (by omega)]
  rw [ov_pv_w e sg sk lit st kn c 0 2 0 rfl (by omega) (by omega), ov_pv_w e sg sk lit st kn c 0 2 1 rfl (by omega) (by omega), ov_pv_w e sg sk lit st kn c 0 2 2 rfl (by omega) (by omega)]
  rw [ov_pv_w e sg sk lit st kn c 1 0 0 rfl (by omega) (by omega), ov_pv_w e sg sk lit st kn c 1 0 1 rfl (by omega) (by omega), ov_pv_w e sg sk lit st kn c 1 0 2 rfl (by omega) (by omega)]
  rw [ov_pv_w e sg sk lit st kn c 1 1 0 rfl (by omega) (by omega), ov_pv_w e sg sk lit st kn c 1 1 1 rfl (by omega) (by omega), ov_pv_w e sg sk lit st kn c 1 1 2 rfl (by omega) (by omega)]
  rw [ov_pv_w e sg sk lit st kn c 1 2 0 rfl (by omega) (by omega), ov_pv_w e sg sk lit st kn c 1 2 1 rfl (by omega) (by omega), ov_pv_w e sg sk lit st kn c 1 2 2 rfl (by omega) (by omega)]
  ac_rfl
theorem ov_one (x : Nat) : ∀ n, ov_sm (fun c => if x = c + 1 then 1 else 0) n = if 1 ≤ x ∧ x ≤ n then 1 else 0 := by
  intro n
  induction n with
  | zero => exact (if_neg (by omega)).symm
  | succ n ih =>
    show ov_sm (fun c => if x = c + 1 then 1 else 0) n + (if x = n + 1 then 1 else 0) = _
    rw [ih]
    by_cases h : x = n + 1
    · rw [if_pos h, if_neg (by omega), if_pos (by omega)]
    · rw [if_neg h]
      by_cases h2 : 1 ≤ x ∧ x ≤ n
      · rw [if_pos h2, if_pos (by omega)]
      · rw [if_neg h2, if_neg (by omega)]
/-- all prices together are all ways -/
theorem ov_all (pv : Nat → Nat) : ∀ n, (∀ q, q < n → pv q ≤ 128) → ov_sm (fun c => ov_cnt pv c n) 128 = ov_sm (fun q => if 0 < pv q then 1 else 0) n := by
  intro n
  induction n with
  | zero => intro _; exact ov_sm_zero _ (fun _ _ => rfl)
  | succ n ih =>
    intro h
    show ov_sm (fun c => ov_cnt pv c n + (if pv n = c + 1 then 1 else 0)) 128 = ov_sm (fun q => if 0 < pv q then 1 else 0) n + (if 0 < pv n then 1 else 0)
    rw [ov_sm_add (fun c => ov_cnt pv c n) (fun c => if pv n = c + 1 then 1 else 0), ih (fun q hq => h q (by omega)), ov_one]
    have hn := h n (by omega)
    by_cases hp : 0 < pv n
    · rw [if_pos hp, if_pos (by omega)]
    · rw [if_neg hp, if_neg (by omega)]
theorem ov_cnt_le (pv : Nat → Nat) (c n : Nat) : ov_cnt pv c n ≤ n := by
  have h := ov_sm_le (f := fun q => if pv q = c + 1 then 1 else 0) (b := 1) n (fun q _ => by
    by_cases h : pv q = c + 1
    · simp only [if_pos h]; omega
    · simp only [if_neg h]; omega)
  unfold ov_cnt
  omega
theorem ov_pv_le {e : Nat → Nat → Nat} {sg sk lit : Nat → Nat} (st kn : Nat) (he : ∀ t s, t < 3 → s < 3 → e t s ≤ 10) (hg : ∀ i, i < 2 → sg i < 27) (hk : ∀ i, i < 2 → sk i ≤ 9) (hl : ∀ t, t < 3 → lit t ≤ 9) {q : Nat} (hq : q < 18) : ov_pv e sg sk lit st kn q ≤ 128 := by
  unfold ov_pv
  have h1 := hg (q / 9) (by omega)
  have h2 := hk (q / 9) (by omega)
  have h3 := hl (q % 9 / 3) (by omega)
  have h4 := he (q % 9 / 3) (sg (q / 9) / 9) (by omega) (by omega)
  have h5 := he (q % 3) (sg (q / 9) / 3 % 3) (by omega) (by omega)
  by_cases h : ov_bit st (q % 9 / 3) = 1 ∧ ov_bit kn (q % 3) = 1 ∧ 1 ≤ e (q % 9 / 3) (sg (q / 9) / 9) ∧ 1 ≤ e (q % 3) (sg (q / 9) / 3 % 3)
  · rw [if_pos h]; omega
  · rw [if_neg h]; omega
/-- a way out of node 2's table -/
theorem ov_t2_way {e : Nat → Nat → Nat} {sg sk lit : Nat → Nat} {st kn u ty c : Nat} (hu : u < 3) (hk : ov_bit kn u = 1) (h : 0 < ov_t2 e sg sk lit st u ty c) : ∃ q, q < 18 ∧ ov_pv e sg sk lit st kn q = c + 1 ∧ sg (q / 9) % 3 = ty := by
  obtain ⟨i, hi, h1⟩ := ov_sm_pos 2 h
  have h2 : 0 < (if sg i % 3 = ty then ov_ws e sg sk lit st i u c else 0) := h1
  by_cases hty : sg i % 3 = ty
  · rw [if_pos hty] at h2
    obtain ⟨t, ht, h3⟩ := ov_sm_pos 3 h2
    have h4 : 0 < ov_w e sg sk lit st i t u c := h3
    have h5 := ov_pv_w e sg sk lit st kn c i t u rfl ht hu
    rw [if_pos hk] at h5
    refine ⟨9 * i + 3 * t + u, by omega, ?_, ?_⟩
    · by_cases h6 : ov_pv e sg sk lit st kn (9 * i + 3 * t + u) = c + 1
      · exact h6
      · rw [if_neg h6] at h5
        omega
    · rw [show (9 * i + 3 * t + u) / 9 = i by omega, hty]
  · rw [if_neg hty] at h2
    omega
theorem ov_tot_pos {e : Nat → Nat → Nat} {sg sk lit : Nat → Nat} {st kn c : Nat} (h : 0 < ov_tot e sg sk lit st kn c 9) : ∃ u ty, u < 3 ∧ ty < 3 ∧ ov_bit kn u = 1 ∧ 0 < ov_t2 e sg sk lit st u ty c := by
  obtain ⟨p, hp, h1⟩ := ov_sm_pos 9 h
  have h2 : 0 < (if p % 3 = 0 ∧ ov_bit kn (p / 3) = 1 then ov_tt e sg sk lit st (p / 3) c else 0) := h1
  by_cases hc : p % 3 = 0 ∧ ov_bit kn (p / 3) = 1
  · rw [if_pos hc] at h2
    obtain ⟨ty, hty, h3⟩ := ov_sm_pos 3 h2
    exact ⟨p / 3, ty, by omega, hty, hc.2, h3⟩
  · rw [if_neg hc] at h2
    omega
end
section
/-- what the law has counted after n ways -/
def ov_P (pv ty : Nat → Nat) (n : Nat) (x13 x14 x15 x16 : Int32) : Prop :=
  x13 = nI (ov_sm (fun q => if 0 < pv q then 1 else 0) n) ∧
  ((x14 = -3 ∧ x15 = 0 ∧ x16 = -4 ∧ ∀ q, q < n → pv q = 0) ∨
   ∃ m, m < 128 ∧ x14 = nI m ∧ x15 = nI (ov_cnt pv m n) ∧ (∃ q, q < n ∧ pv q = m + 1 ∧ x16 = nI (ty q)) ∧ ∀ q, q < n → 0 < pv q → m + 1 ≤ pv q)
theorem ov_P0 (pv ty : Nat → Nat) : ov_P pv ty 0 0 (-3) 0 (-4) := ⟨rfl, Or.inl ⟨rfl, rfl, rfl, fun q h => absurd h (by omega)⟩⟩
theorem ov_cntS (pv : Nat → Nat) (c n : Nat) : ov_cnt pv c (n + 1) = ov_cnt pv c n + (if pv n = c + 1 then 1 else 0) := rfl
theorem ov_allS (pv : Nat → Nat) (n : Nat) : ov_sm (fun q => if 0 < pv q then 1 else 0) (n + 1) = ov_sm (fun q => if 0 < pv q then 1 else 0) n + (if 0 < pv n then 1 else 0) := rfl
theorem ov_m3 {m : Nat} (h : m < 128) : ¬ nI m = -3 := by
  intro z
  have h1 : ¬ nI m < 0 := nI_pos (by omega)
  rw [z] at h1
  exact h1 (by decide)
/-- a way that isn't allowed -/
theorem ov_Pskip {pv ty : Nat → Nat} {n : Nat} {x13 x14 x15 x16 : Int32} (h : ov_P pv ty n x13 x14 x15 x16) (hp : pv n = 0) : ov_P pv ty (n + 1) x13 x14 x15 x16 := by
  obtain ⟨h1, h2⟩ := h
  refine ⟨?_, ?_⟩
  · rw [ov_allS, if_neg (by omega)]; exact h1
  · rcases h2 with ⟨a, b, c, d⟩ | ⟨m, a, b, c, ⟨q, q1, q2, q3⟩, d⟩
    · refine Or.inl ⟨a, b, c, fun q hq => ?_⟩
      by_cases hn : q = n
      · rw [hn, hp]
      · exact d q (by omega)
    · refine Or.inr ⟨m, a, b, ?_, ⟨q, by omega, q2, q3⟩, fun q hq hq0 => ?_⟩
      · rw [ov_cntS, if_neg (by omega)]; exact c
      · by_cases hn : q = n
        · rw [hn, hp] at hq0; omega
        · exact d q (by omega) hq0
/-- a way that is the cheapest so far -/
theorem ov_Pnew {pv ty : Nat → Nat} {n c : Nat} {x13 x14 x15 x16 : Int32} (h : ov_P pv ty n x13 x14 x15 x16) (hp : pv n = c + 1) (hc : c < 128) (hl : ∀ m, m < 128 → x14 = nI m → c < m) : ov_P pv ty (n + 1) (x13 + 1) (nI c) (0 + 1) (nI (ty n)) := by
  obtain ⟨h1, h2⟩ := h
  have hz : ∀ q, q < n → pv q = 0 ∨ c + 1 < pv q := by
    rcases h2 with ⟨_, _, _, d⟩ | ⟨m, a, b, _, _, d⟩
    · exact fun q hq => Or.inl (d q hq)
    · intro q hq
      have h3 := hl m a b
      have h4 := d q hq
      omega
  refine ⟨?_, Or.inr ⟨c, hc, rfl, ?_, ⟨n, by omega, hp, rfl⟩, fun q hq hq0 => ?_⟩⟩
  · rw [ov_allS, if_pos (by omega), h1, nI_1]
  · rw [ov_cntS, if_pos hp, show ov_cnt pv c n = 0 from ov_sm_zero n (fun q hq => if_neg (by have := hz q hq; omega))]
    rfl
  · by_cases hn : q = n
    · rw [hn, hp]; omega
    · have := hz q (by omega); omega
/-- a way as cheap as the cheapest -/
theorem ov_Psame {pv ty : Nat → Nat} {n c : Nat} {x13 x15 x16 : Int32} (h : ov_P pv ty n x13 (nI c) x15 x16) (hp : pv n = c + 1) (hc : c < 128) : ov_P pv ty (n + 1) (x13 + 1) (nI c) (x15 + 1) x16 := by
  obtain ⟨h1, h2⟩ := h
  rcases h2 with ⟨a, _, _, _⟩ | ⟨m, a, b, k, ⟨q, q1, q2, q3⟩, d⟩
  · exact absurd a (ov_m3 hc)
  · have hm : c = m := (nI_eq (by omega) (by omega)).mp b
    subst hm
    refine ⟨?_, Or.inr ⟨c, hc, rfl, ?_, ⟨q, by omega, q2, q3⟩, fun q hq hq0 => ?_⟩⟩
    · rw [ov_allS, if_pos (by omega), h1, nI_1]
    · rw [ov_cntS, if_pos hp, k, nI_1]
    · by_cases hn : q = n
      · rw [hn, hp]; omega
      · exact d q (by omega) hq0
/-- a dearer way -/
theorem ov_Pdear {pv ty : Nat → Nat} {n c m : Nat} {x13 x15 x16 : Int32} (h : ov_P pv ty n x13 (nI m) x15 x16) (hp : pv n = c + 1) (hm : m < 128) (hc : m < c) : ov_P pv ty (n + 1) (x13 + 1) (nI m) x15 x16 := by
  obtain ⟨h1, h2⟩ := h
  rcases h2 with ⟨a, _, _, _⟩ | ⟨m', a, b, k, ⟨q, q1, q2, q3⟩, d⟩
  · exact absurd a (ov_m3 hm)
  · have hm' : m = m' := (nI_eq (by omega) (by omega)).mp b
    subst hm'
    refine ⟨?_, Or.inr ⟨m, hm, rfl, ?_, ⟨q, by omega, q2, q3⟩, fun q hq hq0 => ?_⟩⟩
    · rw [ov_allS, if_pos (by omega), h1, nI_1]
    · rw [ov_cntS, if_neg (by omega)]; exact k
    · by_cases hn : q = n
      · rw [hn, hp]; omega
      · exact d q (by omega) hq0
/-- the only cheapest way -/
theorem ov_uniq {pv : Nat → Nat} {c n q q' : Nat} (h : ov_cnt pv c n = 1) (hq : q < n) (hq' : q' < n) (e : pv q = c + 1) (e' : pv q' = c + 1) : q = q' := by
  have key : ∀ a b, a < b → b < n → pv a = c + 1 → pv b = c + 1 → False := by
    intro a b hab hb ea eb
    have h2 := ov_sm_ge2 (f := fun q => if pv q = c + 1 then 1 else 0) n a b hab hb
    have h3 : (if pv a = c + 1 then 1 else 0) + (if pv b = c + 1 then 1 else 0) ≤ ov_cnt pv c n := h2
    rw [if_pos ea, if_pos eb] at h3
    omega
  by_cases h1 : q < q'
  · exact (key q q' h1 hq' e e').elim
  · by_cases h2 : q' < q
    · exact (key q' q h2 hq e' e).elim
    · omega
end
section
theorem ov_acc {s b : Nat → Int32} {F T : Nat → Nat} {o x i : Nat} (hi : i + x < 128) (h : ∀ c, c < 128 → s c = nI (F c + if x ≤ c ∧ c < x + i then T (c - x) else 0)) (hT : ∀ c, c < 128 → b (o + c) = nI (T c)) :
    ∀ c, c < 128 → upd s (i + x) (s (i + x) + b (o + i)) c = nI (F c + if x ≤ c ∧ c < x + (i + 1) then T (c - x) else 0) := by
  intro c hc
  by_cases e : c = i + x
  · rw [e, pk_us, h (i + x) hi, hT i (by omega), if_neg (by omega), if_pos (by omega), show i + x - x = i by omega, nI_add, Nat.add_zero]
  · rw [pk_un e, h c hc]
    by_cases h2 : x ≤ c ∧ c < x + i
    · rw [if_pos h2, if_pos (by omega)]
    · rw [if_neg h2, if_neg (by omega)]
theorem ov_gL31 {post : St2 → Prop} {n0 n1 n2 : Int32} {a1 a2 a3 a4 a5 a6 a7 a8 a9 a10 a11 a12 a13 a14 a15 a16 a17 a18 a19 a20 : Nat → Int32} {o x : Nat} {F T : Nat → Nat} (hx : x ≤ 9) (ho : o + 128 ≤ 4608)
    (hF : ∀ c, c < 128 → a16 c = nI (F c)) (hT : ∀ c, c < 128 → a14 (o + c) = nI (T c))
    (H : ∀ b, (∀ c, c < 128 → b c = nI (F c + if x ≤ c then T (c - x) else 0)) → post (n0, n1, n2, a1, a2, a3, a4, a5, a6, a7, a8, a9, a10, a11, a12, a13, a14, a15, b, a17, a18, a19, a20)) :
    ∃ n, wX_gatherLeft_31 post (nI x) (nI o) n0 n1 n2 n 0 a1 a2 a3 a4 a5 a6 a7 a8 a9 a10 a11 a12 a13 a14 a15 a16 a17 a18 a19 a20 :=
  pk_loop (fun n i s => wX_gatherLeft_31 post (nI x) (nI o) n0 n1 n2 n (nI i) a1 a2 a3 a4 a5 a6 a7 a8 a9 a10 a11 a12 a13 a14 a15 s a17 a18 a19 a20) (fun i s => ∀ c, c < 128 → s c = nI (F c + if x ≤ c ∧ c < x + i then T (c - x) else 0)) (128 - x) 0 a16 (by omega)
    (fun c hc => by rw [hF c hc, if_neg (by omega), Nat.add_zero])
    (fun n s h => pk_le 128 (128 - x + x) (fun _ => H s (fun c hc => by
        rw [h c hc]
        by_cases h2 : x ≤ c
        · rw [if_pos h2, if_pos (by omega)]
        · rw [if_neg h2, if_neg (by omega)])) (fun z => absurd z (by omega)) (hy := nI_add _ _))
    (fun n i s hi h hw => pk_le 128 (i + x) (fun z => absurd z (by omega)) (fun _ => ⟨pk_in (i + x) 128 (by omega) (nI_add _ _), pk_in (o + i) 4608 (by omega) (nI_add _ _), pk_in (i + x) 128 (by omega) (nI_add _ _), nm_r (e' := upd s (i + x) (s (i + x) + a14 (o + i))) (by rw [nI_add, nI_add, nI_clamp (by omega), nI_clamp (by omega)]) (nm_r (nI_1 i) (hw _ (ov_acc (by omega) h hT)))⟩) (hy := nI_add _ _))
theorem ov_gR31 {post : St2 → Prop} {n0 n1 n2 : Int32} {a1 a2 a3 a4 a5 a6 a7 a8 a9 a10 a11 a12 a13 a14 a15 a16 a17 a18 a19 a20 : Nat → Int32} {o x : Nat} {F T : Nat → Nat} (hx : x ≤ 9) (ho : o + 128 ≤ 4608)
    (hF : ∀ c, c < 128 → a17 c = nI (F c)) (hT : ∀ c, c < 128 → a14 (o + c) = nI (T c))
    (H : ∀ b, (∀ c, c < 128 → b c = nI (F c + if x ≤ c then T (c - x) else 0)) → post (n0, n1, n2, a1, a2, a3, a4, a5, a6, a7, a8, a9, a10, a11, a12, a13, a14, a15, a16, b, a18, a19, a20)) :
    ∃ n, wX_gatherRight_31 post (nI x) (nI o) n0 n1 n2 n 0 a1 a2 a3 a4 a5 a6 a7 a8 a9 a10 a11 a12 a13 a14 a15 a16 a17 a18 a19 a20 :=
  pk_loop (fun n i s => wX_gatherRight_31 post (nI x) (nI o) n0 n1 n2 n (nI i) a1 a2 a3 a4 a5 a6 a7 a8 a9 a10 a11 a12 a13 a14 a15 a16 s a18 a19 a20) (fun i s => ∀ c, c < 128 → s c = nI (F c + if x ≤ c ∧ c < x + i then T (c - x) else 0)) (128 - x) 0 a17 (by omega)
    (fun c hc => by rw [hF c hc, if_neg (by omega), Nat.add_zero])
    (fun n s h => pk_le 128 (128 - x + x) (fun _ => H s (fun c hc => by
        rw [h c hc]
        by_cases h2 : x ≤ c
        · rw [if_pos h2, if_pos (by omega)]
        · rw [if_neg h2, if_neg (by omega)])) (fun z => absurd z (by omega)) (hy := nI_add _ _))
    (fun n i s hi h hw => pk_le 128 (i + x) (fun z => absurd z (by omega)) (fun _ => ⟨pk_in (i + x) 128 (by omega) (nI_add _ _), pk_in (o + i) 4608 (by omega) (nI_add _ _), pk_in (i + x) 128 (by omega) (nI_add _ _), nm_r (e' := upd s (i + x) (s (i + x) + a14 (o + i))) (by rw [nI_add, nI_add, nI_clamp (by omega), nI_clamp (by omega)]) (nm_r (nI_1 i) (hw _ (ov_acc (by omega) h hT)))⟩) (hy := nI_add _ _))
theorem ov_aT31 {post : St2 → Prop} {n0 n1 n2 : Int32} {a1 a2 a3 a4 a5 a6 a7 a8 a9 a10 a11 a12 a13 a14 a15 a16 a17 a18 a19 a20 : Nat → Int32} {o x : Nat} {F T : Nat → Nat} (hx : x ≤ 9) (ho : o + 128 ≤ 4608)
    (hF : ∀ c, c < 128 → a15 c = nI (F c)) (hT : ∀ c, c < 128 → a14 (o + c) = nI (T c))
    (H : ∀ b, (∀ c, c < 128 → b c = nI (F c + if x ≤ c then T (c - x) else 0)) → post (n0, n1, n2, a1, a2, a3, a4, a5, a6, a7, a8, a9, a10, a11, a12, a13, a14, b, a16, a17, a18, a19, a20)) :
    ∃ n, wX_addTable_28 post (nI x) (nI o) n0 n1 n2 n 0 a1 a2 a3 a4 a5 a6 a7 a8 a9 a10 a11 a12 a13 a14 a15 a16 a17 a18 a19 a20 :=
  pk_loop (fun n i s => wX_addTable_28 post (nI x) (nI o) n0 n1 n2 n (nI i) a1 a2 a3 a4 a5 a6 a7 a8 a9 a10 a11 a12 a13 a14 s a16 a17 a18 a19 a20) (fun i s => ∀ c, c < 128 → s c = nI (F c + if x ≤ c ∧ c < x + i then T (c - x) else 0)) (128 - x) 0 a15 (by omega)
    (fun c hc => by rw [hF c hc, if_neg (by omega), Nat.add_zero])
    (fun n s h => pk_le 128 (128 - x + x) (fun _ => H s (fun c hc => by
        rw [h c hc]
        by_cases h2 : x ≤ c
        · rw [if_pos h2, if_pos (by omega)]
        · rw [if_neg h2, if_neg (by omega)])) (fun z => absurd z (by omega)) (hy := nI_add _ _))
    (fun n i s hi h hw => pk_le 128 (i + x) (fun z => absurd z (by omega)) (fun _ => ⟨pk_in (i + x) 128 (by omega) (nI_add _ _), pk_in (o + i) 4608 (by omega) (nI_add _ _), pk_in (i + x) 128 (by omega) (nI_add _ _), nm_r (e' := upd s (i + x) (s (i + x) + a14 (o + i))) (by rw [nI_add, nI_add, nI_clamp (by omega), nI_clamp (by omega)]) (nm_r (nI_1 i) (hw _ (ov_acc (by omega) h hT)))⟩) (hy := nI_add _ _))
theorem ov_gL {post : St2 → Prop} {n0 n1 n2 : Int32} {a1 a2 a3 a4 a5 a6 a7 a8 a9 a10 a11 a12 a13 a14 a15 a16 a17 a18 a19 a20 : Nat → Int32} {p0 p2 : Int32} {k t q x : Nat} {F T : Nat → Nat} (hp0 : p0 = nI k) (hp2 : p2 = nI q) (hk : k < 12) (ht : t < 3) (hq : q < 3) (hx : x ≤ 10) (ha : a1 (3 * t + q) = nI x - 1)
    (hF : ∀ c, c < 128 → a16 c = nI (F c)) (hT : ∀ c, c < 128 → a14 ((3 * k + t) * 128 + c) = nI (T c))
    (H : ∀ b, (∀ c, c < 128 → b c = nI (F c + ov_gt x T c)) → post (n0, n1, n2, a1, a2, a3, a4, a5, a6, a7, a8, a9, a10, a11, a12, a13, a14, a15, b, a17, a18, a19, a20)) :
    wpX_gatherLeft post (n0, n1, n2, a1, a2, a3, a4, a5, a6, a7, a8, a9, a10, a11, a12, a13, a14, a15, a16, a17, a18, a19, a20) p0 (nI t) p2 := by
  subst hp0 hp2
  unfold wpX_gatherLeft
  refine And.intro (pk_in (3 * t + q) 9 (by omega) (ov_ix t q)) (nm_r (e' := nI x - 1) (by rw [ov_ix, nI_clamp (by omega), ha]) (nm_r (ov_o k t) ?_))
  cases x with
  | zero => exact br_t ov_cn (H a16 (fun c hc => by rw [hF c hc, ov_gt0, Nat.add_zero]))
  | succ x =>
    rw [nI_pred]
    exact br_f (nI_pos (by omega)) (ov_gL31 (by omega) (by omega) hF hT (fun b hb => H b (fun c hc => by rw [hb c hc, ov_gtS])))
theorem ov_gR {post : St2 → Prop} {n0 n1 n2 : Int32} {a1 a2 a3 a4 a5 a6 a7 a8 a9 a10 a11 a12 a13 a14 a15 a16 a17 a18 a19 a20 : Nat → Int32} {p0 p2 : Int32} {k t q x : Nat} {F T : Nat → Nat} (hp0 : p0 = nI k) (hp2 : p2 = nI q) (hk : k < 12) (ht : t < 3) (hq : q < 3) (hx : x ≤ 10) (ha : a1 (3 * t + q) = nI x - 1)
    (hF : ∀ c, c < 128 → a17 c = nI (F c)) (hT : ∀ c, c < 128 → a14 ((3 * k + t) * 128 + c) = nI (T c))
    (H : ∀ b, (∀ c, c < 128 → b c = nI (F c + ov_gt x T c)) → post (n0, n1, n2, a1, a2, a3, a4, a5, a6, a7, a8, a9, a10, a11, a12, a13, a14, a15, a16, b, a18, a19, a20)) :
    wpX_gatherRight post (n0, n1, n2, a1, a2, a3, a4, a5, a6, a7, a8, a9, a10, a11, a12, a13, a14, a15, a16, a17, a18, a19, a20) p0 (nI t) p2 := by
  subst hp0 hp2
  unfold wpX_gatherRight
  refine And.intro (pk_in (3 * t + q) 9 (by omega) (ov_ix t q)) (nm_r (e' := nI x - 1) (by rw [ov_ix, nI_clamp (by omega), ha]) (nm_r (ov_o k t) ?_))
  cases x with
  | zero => exact br_t ov_cn (H a17 (fun c hc => by rw [hF c hc, ov_gt0, Nat.add_zero]))
  | succ x =>
    rw [nI_pred]
    exact br_f (nI_pos (by omega)) (ov_gR31 (by omega) (by omega) hF hT (fun b hb => H b (fun c hc => by rw [hb c hc, ov_gtS])))
theorem ov_cc {post : Int32 → Prop} {n0 n1 n2 : Int32} {a1 a2 a3 a4 a5 a6 a7 a8 a9 a10 a11 a12 a13 a14 a15 a16 a17 a18 a19 a20 : Nat → Int32} {x : Int32} (h : post 0) : wpX_conversionCost post (n0, n1, n2, a1, a2, a3, a4, a5, a6, a7, a8, a9, a10, a11, a12, a13, a14, a15, a16, a17, a18, a19, a20) x 3 := by
  unfold wpX_conversionCost
  exact br_t rfl h
theorem ov_aT {post : St2 → Prop} {n0 n1 n2 : Int32} {a1 a2 a3 a4 a5 a6 a7 a8 a9 a10 a11 a12 a13 a14 a15 a16 a17 a18 a19 a20 : Nat → Int32} {k t : Nat} {F T : Nat → Nat} (hk : k < 12) (ht : t < 3)
    (hF : ∀ c, c < 128 → a15 c = nI (F c)) (hT : ∀ c, c < 128 → a14 ((3 * k + t) * 128 + c) = nI (T c))
    (H : ∀ b, (∀ c, c < 128 → b c = nI (F c + T c)) → post (n0, n1, n2, a1, a2, a3, a4, a5, a6, a7, a8, a9, a10, a11, a12, a13, a14, b, a16, a17, a18, a19, a20)) :
    wpX_addTable post (n0, n1, n2, a1, a2, a3, a4, a5, a6, a7, a8, a9, a10, a11, a12, a13, a14, a15, a16, a17, a18, a19, a20) (nI k) (nI t) 3 := by
  unfold wpX_addTable
  refine ov_cc ?_
  refine br_t (by decide) (nm_r (ov_o k t) ?_)
  exact ov_aT31 (x := 0) (by omega) (by omega) hF hT (fun b hb => H b (fun c hc => by rw [hb c hc, if_pos (Nat.zero_le _)]; rfl))
end
section
theorem ov_acc2 {s : Nat → Int32} {G R : Nat → Nat} {o room a b La : Nat} (h : ∀ j, j < room → s (o + j) = nI (G j + if a ≤ j ∧ j < a + b then La * R (j - a) else 0)) (hb : a + b < room) :
    ∀ j, j < room → upd s (o + (a + b)) (s (o + (a + b)) + nI (La * R b)) (o + j) = nI (G j + if a ≤ j ∧ j < a + (b + 1) then La * R (j - a) else 0) := by
  intro j hj
  by_cases e : j = a + b
  · rw [e, pk_us, h (a + b) hb, if_neg (by omega), if_pos (by omega), show a + b - a = b by omega, nI_add, Nat.add_zero]
  · rw [pk_un (show o + j ≠ o + (a + b) by omega), h j hj]
    by_cases h2 : a ≤ j ∧ j < a + b
    · rw [if_pos h2, if_pos (by omega)]
    · rw [if_neg h2, if_neg (by omega)]
/-- one row of the convolution -/
theorem ov_j143 {post : St2 → Prop} {J : Int32 → (Nat → Int32) → (Nat → Int32) → (Nat → Int32) → (Nat → Int32) → (Nat → Int32) → (Nat → Int32) → (Nat → Int32) → (Nat → Int32) → (Nat → Int32) → (Nat → Int32) → (Nat → Int32) → (Nat → Int32) → (Nat → Int32) → (Nat → Int32) → (Nat → Int32) → (Nat → Int32) → (Nat → Int32) → (Nat → Int32) → (Nat → Int32) → (Nat → Int32) → Prop} {n0 n1 n2 : Int32} {a1 a2 a3 a4 a5 a6 a7 a8 a9 a10 a11 a12 a13 a14 a15 a16 a17 a18 a19 a20 : Nat → Int32} {o room a La : Nat} {G R : Nat → Nat} (ho : o + room ≤ 4608) (hr : room ≤ 128) (ha : a < room)
    (hG : ∀ j, j < room → a14 (o + j) = nI (G j)) (hL : a16 a = nI La) (hR : ∀ c, c < 128 → a17 c = nI (R c))
    (H : ∀ b, (∀ j, j < room → b (o + j) = nI (G j + if a ≤ j then La * R (j - a) else 0)) → (∀ m, (m < o ∨ o + room ≤ m) → b m = a14 m) → J (nI (a + 1)) a1 a2 a3 a4 a5 a6 a7 a8 a9 a10 a11 a12 a13 b a15 a16 a17 a18 a19 a20) :
    ∃ n, wX_joinSides_143 post J (nI o) (nI room) (nI a) n0 n1 n2 n 0 a1 a2 a3 a4 a5 a6 a7 a8 a9 a10 a11 a12 a13 a14 a15 a16 a17 a18 a19 a20 :=
  pk_loop (fun n i s => wX_joinSides_143 post J (nI o) (nI room) (nI a) n0 n1 n2 n (nI i) a1 a2 a3 a4 a5 a6 a7 a8 a9 a10 a11 a12 a13 s a15 a16 a17 a18 a19 a20)
    (fun i s => (∀ j, j < room → s (o + j) = nI (G j + if a ≤ j ∧ j < a + i then La * R (j - a) else 0)) ∧ (∀ m, (m < o ∨ o + room ≤ m) → s m = a14 m)) (room - a) 0 a14 (by omega)
    ⟨fun j hj => by rw [hG j hj, if_neg (by omega), Nat.add_zero], fun m _ => rfl⟩
    (fun n s h => pk_le room (a + (room - a)) (fun _ => nm_r (nI_1 a) (H s (fun j hj => by
        rw [h.1 j hj]
        by_cases h2 : a ≤ j
        · rw [if_pos h2, if_pos (by omega)]
        · rw [if_neg h2, if_neg (by omega)]) h.2)) (fun z => absurd z (by omega)) (hy := nI_add _ _))
    (fun n i s hi h hw => pk_le room (a + i) (fun z => absurd z (by omega)) (fun _ => ⟨pk_in (o + a + i) 4608 (by omega) (by rw [nI_add, nI_add]), pk_in a 128 (by omega), pk_in i 128 (by omega), pk_in (o + a + i) 4608 (by omega) (by rw [nI_add, nI_add]),
      nm_r (e' := upd s (o + (a + i)) (s (o + (a + i)) + nI (La * R i))) (by rw [nI_add, nI_add, nI_clamp (show o + a + i < 2 ^ 31 by omega), nI_clamp (show a < 2 ^ 31 by omega), nI_clamp (show i < 2 ^ 31 by omega), hL, hR i (by omega), pk_mul, Nat.add_assoc])
        (nm_r (nI_1 i) (hw _ ⟨ov_acc2 h.1 (by omega), fun m hm => by rw [pk_un (by omega), h.2 m hm]⟩))⟩) (hy := nI_add _ _))
theorem ov_cvS (L R : Nat → Nat) (j n : Nat) : ov_cv L R j (n + 1) = ov_cv L R j n + (if n ≤ j then L n * R (j - n) else 0) := rfl
/-- the convolution -/
theorem ov_j123 {post : St2 → Prop} {n0 n1 n2 : Int32} {a1 a2 a3 a4 a5 a6 a7 a8 a9 a10 a11 a12 a13 a14 a15 a16 a17 a18 a19 a20 : Nat → Int32} {o room : Nat} {G L R : Nat → Nat} (ho : o + room ≤ 4608) (hr : room ≤ 128)
    (hG : ∀ j, j < room → a14 (o + j) = nI (G j)) (hL : ∀ c, c < 128 → a16 c = nI (L c)) (hR : ∀ c, c < 128 → a17 c = nI (R c))
    (H : ∀ b, (∀ j, j < room → b (o + j) = nI (G j + ov_cv L R j room)) → (∀ m, (m < o ∨ o + room ≤ m) → b m = a14 m) → post (n0, n1, n2, a1, a2, a3, a4, a5, a6, a7, a8, a9, a10, a11, a12, a13, b, a15, a16, a17, a18, a19, a20)) :
    ∃ n, wX_joinSides_123 post (nI o) (nI room) n0 n1 n2 n 0 a1 a2 a3 a4 a5 a6 a7 a8 a9 a10 a11 a12 a13 a14 a15 a16 a17 a18 a19 a20 :=
  pk_loop (fun n i s => wX_joinSides_123 post (nI o) (nI room) n0 n1 n2 n (nI i) a1 a2 a3 a4 a5 a6 a7 a8 a9 a10 a11 a12 a13 s a15 a16 a17 a18 a19 a20)
    (fun i s => (∀ j, j < room → s (o + j) = nI (G j + ov_cv L R j i)) ∧ (∀ m, (m < o ∨ o + room ≤ m) → s m = a14 m)) room 0 a14 (by omega)
    ⟨fun j hj => hG j hj, fun m _ => rfl⟩
    (fun n s h => pk_le room room (fun _ => H s h.1 h.2) (fun z => absurd z (by omega)))
    (fun n i s hi h hw => pk_le room i (fun z => absurd z (by omega)) (fun _ => ⟨pk_in i 128 (by omega), br_c
      (fun z => nm_r (nI_1 i) (hw s ⟨fun j hj => by
        rw [nI_clamp (by omega), hL i (by omega)] at z
        rw [h.1 j hj, ov_cvS, ← Nat.add_assoc]
        by_cases h2 : i ≤ j
        · rw [if_pos h2, ov_nIz (ov_nImz z)]
        · rw [if_neg h2, Nat.add_zero], h.2⟩))
      (fun _ => ov_j143 ho hr hi h.1 (hL i (by omega)) hR (fun b h1 h2 => hw b ⟨fun j hj => by rw [h1 j hj, ov_cvS, Nat.add_assoc], fun m hm => by rw [h2 m hm, h.2 m hm]⟩))⟩))
/-- the two lines, then the convolution -/
theorem ov_j43 {post : St2 → Prop} {n0 n1 n2 : Int32} {a1 a2 a3 a4 a5 a6 a7 a8 a9 a10 a11 a12 a13 a14 a15 a16 a17 a18 a19 a20 : Nat → Int32} {k s sg sc lf rt : Nat} {e : Nat → Nat → Nat} {G : Nat → Nat} {T0 T1 : Nat → Nat → Nat} (hk : k < 12) (hs : s < 12) (hg : sg < 27) (hc : sc ≤ 9) (hl : lf < 12) (hr : rt < 12)
    (he : ∀ t q, t < 3 → q < 3 → e t q ≤ 10 ∧ a1 (3 * t + q) = nI (e t q) - 1) (h3 : a3 s = nI sc) (h9 : a9 k = nI lf) (h10 : a10 k = nI rt)
    (hT0 : ∀ t, t < 3 → ∀ c, c < 128 → a14 ((3 * lf + t) * 128 + c) = nI (T0 t c)) (hT1 : ∀ t, t < 3 → ∀ c, c < 128 → a14 ((3 * rt + t) * 128 + c) = nI (T1 t c))
    (hG : ∀ j, j < 128 → a14 ((3 * k + sg % 3) * 128 + j) = nI (G j)) (z16 : ∀ c, c < 128 → a16 c = 0) (z17 : ∀ c, c < 128 → a17 c = 0)
    (H : ∀ b14 b16 b17, (∀ j, j < 128 → b14 ((3 * k + sg % 3) * 128 + j) = nI (G j + if sc ≤ j then ov_cv (fun c => ov_sm (fun t => ov_gt (e t (sg / 9)) (T0 t) c) 3) (fun c => ov_sm (fun t => ov_gt (e t (sg / 3 % 3)) (T1 t) c) 3) (j - sc) (128 - sc) else 0)) →
      (∀ m, (m < (3 * k + sg % 3) * 128 ∨ (3 * k + sg % 3) * 128 + 128 ≤ m) → b14 m = a14 m) → post (n0, n1, n2, a1, a2, a3, a4, a5, a6, a7, a8, a9, a10, a11, a12, a13, b14, a15, b16, b17, a18, a19, a20)) :
    ∃ n, wX_joinSides_43 post (nI k) (nI s) (nI sg) n 0 n0 n1 n2 a1 a2 a3 a4 a5 a6 a7 a8 a9 a10 a11 a12 a13 a14 a15 a16 a17 a18 a19 a20 := by
  refine pk_loop (σ := (Nat → Int32) × (Nat → Int32)) (fun n i w => wX_joinSides_43 post (nI k) (nI s) (nI sg) n (nI i) n0 n1 n2 a1 a2 a3 a4 a5 a6 a7 a8 a9 a10 a11 a12 a13 a14 a15 w.1 w.2 a18 a19 a20)
    (fun i w => (∀ c, c < 128 → w.1 c = nI (ov_sm (fun t => ov_gt (e t (sg / 9)) (T0 t) c) i)) ∧ (∀ c, c < 128 → w.2 c = nI (ov_sm (fun t => ov_gt (e t (sg / 3 % 3)) (T1 t) c) i))) 3 0 (a16, a17) (by omega) ⟨z16, z17⟩ ?_ ?_
  · intro n w h
    refine pk_le 3 3 (fun _ => ?_) (fun z => absurd z (by omega))
    refine And.intro (by decide) (And.intro (pk_in s 12 hs) (nm_r (e' := nI ((3 * k + sg % 3) * 128 + sc)) ?_ (And.intro (pk_in s 12 hs) (nm_r (e' := nI (128 - sc)) ?_ ?_))))
    · rw [nI_clamp (by omega), h3, ov_r3 hg, ov_o, nI_add]
    · rw [nI_clamp (by omega), h3, show (128 : Int32) = nI 128 from rfl, pk_sub (by omega)]
    · refine ov_j123 (G := fun j => G (j + sc)) (by omega) (by omega) (fun j hj => ?_) h.1 h.2 (fun b h1 h2 => H b w.1 w.2 (fun j hj => ?_) (fun m hm => h2 m (by omega)))
      · rw [Nat.add_assoc, Nat.add_comm sc j]
        exact hG (j + sc) (by omega)
      · by_cases hj2 : sc ≤ j
        · have h3 := h1 (j - sc) (by omega)
          rw [Nat.add_assoc, show sc + (j - sc) = j by omega, show j - sc + sc = j by omega] at h3
          rw [h3, if_pos hj2]
        · rw [if_neg hj2, h2 _ (by omega), hG j hj, Nat.add_zero]
  · intro n i w hi h hw
    refine pk_le 3 i (fun z => absurd z (by omega)) (fun _ => ?_)
    refine And.intro (pk_in k 12 hk) (And.intro (by decide) ?_)
    refine ov_gL (k := lf) (q := sg / 9) (by rw [nI_clamp (by omega), h9]) (ov_d9 hg) hl hi (by omega) (he i (sg / 9) hi (by omega)).1 (he i (sg / 9) hi (by omega)).2 h.1 (hT0 i hi) (fun b hb => ?_)
    refine And.intro (pk_in k 12 hk) (And.intro (by decide) (And.intro (by decide) ?_))
    refine ov_gR (k := rt) (q := sg / 3 % 3) (by rw [nI_clamp (by omega), h10]) (ov_dr hg) hr hi (by omega) (he i (sg / 3 % 3) hi (by omega)).1 (he i (sg / 3 % 3) hi (by omega)).2 h.2 (hT1 i hi) (fun b' hb' => ?_)
    exact nm_r (nI_1 i) (hw (b, b') ⟨hb, hb'⟩)
theorem ov_join {post : St2 → Prop} {n0 n1 n2 : Int32} {a1 a2 a3 a4 a5 a6 a7 a8 a9 a10 a11 a12 a13 a14 a15 a16 a17 a18 a19 a20 : Nat → Int32} {p0 p1 : Int32} {k s sg sc lf rt : Nat} {e : Nat → Nat → Nat} {G : Nat → Nat} {T0 T1 : Nat → Nat → Nat} (hp0 : p0 = nI k) (hp1 : p1 = nI s) (hk : k < 12) (hs : s < 12) (hg : sg < 27) (hc : sc ≤ 9) (hl : lf < 12) (hr : rt < 12)
    (he : ∀ t q, t < 3 → q < 3 → e t q ≤ 10 ∧ a1 (3 * t + q) = nI (e t q) - 1) (h2 : a2 s = nI sg) (h3 : a3 s = nI sc) (h9 : a9 k = nI lf) (h10 : a10 k = nI rt)
    (hT0 : ∀ t, t < 3 → ∀ c, c < 128 → a14 ((3 * lf + t) * 128 + c) = nI (T0 t c)) (hT1 : ∀ t, t < 3 → ∀ c, c < 128 → a14 ((3 * rt + t) * 128 + c) = nI (T1 t c))
    (hG : ∀ j, j < 128 → a14 ((3 * k + sg % 3) * 128 + j) = nI (G j))
    (H : ∀ b14 b16 b17, (∀ j, j < 128 → b14 ((3 * k + sg % 3) * 128 + j) = nI (G j + if sc ≤ j then ov_cv (fun c => ov_sm (fun t => ov_gt (e t (sg / 9)) (T0 t) c) 3) (fun c => ov_sm (fun t => ov_gt (e t (sg / 3 % 3)) (T1 t) c) 3) (j - sc) (128 - sc) else 0)) →
      (∀ m, (m < (3 * k + sg % 3) * 128 ∨ (3 * k + sg % 3) * 128 + 128 ≤ m) → b14 m = a14 m) → post (n0, n1, n2, a1, a2, a3, a4, a5, a6, a7, a8, a9, a10, a11, a12, a13, b14, a15, b16, b17, a18, a19, a20)) :
    wpX_joinSides post (n0, n1, n2, a1, a2, a3, a4, a5, a6, a7, a8, a9, a10, a11, a12, a13, a14, a15, a16, a17, a18, a19, a20) p0 p1 := by
  subst hp0 hp1
  unfold wpX_joinSides
  refine And.intro (pk_in s 12 hs) (nm_r (e' := nI sg) (by rw [nI_clamp (by omega), h2]) ?_)
  refine pk_loop (σ := (Nat → Int32) × (Nat → Int32)) (fun n i w => wX_joinSides_10 post (nI k) (nI s) (nI sg) n0 n1 n2 n (nI i) a1 a2 a3 a4 a5 a6 a7 a8 a9 a10 a11 a12 a13 a14 a15 w.1 w.2 a18 a19 a20)
    (fun i w => (∀ c, c < i → w.1 c = 0) ∧ (∀ c, c < i → w.2 c = 0)) 128 0 (a16, a17) (by omega) ⟨fun c hc => absurd hc (by omega), fun c hc => absurd hc (by omega)⟩ ?_ ?_
  · intro n w h
    refine pk_le 128 128 (fun _ => ?_) (fun z => absurd z (by omega))
    exact ov_j43 hk hs hg hc hl hr he h3 h9 h10 hT0 hT1 hG h.1 h.2 H
  · intro n i w hi h hw
    refine pk_le 128 i (fun z => absurd z (by omega)) (fun _ => ?_)
    refine And.intro (pk_in i 128 hi) (nm_r (e' := upd w.1 i 0) (by rw [nI_clamp (by omega)]) (And.intro (pk_in i 128 hi) (nm_r (e' := upd w.2 i 0) (by rw [nI_clamp (by omega)]) (nm_r (nI_1 i) (hw (upd w.1 i 0, upd w.2 i 0) ⟨fun c hc => ?_, fun c hc => ?_⟩)))))
    · show upd w.1 i 0 c = 0
      by_cases e : c = i
      · rw [e, pk_us]
      · rw [pk_un e]; exact h.1 c (by omega)
    · show upd w.2 i 0 c = 0
      by_cases e : c = i
      · rw [e, pk_us]
      · rw [pk_un e]; exact h.2 c (by omega)
end
section
/-- a node's table is cleared -/
theorem ov_f10 {post : St2 → Prop} {n0 n1 n2 : Int32} {a1 a2 a3 a4 a5 a6 a7 a8 a9 a10 a11 a12 a13 a14 a15 a16 a17 a18 a19 a20 : Nat → Int32} {x1 : Int32} {o : Nat} (ho : o + 384 ≤ 4608)
    (H : ∀ n b, (∀ j, j < 384 → b (o + j) = 0) → (∀ m, (m < o ∨ o + 384 ≤ m) → b m = a14 m) → wX_fill_10 post x1 (nI o) n0 n1 n2 (n + 1) (nI 384) a1 a2 a3 a4 a5 a6 a7 a8 a9 a10 a11 a12 a13 b a15 a16 a17 a18 a19 a20) :
    ∃ n, wX_fill_10 post x1 (nI o) n0 n1 n2 n 0 a1 a2 a3 a4 a5 a6 a7 a8 a9 a10 a11 a12 a13 a14 a15 a16 a17 a18 a19 a20 :=
  pk_loop (fun n i s => wX_fill_10 post x1 (nI o) n0 n1 n2 n (nI i) a1 a2 a3 a4 a5 a6 a7 a8 a9 a10 a11 a12 a13 s a15 a16 a17 a18 a19 a20) (fun i s => (∀ j, j < i → s (o + j) = 0) ∧ (∀ m, (m < o ∨ o + 384 ≤ m) → s m = a14 m)) 384 0 a14 (by omega)
    ⟨fun j hj => absurd hj (by omega), fun m _ => rfl⟩
    (fun n s h => H n s h.1 h.2)
    (fun n i s hi h hw => pk_le 384 i (fun z => absurd z (by omega)) (fun _ => ⟨pk_in (o + i) 4608 (by omega) (nI_add _ _), nm_r (e' := upd s (o + i) 0) (by rw [nI_add, nI_clamp (by omega)]) (nm_r (nI_1 i) (hw _ ⟨fun j hj => by
        by_cases e : j = i
        · rw [e, pk_us]
        · rw [pk_un (by omega)]; exact h.1 j (by omega), fun m hm => by rw [pk_un (by omega), h.2 m hm]⟩))⟩))
/-- a literal -/
theorem ov_f43 {post : St2 → Prop} {n0 n1 n2 : Int32} {a1 a2 a3 a4 a5 a6 a7 a8 a9 a10 a11 a12 a13 a14 a15 a16 a17 a18 a19 a20 : Nat → Int32} {st : Nat} {lit : Nat → Nat} (hst : st < 8) (h8 : a8 0 = nI st) (h6 : ∀ t, t < 3 → lit t ≤ 9 ∧ a6 t = nI (lit t))
    (hz : ∀ j, j < 384 → a14 j = 0)
    (H : ∀ b, (∀ t, t < 3 → ∀ c, c < 128 → b ((3 * 0 + t) * 128 + c) = nI (ov_t0 st lit t c)) → (∀ m, 384 ≤ m → b m = a14 m) → post (n0, n1, n2, a1, a2, a3, a4, a5, a6, a7, a8, a9, a10, a11, a12, a13, b, a15, a16, a17, a18, a19, a20)) :
    ∃ n, wX_fill_43 post (nI 0) (nI 0) n0 n1 n2 n 0 a1 a2 a3 a4 a5 a6 a7 a8 a9 a10 a11 a12 a13 a14 a15 a16 a17 a18 a19 a20 := by
  refine pk_loop (fun n i s => wX_fill_43 post (nI 0) (nI 0) n0 n1 n2 n (nI i) a1 a2 a3 a4 a5 a6 a7 a8 a9 a10 a11 a12 a13 s a15 a16 a17 a18 a19 a20) (fun i s => (∀ t, t < 3 → ∀ c, c < 128 → s ((3 * 0 + t) * 128 + c) = nI (if t < i then ov_t0 st lit t c else 0)) ∧ (∀ m, 384 ≤ m → s m = a14 m)) 3 0 a14 (by omega)
    ⟨fun t ht c hc => ?_, fun m _ => rfl⟩ ?_ ?_
  · rw [if_neg (by omega), hz _ (by omega), nI_0]
  · intro n s h
    refine pk_le 3 3 (fun _ => H s (fun t ht c hc => ?_) h.2) (fun z => absurd z (by omega))
    rw [h.1 t ht c hc, if_pos ht]
  · intro n i s hi h hw
    refine pk_le 3 i (fun z => absurd z (by omega)) (fun _ => And.intro (pk_in 0 12 (by omega)) ?_)
    have eb : ((a8 (nI 0).toNatClampNeg >>> (nI i &&& 31)) &&& 1) = nI (ov_bit st i) := by
      rw [nI_clamp (by omega), h8]
      exact ov_bitI st hst i hi
    have hb2 := ov_bit2 st i
    refine pk_eq (ov_bit st i) 1 (fun hb => ?_) (fun hb => ?_) eb
    · have ex : (nI 0 + nI i * 128) + a6 (nI i).toNatClampNeg = nI ((3 * 0 + i) * 128 + lit i) := by
        rw [nI_clamp (by omega), (h6 i hi).2, show (128 : Int32) = nI 128 from rfl, pk_mul, nI_add, nI_add]
        congr 1; omega
      have hl := (h6 i hi).1
      refine And.intro (pk_in i 3 hi) (And.intro (pk_in _ 4608 (by omega) ex) (nm_r (e' := upd s ((3 * 0 + i) * 128 + lit i) 1) (by rw [ex, nI_clamp (by omega)]) (nm_r (nI_1 i) (hw _ ⟨fun t ht c hc => ?_, fun m hm => ?_⟩))))
      · by_cases et : t = i
        · subst et
          rw [if_pos (by omega)]
          unfold ov_t0
          by_cases ec : c = lit t
          · subst ec
            rw [pk_us, if_pos ⟨hb, rfl⟩]; rfl
          · rw [pk_un (by omega), h.1 t ht c hc, if_neg (by omega), if_neg (by omega)]
        · rw [pk_un (by omega), h.1 t ht c hc]
          by_cases h2 : t < i
          · rw [if_pos h2, if_pos (by omega)]
          · rw [if_neg h2, if_neg (by omega)]
      · rw [pk_un (by omega), h.2 m hm]
    · refine nm_r (nI_1 i) (hw s ⟨fun t ht c hc => ?_, h.2⟩)
      rw [h.1 t ht c hc]
      by_cases et : t = i
      · subst et
        rw [if_neg (by omega), if_pos (by omega)]
        unfold ov_t0
        rw [if_neg (by omega)]
      · by_cases h2 : t < i
        · rw [if_pos h2, if_pos (by omega)]
        · rw [if_neg h2, if_neg (by omega)]
theorem ov_fill0 {post : St2 → Prop} {n0 n1 n2 : Int32} {a1 a2 a3 a4 a5 a6 a7 a8 a9 a10 a11 a12 a13 a14 a15 a16 a17 a18 a19 a20 : Nat → Int32} {st : Nat} {lit : Nat → Nat} (hst : st < 8) (h7 : a7 0 = 0) (h8 : a8 0 = nI st) (h6 : ∀ t, t < 3 → lit t ≤ 9 ∧ a6 t = nI (lit t))
    (H : ∀ b, (∀ t, t < 3 → ∀ c, c < 128 → b ((3 * 0 + t) * 128 + c) = nI (ov_t0 st lit t c)) → (∀ m, 384 ≤ m → b m = a14 m) → post (n0, n1, n2, a1, a2, a3, a4, a5, a6, a7, a8, a9, a10, a11, a12, a13, b, a15, a16, a17, a18, a19, a20)) :
    wpX_fill post (n0, n1, n2, a1, a2, a3, a4, a5, a6, a7, a8, a9, a10, a11, a12, a13, a14, a15, a16, a17, a18, a19, a20) (nI 0) := by
  unfold wpX_fill
  refine nm_r (e' := nI 0) (by rfl) (ov_f10 (o := 0) (by omega) (fun n b hb1 hb2 => ?_))
  refine pk_le 384 384 (fun _ => ?_) (fun z => absurd z (by omega))
  refine And.intro (pk_in 0 12 (by omega)) (br_t (by rw [nI_clamp (by omega)]; exact h7) ?_)
  refine ov_f43 hst h8 h6 (fun j hj => ?_) (fun b' h1 h2 => H b' h1 (fun m hm => ?_))
  · have := hb1 j hj
    rw [Nat.zero_add] at this
    exact this
  · rw [h2 m hm, hb2 m (by omega)]
/-- a use -/
theorem ov_fill1 {post : St2 → Prop} {n0 n1 n2 : Int32} {a1 a2 a3 a4 a5 a6 a7 a8 a9 a10 a11 a12 a13 a14 a15 a16 a17 a18 a19 a20 : Nat → Int32} {u : Nat} (hu : u < 3) (h7 : a7 1 = 1) (h8 : a8 1 = 0) (h13 : a13 0 = nI u)
    (H : ∀ b, (∀ t, t < 3 → ∀ c, c < 128 → b ((3 * 1 + t) * 128 + c) = nI (ov_t1 u t c)) → (∀ m, (m < 384 ∨ 768 ≤ m) → b m = a14 m) → post (n0, n1, n2, a1, a2, a3, a4, a5, a6, a7, a8, a9, a10, a11, a12, a13, b, a15, a16, a17, a18, a19, a20)) :
    wpX_fill post (n0, n1, n2, a1, a2, a3, a4, a5, a6, a7, a8, a9, a10, a11, a12, a13, a14, a15, a16, a17, a18, a19, a20) (nI 1) := by
  unfold wpX_fill
  refine nm_r (e' := nI 384) (by rfl) (ov_f10 (o := 384) (by omega) (fun n b hb1 hb2 => ?_))
  refine pk_le 384 384 (fun _ => ?_) (fun z => absurd z (by omega))
  have e7 : a7 (nI 1).toNatClampNeg = 1 := by rw [nI_clamp (by omega)]; exact h7
  have e8 : a8 (nI 1).toNatClampNeg = nI 0 := by rw [nI_clamp (by omega)]; exact h8
  have ex : nI 384 + a13 (a8 (nI 1).toNatClampNeg).toNatClampNeg * 128 = nI ((3 * 1 + u) * 128) := by
    rw [e8, nI_clamp (by omega), h13, show (128 : Int32) = nI 128 from rfl, pk_mul, nI_add]
    congr 1; omega
  refine And.intro (pk_in 1 12 (by omega)) (br_f (by rw [e7]; decide) ?_)
  refine And.intro (pk_in 1 12 (by omega)) (br_t e7 ?_)
  refine And.intro (pk_in 1 12 (by omega)) (And.intro (pk_in 0 2 (by omega) e8) (And.intro (pk_in ((3 * 1 + u) * 128) 4608 (by omega) ex) (nm_r (e' := upd b ((3 * 1 + u) * 128) 1) (by rw [ex, nI_clamp (by omega)]) ?_)))
  refine H _ (fun t ht c hc => ?_) (fun m hm => ?_)
  · unfold ov_t1
    by_cases h : t = u ∧ c = 0
    · obtain ⟨rfl, rfl⟩ := h
      rw [if_pos ⟨rfl, rfl⟩, Nat.add_zero, pk_us]; rfl
    · rw [if_neg h, pk_un (by omega), show (3 * 1 + t) * 128 + c = 384 + (t * 128 + c) by omega, hb1 _ (by omega), nI_0]
  · rw [pk_un (by omega), hb2 m (by omega)]
/-- an application of two signatures -/
theorem ov_fill2 {post : St2 → Prop} {n0 n1 n2 : Int32} {a1 a2 a3 a4 a5 a6 a7 a8 a9 a10 a11 a12 a13 a14 a15 a16 a17 a18 a19 a20 : Nat → Int32} {e : Nat → Nat → Nat} {sg sk lit : Nat → Nat} {st u : Nat} (hu : u < 3)
    (he : ∀ t q, t < 3 → q < 3 → e t q ≤ 10 ∧ a1 (3 * t + q) = nI (e t q) - 1) (hs : ∀ i, i < 2 → sg i < 27 ∧ sk i ≤ 9 ∧ a2 (4 + i) = nI (sg i) ∧ a3 (4 + i) = nI (sk i))
    (h4 : a4 1 = 2) (h7 : a7 2 = 3) (h8 : a8 2 = 1) (h9 : a9 2 = nI 0) (h10 : a10 2 = nI 1)
    (hT0 : ∀ t, t < 3 → ∀ c, c < 128 → a14 ((3 * 0 + t) * 128 + c) = nI (ov_t0 st lit t c)) (hT1 : ∀ t, t < 3 → ∀ c, c < 128 → a14 ((3 * 1 + t) * 128 + c) = nI (ov_t1 u t c))
    (H : ∀ b14 b16 b17, (∀ t, t < 3 → ∀ c, c < 128 → b14 ((3 * 2 + t) * 128 + c) = nI (ov_t2 e sg sk lit st u t c)) → post (n0, n1, n2, a1, a2, a3, a4, a5, a6, a7, a8, a9, a10, a11, a12, a13, b14, a15, b16, b17, a18, a19, a20)) :
    wpX_fill post (n0, n1, n2, a1, a2, a3, a4, a5, a6, a7, a8, a9, a10, a11, a12, a13, a14, a15, a16, a17, a18, a19, a20) (nI 2) := by
  unfold wpX_fill
  refine nm_r (e' := nI 768) (by rfl) (ov_f10 (o := 768) (by omega) (fun n b hb1 hb2 => ?_))
  refine pk_le 384 384 (fun _ => ?_) (fun z => absurd z (by omega))
  have e7 : a7 (nI 2).toNatClampNeg = 3 := by rw [nI_clamp (by omega)]; exact h7
  have e8 : a8 (nI 2).toNatClampNeg = nI 1 := by rw [nI_clamp (by omega)]; exact h8
  have e4 : a4 (a8 (nI 2).toNatClampNeg).toNatClampNeg = nI 2 := by rw [e8, nI_clamp (by omega)]; exact h4
  refine And.intro (pk_in 2 12 (by omega)) (br_f (by rw [e7]; decide) ?_)
  refine And.intro (pk_in 2 12 (by omega)) (br_f (by rw [e7]; decide) ?_)
  refine And.intro (pk_in 2 12 (by omega)) (br_f (by rw [e7]; decide) ?_)
  refine pk_loop (σ := (Nat → Int32) × (Nat → Int32) × (Nat → Int32)) (fun n i w => wX_fill_160 post (nI 2) n (nI i) n0 n1 n2 a1 a2 a3 a4 a5 a6 a7 a8 a9 a10 a11 a12 a13 w.1 a15 w.2.1 w.2.2 a18 a19 a20)
    (fun i w => (∀ t, t < 3 → ∀ c, c < 128 → w.1 ((3 * 2 + t) * 128 + c) = nI (ov_sm (fun i => if sg i % 3 = t then ov_ws e sg sk lit st i u c else 0) i)) ∧ (∀ m, m < 768 → w.1 m = a14 m)) 2 0 (b, a16, a17) (by omega) ⟨fun t ht c hc => ?_, fun m hm => ?_⟩ ?_ ?_
  · show b ((3 * 2 + t) * 128 + c) = nI 0
    rw [show (3 * 2 + t) * 128 + c = 768 + (t * 128 + c) by omega, hb1 _ (by omega), nI_0]
  · exact hb2 m (by omega)
  · intro n w h
    refine And.intro (pk_in 2 12 (by omega)) (And.intro (pk_in 1 3 (by omega) e8) ?_)
    refine pk_le 2 2 (fun _ => ?_) (fun z => absurd z (by omega)) (hx := e4)
    exact H w.1 w.2.1 w.2.2 h.1
  · intro n i w hi h hw
    refine And.intro (pk_in 2 12 (by omega)) (And.intro (pk_in 1 3 (by omega) e8) ?_)
    refine pk_le 2 i (fun z => absurd z (by omega)) (fun _ => ?_) (hx := e4)
    obtain ⟨s1, s2, s3, s4⟩ := hs i hi
    refine And.intro (pk_in 2 12 (by omega)) ?_
    refine ov_join (k := 2) (s := 4 + i) (sg := sg i) (sc := sk i) (lf := 0) (rt := 1) (e := e) (G := fun c => ov_sm (fun j => if sg j % 3 = sg i % 3 then ov_ws e sg sk lit st j u c else 0) i) (T0 := ov_t0 st lit) (T1 := ov_t1 u) rfl
      (by rw [e8, show (4 : Int32) = nI 4 from rfl, pk_mul, nI_add]) (by omega) (by omega) s1 s2 (by omega) (by omega) he s3 s4 h9 h10
      (fun t ht c hc => ?_) (fun t ht c hc => ?_) (fun j hj => ?_) (fun b14 b16 b17 k1 k2 => ?_)
    · rw [h.2 _ (by omega)]; exact hT0 t ht c hc
    · rw [h.2 _ (by omega)]; exact hT1 t ht c hc
    · exact h.1 (sg i % 3) (by omega) j hj
    · refine nm_r (nI_1 i) (hw (b14, b16, b17) ⟨fun t ht c hc => ?_, fun m hm => ?_⟩)
      · show b14 ((3 * 2 + t) * 128 + c) = nI (ov_sm (fun i => if sg i % 3 = t then ov_ws e sg sk lit st i u c else 0) i + (if sg i % 3 = t then ov_ws e sg sk lit st i u c else 0))
        by_cases et : sg i % 3 = t
        · subst et
          rw [k1 c hc, if_pos rfl, ov_joined e sg sk lit st i hu hc]
        · rw [if_neg et, Nat.add_zero, k2 _ (by omega)]
          exact h.1 t ht c hc
      · show b14 m = a14 m
        rw [k2 m (by omega)]
        exact h.2 m hm
/-- what the set-up has left, and no query changes -/
def ov_F (e : Nat → Nat → Nat) (sg sk lit : Nat → Nat) (st kn : Nat) (a1 a2 a3 a4 a5 a6 a7 a8 a9 a10 : Nat → Int32) : Prop :=
  (∀ t q, t < 3 → q < 3 → e t q ≤ 10 ∧ a1 (3 * t + q) = nI (e t q) - 1) ∧
  (∀ i, i < 2 → sg i < 27 ∧ sk i ≤ 9 ∧ a2 (4 + i) = nI (sg i) ∧ a3 (4 + i) = nI (sk i)) ∧
  (a4 1 = 2 ∧ st < 8 ∧ kn < 8 ∧ a5 0 = nI kn) ∧ (∀ t, t < 3 → lit t ≤ 9 ∧ a6 t = nI (lit t)) ∧
  (a7 0 = 0 ∧ a7 1 = 1 ∧ a7 2 = 3) ∧ (a8 0 = nI st ∧ a8 1 = 0 ∧ a8 2 = 1) ∧ (a9 2 = nI 0 ∧ a10 2 = nI 1)
/-- the tables for one pair of variable types -/
theorem ov_fillAll {post : St2 → Prop} {n0 n1 n2 : Int32} {a1 a2 a3 a4 a5 a6 a7 a8 a9 a10 a11 a12 a13 a14 a15 a16 a17 a18 a19 a20 : Nat → Int32} {e : Nat → Nat → Nat} {sg sk lit : Nat → Nat} {st kn p : Nat} (hF : ov_F e sg sk lit st kn a1 a2 a3 a4 a5 a6 a7 a8 a9 a10) (hp : p < 9)
    (h12 : ∀ k, k < 3 → a12 k = 1)
    (H : ∀ b13 b14 b16 b17, (∀ t, t < 3 → ∀ c, c < 128 → b14 ((3 * 2 + t) * 128 + c) = nI (ov_t2 e sg sk lit st (p / 3) t c)) → post (n0, n1, n2, a1, a2, a3, a4, a5, a6, a7, a8, a9, a10, a11, a12, b13, b14, a15, b16, b17, a18, a19, a20)) :
    wpX_fillAll post (n0, n1, n2, a1, a2, a3, a4, a5, a6, a7, a8, a9, a10, a11, a12, a13, a14, a15, a16, a17, a18, a19, a20) (nI 2) (nI p) := by
  obtain ⟨f1, f2, ⟨f3, f4, f5, f6⟩, f7, ⟨f8, f9, f10⟩, ⟨f11, f12, f13⟩, f14, f15⟩ := hF
  unfold wpX_fillAll
  refine And.intro (by decide) (nm_r (e' := upd a13 0 (nI (p / 3))) (by rw [ov_d3 (by omega)]) (And.intro (by decide) (nm_r (e' := upd (upd a13 0 (nI (p / 3))) 1 (nI (p % 3))) (by rw [ov_r3 (by omega)]) ?_)))
  refine ⟨4, ?_⟩
  refine pk_lt 2 0 (fun z => absurd z (by omega)) (fun _ => And.intro (pk_in 0 12 (by omega)) (br_f (by rw [pk_cl 0, h12 0 (by omega)]; decide) ?_))
  refine ov_fill0 f4 f8 f11 f7 (fun b k1 k2 => nm_r (e' := nI 1) rfl ?_)
  refine pk_lt 2 1 (fun z => absurd z (by omega)) (fun _ => And.intro (pk_in 1 12 (by omega)) (br_f (by rw [pk_cl 1, h12 1 (by omega)]; decide) ?_))
  refine ov_fill1 (u := p / 3) (by omega) f9 f12 (by rw [pk_un (by omega), pk_us]) (fun b' k3 k4 => nm_r (e' := nI 2) rfl ?_)
  refine pk_lt 2 2 (fun z => absurd z (by omega)) (fun _ => And.intro (pk_in 2 12 (by omega)) (br_f (by rw [pk_cl 2, h12 2 (by omega)]; decide) ?_))
  refine ov_fill2 (e := e) (sg := sg) (sk := sk) (lit := lit) (st := st) (u := p / 3) (by omega) f1 f2 f3 f10 f13 f14 f15 (fun t ht c hc => ?_) k3 (fun b14 b16 b17 k5 => nm_r (e' := nI 3) rfl ?_)
  · rw [k4 _ (by omega)]; exact k1 t ht c hc
  · exact pk_lt 2 3 (fun _ => H _ b14 b16 b17 k5) (fun z => absurd z (by omega))
end
section
/-- the parts of node 2 are all three nodes, and variable 0 is used -/
theorem ov_mark {post : St2 → Prop} {n0 n1 n2 : Int32} {a1 a2 a3 a4 a5 a6 a7 a8 a9 a10 a11 a12 a13 a14 a15 a16 a17 a18 a19 a20 : Nat → Int32} (h7 : a7 0 = 0 ∧ a7 1 = 1 ∧ a7 2 = 3) (h8 : a8 1 = 0) (h9 : a9 2 = nI 0) (h10 : a10 2 = nI 1)
    (H : ∀ b, (∀ k, k < 3 → b k = 1) → post (n0, n1, 1, a1, a2, a3, a4, a5, a6, a7, a8, a9, a10, a11, b, a13, a14, a15, a16, a17, a18, a19, a20)) : wpX_markParts post (n0, n1, n2, a1, a2, a3, a4, a5, a6, a7, a8, a9, a10, a11, a12, a13, a14, a15, a16, a17, a18, a19, a20) (nI 2) := by
  unfold wpX_markParts
  refine pk_loop (fun n i s => wX_markParts_2 post (nI 2) n0 n1 n2 n (nI i) a1 a2 a3 a4 a5 a6 a7 a8 a9 a10 a11 s a13 a14 a15 a16 a17 a18 a19 a20) (fun i s => ∀ j, j < i → s j = if j = 2 then 1 else 0) 12 0 a12 (by omega) (fun j hj => absurd hj (by omega)) ?_ ?_
  · intro n s h
    refine pk_le 12 12 (fun _ => ?_) (fun z => absurd z (by omega))
    have e9 : a9 (nI 2).toNatClampNeg = nI 0 := by rw [pk_cl 2]; exact h9
    have e10 : a10 (nI 2).toNatClampNeg = nI 1 := by rw [pk_cl 2]; exact h10
    have s0 : s 0 = 0 := h 0 (by omega)
    have s1 : s 1 = 0 := h 1 (by omega)
    have s2 : s 2 = 1 := h 2 (by omega)
    have b0 : upd (upd s 0 1) 1 1 0 = 1 := by rw [pk_un (by omega), pk_us]
    have b1 : upd (upd s 0 1) 1 1 1 = 1 := by rw [pk_us]
    have b2 : upd (upd s 0 1) 1 1 2 = 1 := by rw [pk_un (by omega), pk_un (by omega), s2]
    refine ⟨4, ?_⟩
    refine br_f (by decide) (And.intro (pk_in 2 12 (by omega)) (br_f (by rw [pk_cl 2, s2]; decide) (And.intro (pk_in 2 12 (by omega)) (br_t (by rw [pk_cl 2]; exact h7.2.2) ?_))))
    refine And.intro (pk_in 2 12 (by omega)) (And.intro (pk_in 0 12 (by omega) e9) (nm_r (e' := upd s 0 1) (by rw [e9, pk_cl 0]) ?_))
    refine And.intro (pk_in 2 12 (by omega)) (And.intro (pk_in 1 12 (by omega) e10) (nm_r (e' := upd (upd s 0 1) 1 1) (by rw [e10, pk_cl 1]) ?_))
    refine And.intro (pk_in 2 12 (by omega)) (br_f (by rw [pk_cl 2, b2]; decide) (And.intro (pk_in 2 12 (by omega)) (br_f (by rw [pk_cl 2, h7.2.2]; decide) (nm_r (e' := nI 1) rfl ?_))))
    refine br_f (by decide) (And.intro (pk_in 1 12 (by omega)) (br_f (by rw [pk_cl 1, b1]; decide) (And.intro (pk_in 1 12 (by omega)) (br_f (by rw [pk_cl 1, h7.2.1]; decide) ?_))))
    refine And.intro (pk_in 1 12 (by omega)) (br_f (by rw [pk_cl 1, b1]; decide) (And.intro (pk_in 1 12 (by omega)) (br_t (by rw [pk_cl 1]; exact h7.2.1) ?_)))
    refine And.intro (pk_in 1 12 (by omega)) (nm_r (e' := 1) (by rw [pk_cl 1, h8]; decide) (nm_r (e' := nI 0) rfl ?_))
    refine br_f (by decide) (And.intro (pk_in 0 12 (by omega)) (br_f (by rw [pk_cl 0, b0]; decide) (And.intro (pk_in 0 12 (by omega)) (br_f (by rw [pk_cl 0, h7.1]; decide) ?_))))
    refine And.intro (pk_in 0 12 (by omega)) (br_f (by rw [pk_cl 0, b0]; decide) (And.intro (pk_in 0 12 (by omega)) (br_f (by rw [pk_cl 0, h7.1]; decide) (nm_r (e' := -1) rfl ?_))))
    refine br_t (by decide) (H _ (fun k hk => ?_))
    have hk' : k = 0 ∨ k = 1 ∨ k = 2 := by omega
    rcases hk' with rfl | rfl | rfl
    · exact b0
    · exact b1
    · exact b2
  · intro n i s hi h hw
    refine pk_le 12 i (fun z => absurd z (by omega)) (fun _ => ?_)
    refine pk_eq i 2 (fun z => And.intro (pk_in i 12 hi) (nm_r (e' := upd s i 1) (by rw [pk_cl i]) (nm_r (nI_1 i) (hw _ (fun j hj => ?_))))) (fun z => And.intro (pk_in i 12 hi) (nm_r (e' := upd s i 0) (by rw [pk_cl i]) (nm_r (nI_1 i) (hw _ (fun j hj => ?_)))))
    · by_cases ej : j = i
      · rw [ej, pk_us, if_pos z]
      · rw [pk_un ej]; exact h j (by omega)
    · by_cases ej : j = i
      · rw [ej, pk_us, if_neg z]
      · rw [pk_un ej]; exact h j (by omega)
theorem ov_mh0 {post : Int32 → Prop} {n0 n1 : Int32} {a1 a2 a3 a4 a5 a6 a7 a8 a9 a10 a11 a12 a13 a14 a15 a16 a17 a18 a19 a20 : Nat → Int32} {p1 : Int32} {kn t : Nat} (hp : p1 = nI t) (hk : kn < 8) (ht : t < 3) (h5 : a5 0 = nI kn) (H1 : ov_bit kn t = 1 → post 1) (H0 : ¬ ov_bit kn t = 1 → post 0) : wpX_mayHave post (n0, n1, 1, a1, a2, a3, a4, a5, a6, a7, a8, a9, a10, a11, a12, a13, a14, a15, a16, a17, a18, a19, a20) 0 p1 := by
  subst hp
  unfold wpX_mayHave
  have hb := ov_bit2 kn t
  refine br_f (by decide) (And.intro (pk_in 0 2 (by omega)) ?_)
  exact pk_eq (ov_bit kn t) 1 H1 H0 (hx := by rw [pk_cl 0, h5]; exact ov_bitI kn hk t ht)
theorem ov_mh1 {post : Int32 → Prop} {n0 n1 : Int32} {a1 a2 a3 a4 a5 a6 a7 a8 a9 a10 a11 a12 a13 a14 a15 a16 a17 a18 a19 a20 : Nat → Int32} {p1 : Int32} {r : Nat} (hp : p1 = nI r) (hr : r < 3) (H1 : r = 0 → post 1) (H0 : ¬ r = 0 → post 0) : wpX_mayHave post (n0, n1, 1, a1, a2, a3, a4, a5, a6, a7, a8, a9, a10, a11, a12, a13, a14, a15, a16, a17, a18, a19, a20) 1 p1 := by
  subst hp
  unfold wpX_mayHave
  exact br_t (by decide) (pk_eq r 0 H1 H0)
theorem ov_s66 {post : St2 → Prop} {J : Int32 → Int32 → Int32 → Int32 → (Nat → Int32) → (Nat → Int32) → (Nat → Int32) → (Nat → Int32) → (Nat → Int32) → (Nat → Int32) → (Nat → Int32) → (Nat → Int32) → (Nat → Int32) → (Nat → Int32) → (Nat → Int32) → (Nat → Int32) → (Nat → Int32) → (Nat → Int32) → (Nat → Int32) → (Nat → Int32) → (Nat → Int32) → (Nat → Int32) → (Nat → Int32) → (Nat → Int32) → Prop} {n0 n1 n2 : Int32} {a1 a2 a3 a4 a5 a6 a7 a8 a9 a10 a11 a12 a13 a14 a15 a16 a17 a18 a19 a20 : Nat → Int32} {x3 : Nat} {F : Nat → Nat} {T : Nat → Nat → Nat} (hF : ∀ c, c < 128 → a15 c = nI (F c)) (hT : ∀ t, t < 3 → ∀ c, c < 128 → a14 ((3 * 2 + t) * 128 + c) = nI (T t c))
    (H : ∀ b, (∀ c, c < 128 → b c = nI (F c + ov_sm (fun t => T t c) 3)) → J (nI (x3 + 1)) n0 n1 n2 a1 a2 a3 a4 a5 a6 a7 a8 a9 a10 a11 a12 a13 a14 b a16 a17 a18 a19 a20) : ∃ n, wX_sumUp_66 post J (nI 2) 3 (nI x3) n 0 n0 n1 n2 a1 a2 a3 a4 a5 a6 a7 a8 a9 a10 a11 a12 a13 a14 a15 a16 a17 a18 a19 a20 :=
  pk_loop (fun n i s => wX_sumUp_66 post J (nI 2) 3 (nI x3) n (nI i) n0 n1 n2 a1 a2 a3 a4 a5 a6 a7 a8 a9 a10 a11 a12 a13 a14 s a16 a17 a18 a19 a20) (fun i s => ∀ c, c < 128 → s c = nI (F c + ov_sm (fun t => T t c) i)) 3 0 a15 (by omega) hF
    (fun n s h => pk_le 3 3 (fun _ => nm_r (nI_1 x3) (H s h)) (fun z => absurd z (by omega)))
    (fun n i s hi h hw => pk_le 3 i (fun z => absurd z (by omega)) (fun _ => ov_aT (k := 2) (by omega) hi h (hT i hi) (fun b hb => nm_r (nI_1 i) (hw b (fun c hc => by rw [hb c hc, Nat.add_assoc]; rfl)))))
theorem ov_totS (e : Nat → Nat → Nat) (sg sk lit : Nat → Nat) (st kn c p : Nat) : ov_tot e sg sk lit st kn c (p + 1) = ov_tot e sg sk lit st kn c p + (if p % 3 = 0 ∧ ov_bit kn (p / 3) = 1 then ov_tt e sg sk lit st (p / 3) c else 0) := rfl
theorem ov_s29 {post : St2 → Prop} {n0 n1 : Int32} {a1 a2 a3 a4 a5 a6 a7 a8 a9 a10 a11 a12 a13 a14 a15 a16 a17 a18 a19 a20 : Nat → Int32} {e : Nat → Nat → Nat} {sg sk lit : Nat → Nat} {st kn : Nat} (hF : ov_F e sg sk lit st kn a1 a2 a3 a4 a5 a6 a7 a8 a9 a10) (h12 : ∀ k, k < 3 → a12 k = 1) (hz : ∀ c, c < 128 → a15 c = 0)
    (H : ∀ b13 b14 b15 b16 b17, (∀ c, c < 128 → b15 c = nI (ov_tot e sg sk lit st kn c 9)) → post (n0, n1, 1, a1, a2, a3, a4, a5, a6, a7, a8, a9, a10, a11, a12, b13, b14, b15, b16, b17, a18, a19, a20)) :
    ∃ n, wX_sumUp_29 post (nI 2) 3 n 0 n0 n1 1 a1 a2 a3 a4 a5 a6 a7 a8 a9 a10 a11 a12 a13 a14 a15 a16 a17 a18 a19 a20 := by
  refine pk_loop (σ := (Nat → Int32) × (Nat → Int32) × (Nat → Int32) × (Nat → Int32) × (Nat → Int32)) (fun n i w => wX_sumUp_29 post (nI 2) 3 n (nI i) n0 n1 1 a1 a2 a3 a4 a5 a6 a7 a8 a9 a10 a11 a12 w.1 w.2.1 w.2.2.1 w.2.2.2.1 w.2.2.2.2 a18 a19 a20)
    (fun i w => ∀ c, c < 128 → w.2.2.1 c = nI (ov_tot e sg sk lit st kn c i)) 9 0 (a13, a14, a15, a16, a17) (by omega) hz ?_ ?_
  · intro n w h
    exact pk_le 9 9 (fun _ => H w.1 w.2.1 w.2.2.1 w.2.2.2.1 w.2.2.2.2 h) (fun z => absurd z (by omega))
  · intro n i w hi h hw
    refine pk_le 9 i (fun z => absurd z (by omega)) (fun _ => And.intro (by decide) ?_)
    have hskip : ¬ (i % 3 = 0 ∧ ov_bit kn (i / 3) = 1) → ∀ c, c < 128 → w.2.2.1 c = nI (ov_tot e sg sk lit st kn c (i + 1)) := fun hn c hc => by
      rw [h c hc, ov_totS, if_neg hn, Nat.add_zero]
    refine ov_mh0 (t := i / 3) (ov_d3 (by omega)) hF.2.2.1.2.2.1 (by omega) hF.2.2.1.2.2.2 (fun hb' => ?_) (fun hb' => br_t rfl (nm_r (nI_1 i) (hw w (hskip (fun z => hb' z.2)))))
    refine br_f (by decide) (And.intro (by decide) ?_)
    refine ov_mh1 (r := i % 3) (ov_r3 (by omega)) (by omega) (fun hr => ?_) (fun hr => br_t rfl (nm_r (nI_1 i) (hw w (hskip (fun z => hr z.1)))))
    refine br_f (by decide) ?_
    refine ov_fillAll (p := i) hF hi h12 (fun b13 b14 b16 b17 k => ?_)
    refine ov_s66 (T := fun t c => ov_t2 e sg sk lit st (i / 3) t c) h k (fun b hb => hw (b13, b14, b, b16, b17) (fun c hc => ?_))
    show b c = nI (ov_tot e sg sk lit st kn c (i + 1))
    rw [hb c hc, ov_totS, if_pos ⟨hr, hb'⟩]
    rfl
theorem ov_sumUp {post : St2 → Prop} {n0 n1 n2 : Int32} {a1 a2 a3 a4 a5 a6 a7 a8 a9 a10 a11 a12 a13 a14 a15 a16 a17 a18 a19 a20 : Nat → Int32} {e : Nat → Nat → Nat} {sg sk lit : Nat → Nat} {st kn : Nat} (hF : ov_F e sg sk lit st kn a1 a2 a3 a4 a5 a6 a7 a8 a9 a10)
    (H : ∀ b12 b13 b14 b15 b16 b17, (∀ k, k < 3 → b12 k = 1) → (∀ c, c < 128 → b15 c = nI (ov_cnt (ov_pv e sg sk lit st kn) c 18)) → post (n0, n1, 1, a1, a2, a3, a4, a5, a6, a7, a8, a9, a10, a11, b12, b13, b14, b15, b16, b17, a18, a19, a20)) :
    wpX_sumUp post (n0, n1, n2, a1, a2, a3, a4, a5, a6, a7, a8, a9, a10, a11, a12, a13, a14, a15, a16, a17, a18, a19, a20) 2 3 := by
  unfold wpX_sumUp
  refine ov_mark hF.2.2.2.2.1 hF.2.2.2.2.2.1.2.1 hF.2.2.2.2.2.2.1 hF.2.2.2.2.2.2.2 (fun b12 h12 => ?_)
  refine pk_loop (fun n i s => wX_sumUp_7 post (nI 2) 3 n0 n1 1 n (nI i) a1 a2 a3 a4 a5 a6 a7 a8 a9 a10 a11 b12 a13 a14 s a16 a17 a18 a19 a20) (fun i s => ∀ c, c < i → s c = 0) 128 0 a15 (by omega) (fun c hc => absurd hc (by omega)) ?_ ?_
  · intro n s h
    refine pk_le 128 128 (fun _ => ?_) (fun z => absurd z (by omega))
    exact ov_s29 hF h12 h (fun b13 b14 b15 b16 b17 k => H b12 b13 b14 b15 b16 b17 h12 (fun c hc => by rw [k c hc, ov_tot_cnt]))
  · intro n i s hi h hw
    refine pk_le 128 i (fun z => absurd z (by omega)) (fun _ => And.intro (pk_in i 128 hi) (nm_r (e' := upd s i 0) (by rw [pk_cl i]) (nm_r (nI_1 i) (hw _ (fun c hc => ?_)))))
    by_cases ec : c = i
    · rw [ec, pk_us]
    · rw [pk_un ec]; exact h c (by omega)
end
section
theorem ov_isN2 {post : Int32 → Prop} {n1 n2 : Int32} {a1 a2 a3 a4 a5 a6 a7 a8 a9 a10 a11 a12 a13 a14 a15 a16 a17 a18 a19 a20 : Nat → Int32} (h : post 1) : wpX_isNode post (3, n1, n2, a1, a2, a3, a4, a5, a6, a7, a8, a9, a10, a11, a12, a13, a14, a15, a16, a17, a18, a19, a20) 2 := by
  unfold wpX_isNode
  exact br_f (by decide) (br_f (by decide) h)
theorem ov_isN3 {post : Int32 → Prop} {n1 n2 : Int32} {a1 a2 a3 a4 a5 a6 a7 a8 a9 a10 a11 a12 a13 a14 a15 a16 a17 a18 a19 a20 : Nat → Int32} (h : post 0) : wpX_isNode post (3, n1, n2, a1, a2, a3, a4, a5, a6, a7, a8, a9, a10, a11, a12, a13, a14, a15, a16, a17, a18, a19, a20) 3 := by
  unfold wpX_isNode
  exact br_f (by decide) (br_t (by decide) h)
theorem ov_ref {post : Int32 → Prop} {n1 n2 : Int32} {a1 a2 a3 a4 a5 a6 a7 a8 a9 a10 a11 a12 a13 a14 a15 a16 a17 a18 a19 a20 : Nat → Int32} (h : post 0) : wpX_refused post (3, n1, n2, a1, a2, a3, a4, a5, a6, a7, a8, a9, a10, a11, a12, a13, a14, a15, a16, a17, a18, a19, a20) 2 3 := by
  unfold wpX_refused
  refine ov_isN2 ?_
  exact br_f (by decide) (br_f (by decide) (br_t (by decide) h))
theorem ov_pvB {e : Nat → Nat → Nat} {sg sk lit : Nat → Nat} {st kn : Nat} {a1 a2 a3 a4 a5 a6 a7 a8 a9 a10 : Nat → Int32} (hF : ov_F e sg sk lit st kn a1 a2 a3 a4 a5 a6 a7 a8 a9 a10) : ∀ q, q < 18 → ov_pv e sg sk lit st kn q ≤ 128 := fun q hq =>
  ov_pv_le st kn (fun t s ht hs => (hF.1 t s ht hs).1) (fun i hi => (hF.2.1 i hi).1) (fun i hi => (hF.2.1 i hi).2.1) (fun t ht => (hF.2.2.2.1 t ht).1) hq
/-- solutions: all ways -/
theorem ov_sol {post : Int32 → St2 → Prop} {n1 n2 : Int32} {a1 a2 a3 a4 a5 a6 a7 a8 a9 a10 a11 a12 a13 a14 a15 a16 a17 a18 a19 a20 : Nat → Int32} {e : Nat → Nat → Nat} {sg sk lit : Nat → Nat} {st kn : Nat} (hF : ov_F e sg sk lit st kn a1 a2 a3 a4 a5 a6 a7 a8 a9 a10)
    (H : ∀ n2 b12 b13 b14 b15 b16 b17, post (nI (ov_sm (fun q => if 0 < ov_pv e sg sk lit st kn q then 1 else 0) 18)) (3, n1, n2, a1, a2, a3, a4, a5, a6, a7, a8, a9, a10, a11, b12, b13, b14, b15, b16, b17, a18, a19, a20)) :
    wpX_solutions post (3, n1, n2, a1, a2, a3, a4, a5, a6, a7, a8, a9, a10, a11, a12, a13, a14, a15, a16, a17, a18, a19, a20) 2 3 := by
  unfold wpX_solutions
  refine ov_ref ?_
  refine br_t (by decide) ?_
  refine ov_sumUp hF (fun b12 b13 b14 b15 b16 b17 _ h15 => ?_)
  refine pk_loop (σ := Unit) (fun n i _ => wX_solutions_25 post 3 n1 1 a1 a2 a3 a4 a5 a6 a7 a8 a9 a10 a11 b12 b13 b14 b15 b16 b17 a18 a19 a20 n (nI (ov_sm (fun c => ov_cnt (ov_pv e sg sk lit st kn) c 18) i)) (nI i)) (fun _ _ => True) 128 0 () (by omega) trivial ?_ ?_
  · intro n _ _
    refine pk_le 128 128 (fun _ => ?_) (fun z => absurd z (by omega))
    rw [ov_all _ 18 (ov_pvB hF)]
    exact H 1 b12 b13 b14 b15 b16 b17
  · intro n i _ hi _ hw
    refine pk_le 128 i (fun z => absurd z (by omega)) (fun _ => And.intro (pk_in i 128 hi) (nm_r (e' := nI (ov_sm (fun c => ov_cnt (ov_pv e sg sk lit st kn) c 18) (i + 1))) ?_ (nm_r (nI_1 i) (hw () trivial))))
    rw [pk_cl i, h15 i hi, nI_add]; rfl
/-- the least price m (128: none) -/
def ov_L (pv : Nat → Nat) (m : Nat) : Prop := m ≤ 128 ∧ (∀ c, c < m → ov_cnt pv c 18 = 0) ∧ (m < 128 → 0 < ov_cnt pv m 18)
theorem ov_least {post : Int32 → Prop} {n0 n1 n2 : Int32} {a1 a2 a3 a4 a5 a6 a7 a8 a9 a10 a11 a12 a13 a14 a15 a16 a17 a18 a19 a20 : Nat → Int32} {pv : Nat → Nat} {m : Nat} (h15 : ∀ c, c < 128 → a15 c = nI (ov_cnt pv c 18)) (hL : ov_L pv m) (H : post (nI m)) : wpX_leastOf post (n0, n1, n2, a1, a2, a3, a4, a5, a6, a7, a8, a9, a10, a11, a12, a13, a14, a15, a16, a17, a18, a19, a20) := by
  obtain ⟨h1, h2, h3⟩ := hL
  unfold wpX_leastOf
  refine pk_loop (σ := Unit) (fun n i _ => wX_leastOf_2 post n0 n1 n2 a1 a2 a3 a4 a5 a6 a7 a8 a9 a10 a11 a12 a13 a14 a15 a16 a17 a18 a19 a20 n (nI i)) (fun _ _ => True) m 0 () (by omega) trivial ?_ ?_
  · intro n _ _
    refine pk_le 128 m (fun z => ?_) (fun z => And.intro (pk_in m 128 z) ?_)
    · have hm : m = 128 := by omega
      subst hm
      exact H
    · have hc := ov_cnt_le pv m 18
      have hp := h3 z
      exact pk_le (ov_cnt pv m 18) 0 (fun z => absurd z (by omega)) (fun _ => H) (hx := by rw [pk_cl m]; exact h15 m z)
  · intro n i _ hi _ hw
    refine pk_le 128 i (fun z => absurd z (by omega)) (fun _ => And.intro (pk_in i 128 (by omega)) ?_)
    exact pk_le (ov_cnt pv i 18) 0 (fun _ => nm_r (nI_1 i) (hw () trivial)) (fun z => absurd z (by rw [h2 i hi]; omega)) (hx := by rw [pk_cl i]; exact h15 i (by omega)) (ha := by rw [h2 i hi]; omega)
theorem ov_lc {post : Int32 → St2 → Prop} {n1 n2 : Int32} {a1 a2 a3 a4 a5 a6 a7 a8 a9 a10 a11 a12 a13 a14 a15 a16 a17 a18 a19 a20 : Nat → Int32} {e : Nat → Nat → Nat} {sg sk lit : Nat → Nat} {st kn m : Nat} (hF : ov_F e sg sk lit st kn a1 a2 a3 a4 a5 a6 a7 a8 a9 a10) (hL : ov_L (ov_pv e sg sk lit st kn) m)
    (H : ∀ n2 b12 b13 b14 b15 b16 b17, post (if m < 128 then nI m else -3) (3, n1, n2, a1, a2, a3, a4, a5, a6, a7, a8, a9, a10, a11, b12, b13, b14, b15, b16, b17, a18, a19, a20)) :
    wpX_leastCost post (3, n1, n2, a1, a2, a3, a4, a5, a6, a7, a8, a9, a10, a11, a12, a13, a14, a15, a16, a17, a18, a19, a20) 2 3 := by
  unfold wpX_leastCost
  refine ov_ref ?_
  refine br_t (by decide) ?_
  refine ov_sumUp hF (fun b12 b13 b14 b15 b16 b17 _ h15 => ?_)
  refine ov_least h15 hL ?_
  have h := H 1 b12 b13 b14 b15 b16 b17
  have hm := hL.1
  refine pk_le 128 m (fun z => ?_) (fun z => ?_)
  · rw [if_neg (by omega)] at h; exact h
  · rw [if_pos z] at h; exact h
theorem ov_bc {post : Int32 → St2 → Prop} {n1 n2 : Int32} {a1 a2 a3 a4 a5 a6 a7 a8 a9 a10 a11 a12 a13 a14 a15 a16 a17 a18 a19 a20 : Nat → Int32} {e : Nat → Nat → Nat} {sg sk lit : Nat → Nat} {st kn m : Nat} (hF : ov_F e sg sk lit st kn a1 a2 a3 a4 a5 a6 a7 a8 a9 a10) (hL : ov_L (ov_pv e sg sk lit st kn) m)
    (H : ∀ n2 b12 b13 b14 b15 b16 b17, post (if m < 128 then nI (ov_cnt (ov_pv e sg sk lit st kn) m 18) else 0) (3, n1, n2, a1, a2, a3, a4, a5, a6, a7, a8, a9, a10, a11, b12, b13, b14, b15, b16, b17, a18, a19, a20)) :
    wpX_bestCount post (3, n1, n2, a1, a2, a3, a4, a5, a6, a7, a8, a9, a10, a11, a12, a13, a14, a15, a16, a17, a18, a19, a20) 2 3 := by
  unfold wpX_bestCount
  refine ov_ref ?_
  refine br_t (by decide) ?_
  refine ov_sumUp hF (fun b12 b13 b14 b15 b16 b17 _ h15 => ?_)
  refine ov_least h15 hL ?_
  have h := H 1 b12 b13 b14 b15 b16 b17
  have hm := hL.1
  refine pk_le 128 m (fun z => ?_) (fun z => And.intro (pk_in m 128 z) ?_)
  · rw [if_neg (by omega)] at h; exact h
  · rw [if_pos z, ← h15 m z] at h
    rw [pk_cl m]; exact h
end
section
theorem ov_t2_le (e : Nat → Nat → Nat) (sg sk lit : Nat → Nat) (st u ty c : Nat) : ov_t2 e sg sk lit st u ty c ≤ 6 := by
  have h1 : ∀ i, ov_ws e sg sk lit st i u c ≤ 3 := fun i => by
    have h := ov_sm_le (f := fun t => ov_w e sg sk lit st i t u c) (b := 1) 3 (fun t _ => by
      show ov_w e sg sk lit st i t u c ≤ 1
      unfold ov_w
      split <;> omega)
    unfold ov_ws
    omega
  have h := ov_sm_le (f := fun i => if sg i % 3 = ty then ov_ws e sg sk lit st i u c else 0) (b := 3) 2 (fun i _ => by
    show (if sg i % 3 = ty then ov_ws e sg sk lit st i u c else 0) ≤ 3
    have := h1 i
    split <;> omega)
  unfold ov_t2
  omega
/-- the first type at which node 2's table has the price m -/
theorem ov_start {post : Int32 → St2 → Prop} {n0 n1 n2 : Int32} {a1 a2 a3 a4 a5 a6 a7 a8 a9 a10 a11 a12 a13 a14 a15 a16 a17 a18 a19 a20 : Nat → Int32} {T : Nat → Nat → Nat} {m : Nat} (hm : m < 128) (hT : ∀ t, t < 3 → ∀ c, c < 128 → a14 ((3 * 2 + t) * 128 + c) = nI (T t c)) (hB : ∀ t c, T t c ≤ 6)
    (H1 : ∀ t, t < 3 → 0 < T t m → post 1 (n0, n1, n2, a1, a2, a3, a4, a5, a6, a7, a8, a9, a10, a11, a12, a13, a14, a15, a16, a17, (upd a18 2 (nI m)), (upd a19 2 (nI t)), a20)) (H0 : (∀ t, t < 3 → T t m = 0) → post 0 (n0, n1, n2, a1, a2, a3, a4, a5, a6, a7, a8, a9, a10, a11, a12, a13, a14, a15, a16, a17, a18, a19, a20)) :
    wpX_startAt post (n0, n1, n2, a1, a2, a3, a4, a5, a6, a7, a8, a9, a10, a11, a12, a13, a14, a15, a16, a17, a18, a19, a20) (nI 2) 3 (nI m) := by
  unfold wpX_startAt
  refine pk_loop (σ := Unit) (fun n i _ => wX_startAt_3 post (nI 2) 3 (nI m) n0 n1 n2 a1 a2 a3 a4 a5 a6 a7 a8 a9 a10 a11 a12 a13 a14 a15 a16 a17 a18 a19 a20 n (nI i)) (fun i _ => ∀ t, t < i → T t m = 0) 3 0 () (by omega) (fun t ht => absurd ht (by omega)) ?_ ?_
  · intro n _ h
    exact pk_le 3 3 (fun _ => H0 h) (fun z => absurd z (by omega))
  · intro n i _ hi h hw
    refine pk_le 3 i (fun z => absurd z (by omega)) (fun _ => ?_)
    have ex : ((3 * nI 2) + nI i) * 128 + nI m = nI ((3 * 2 + i) * 128 + m) := by rw [ov_o, nI_add]
    have hb := hB i m
    refine ov_cc ?_
    refine nm_r (e' := nI m) (Int32.sub_zero _) (br_f (by decide) (br_f (nI_pos (by omega)) (And.intro (pk_in ((3 * 2 + i) * 128 + m) 4608 (by omega) ex) ?_)))
    refine pk_le (T i m) 0 (fun z => nm_r (nI_1 i) (hw () (fun t ht => ?_))) (fun z => ?_) (hx := by rw [ex, nI_clamp (by omega)]; exact hT i hi m hm)
    · by_cases et : t = i
      · rw [et]; omega
      · exact h t (by omega)
    · exact And.intro (pk_in 2 12 (by omega)) (nm_r (e' := upd a19 2 (nI i)) (by rw [pk_cl 2]) (And.intro (pk_in 2 12 (by omega)) (nm_r (e' := upd a18 2 (nI m)) (by rw [pk_cl 2]) (H1 i hi z))))
/-- the walk down: whatever it finds, node 2's own need and type stay -/
theorem ov_d175 {post : St2 → Prop} {J : Int32 → (Nat → Int32) → (Nat → Int32) → (Nat → Int32) → (Nat → Int32) → (Nat → Int32) → (Nat → Int32) → (Nat → Int32) → (Nat → Int32) → (Nat → Int32) → (Nat → Int32) → (Nat → Int32) → (Nat → Int32) → (Nat → Int32) → (Nat → Int32) → (Nat → Int32) → (Nat → Int32) → (Nat → Int32) → (Nat → Int32) → (Nat → Int32) → (Nat → Int32) → Prop} {n0 n1 n2 : Int32} {a1 a2 a3 a4 a5 a6 a7 a8 a9 a10 a11 a12 a13 a14 a15 a16 a17 a18 a19 a20 : Nat → Int32} {x2 x5 x6 : Int32} {tn r lt rt m ty : Nat} (hr : r < 128) (hlt : lt < 3) (hrt : rt < 3) (h9 : a9 2 = nI 0) (h10 : a10 2 = nI 1) (h18 : a18 2 = nI m) (h19 : a19 2 = nI ty)
    (H : ∀ b18 b19 b20, b18 2 = nI m → b19 2 = nI ty → J (nI (tn + 1)) a1 a2 a3 a4 a5 a6 a7 a8 a9 a10 a11 a12 a13 a14 a15 a16 a17 b18 b19 b20) :
    ∃ n, wX_descend_175 post J (nI 2) x2 (nI tn) x5 x6 (nI r) (nI ((3 * 0 + lt) * 128)) (nI ((3 * 1 + rt) * 128)) n0 n1 n2 n 0 a1 a2 a3 a4 a5 a6 a7 a8 a9 a10 a11 a12 a13 a14 a15 a16 a17 a18 a19 a20 := by
  refine pk_loop (σ := (Nat → Int32) × (Nat → Int32) × (Nat → Int32)) (fun n i w => wX_descend_175 post J (nI 2) x2 (nI tn) x5 x6 (nI r) (nI ((3 * 0 + lt) * 128)) (nI ((3 * 1 + rt) * 128)) n0 n1 n2 n (nI i) a1 a2 a3 a4 a5 a6 a7 a8 a9 a10 a11 a12 a13 a14 a15 a16 a17 w.1 w.2.1 w.2.2)
    (fun _ w => w.1 2 = nI m ∧ w.2.1 2 = nI ty) (r + 1) 0 (a18, a19, a20) (by omega) ⟨h18, h19⟩ ?_ ?_
  · intro n w h
    exact pk_lt r (r + 1) (fun _ => nm_r (nI_1 tn) (H w.1 w.2.1 w.2.2 h.1 h.2)) (fun z => absurd z (by omega))
  · intro n i w hi h hw
    have hn : wX_descend_175 post J (nI 2) x2 (nI tn) x5 x6 (nI r) (nI ((3 * 0 + lt) * 128)) (nI ((3 * 1 + rt) * 128)) n0 n1 n2 n (nI (i + 1)) a1 a2 a3 a4 a5 a6 a7 a8 a9 a10 a11 a12 a13 a14 a15 a16 a17 w.1 w.2.1 w.2.2 := hw w h
    have e9 : a9 (nI 2).toNatClampNeg = nI 0 := by rw [pk_cl 2]; exact h9
    have e10 : a10 (nI 2).toNatClampNeg = nI 1 := by rw [pk_cl 2]; exact h10
    refine pk_lt r i (fun z => absurd z (by omega)) (fun _ => pk_le 128 i (fun z => absurd z (by omega)) (fun _ => pk_le 128 (r - i) (fun z => absurd z (by omega)) (fun _ => ?_) (hy := pk_sub (by omega))))
    refine And.intro (pk_in ((3 * 0 + lt) * 128 + i) 4608 (by omega) (nI_add _ _)) (br_c (fun _ => nm_r (nI_1 i) hn) (fun _ => ?_))
    refine And.intro (pk_in ((3 * 1 + rt) * 128 + r - i) 4608 (by omega) (by rw [nI_add, pk_sub (by omega)])) (br_c (fun _ => nm_r (nI_1 i) hn) (fun _ => ?_))
    refine And.intro (by decide) (And.intro (pk_in 2 12 (by omega)) (nm_e ?_))
    refine And.intro (pk_in 2 12 (by omega)) (And.intro (pk_in 0 12 (by omega) e9) (nm_r (e' := upd w.2.1 0 x5) (by rw [e9, pk_cl 0]) ?_))
    refine And.intro (pk_in 2 12 (by omega)) (And.intro (pk_in 1 12 (by omega) e10) (nm_r (e' := upd (upd w.2.1 0 x5) 1 x6) (by rw [e10, pk_cl 1]) ?_))
    refine And.intro (pk_in 2 12 (by omega)) (And.intro (pk_in 0 12 (by omega) e9) (nm_r (e' := upd w.1 0 (nI i)) (by rw [e9, pk_cl 0]) ?_))
    refine And.intro (pk_in 2 12 (by omega)) (And.intro (pk_in 1 12 (by omega) e10) (nm_r (e' := upd (upd w.1 0 (nI i)) 1 (nI (r - i))) (by rw [e10, pk_cl 1, pk_sub (by omega)]) (nm_r (nI_1 i) ?_)))
    refine hw (upd (upd w.1 0 (nI i)) 1 (nI (r - i)), upd (upd w.2.1 0 x5) 1 x6, _) ⟨?_, ?_⟩
    · show upd (upd w.1 0 (nI i)) 1 (nI (r - i)) 2 = nI m
      rw [pk_un (by omega), pk_un (by omega)]; exact h.1
    · show upd (upd w.2.1 0 x5) 1 x6 2 = nI ty
      rw [pk_un (by omega), pk_un (by omega)]; exact h.2
theorem ov_rest {m c x y : Nat} (hm : m < 128) (hc : c ≤ 9) (hx : x ≤ 10) (hy : y ≤ 10) (h : ¬ nI m - nI c - nI x - nI y < 0) : ∃ r, r < 128 ∧ nI m - nI c - nI x - nI y = nI r := by
  have e : nI m - nI c - nI x - nI y = nI m - nI (c + x + y) := by
    rw [← nI_add, ← nI_add]
    grind
  rw [e] at h
  rw [e]
  by_cases hl : m < c + x + y
  · exact absurd (pk_sneg (by omega) hl) h
  · exact ⟨m - (c + x + y), by omega, pk_sub (by omega)⟩
theorem ov_desc {post : St2 → Prop} {n0 n1 n2 : Int32} {a1 a2 a3 a4 a5 a6 a7 a8 a9 a10 a11 a12 a13 a14 a15 a16 a17 a18 a19 a20 : Nat → Int32} {e : Nat → Nat → Nat} {sg sk lit : Nat → Nat} {st kn m ty : Nat} (hF : ov_F e sg sk lit st kn a1 a2 a3 a4 a5 a6 a7 a8 a9 a10) (hm : m < 128) (h18 : a18 2 = nI m) (h19 : a19 2 = nI ty)
    (H : ∀ b18 b19 b20, b19 2 = nI ty → post (n0, n1, n2, a1, a2, a3, a4, a5, a6, a7, a8, a9, a10, a11, a12, a13, a14, a15, a16, a17, b18, b19, b20)) : wpX_descend post (n0, n1, n2, a1, a2, a3, a4, a5, a6, a7, a8, a9, a10, a11, a12, a13, a14, a15, a16, a17, a18, a19, a20) (nI 2) := by
  obtain ⟨f1, f2, ⟨f3, f4, f5, f6⟩, f7, ⟨f8, f9, f10⟩, ⟨f11, f12, f13⟩, f14, f15⟩ := hF
  unfold wpX_descend
  refine And.intro (pk_in 2 12 (by omega)) (nm_r (e' := nI 1) (by rw [pk_cl 2]; exact f13) ?_)
  refine pk_loop (σ := (Nat → Int32) × (Nat → Int32) × (Nat → Int32)) (fun n i w => wX_descend_9 post (nI 2) (nI 1) n0 n1 n2 n (nI i) a1 a2 a3 a4 a5 a6 a7 a8 a9 a10 a11 a12 a13 a14 a15 a16 a17 w.1 w.2.1 w.2.2)
    (fun _ w => w.1 2 = nI m ∧ w.2.1 2 = nI ty) 18 0 (a18, a19, a20) (by omega) ⟨h18, h19⟩ ?_ ?_
  · intro n w h
    refine And.intro (pk_in 1 3 (by omega)) (pk_le 18 18 (fun _ => H w.1 w.2.1 w.2.2 h.2) (fun z => absurd z (by omega)) (hx := by rw [pk_cl 1, f3]; rfl))
  · intro n i w hi h hw
    have hn : wX_descend_9 post (nI 2) (nI 1) n0 n1 n2 n (nI (i + 1)) a1 a2 a3 a4 a5 a6 a7 a8 a9 a10 a11 a12 a13 a14 a15 a16 a17 w.1 w.2.1 w.2.2 := hw w h
    obtain ⟨s1, s2, s3, s4⟩ := f2 (i / 9) (by omega)
    obtain ⟨g1, g2⟩ := f1 (i / 3 % 3) (sg (i / 9) / 9) (by omega) (by omega)
    obtain ⟨g3, g4⟩ := f1 (i % 3) (sg (i / 9) / 3 % 3) (by omega) (by omega)
    have k1 : 3 * nI (i / 3 % 3) + nI (sg (i / 9)) / 9 = nI (3 * (i / 3 % 3) + sg (i / 9) / 9) := by rw [ov_d9 s1, ov_ix]
    have k2 : 3 * nI (i % 3) + (nI (sg (i / 9)) / 3 - nI (sg (i / 9)) / 3 / 3 * 3) = nI (3 * (i % 3) + sg (i / 9) / 3 % 3) := by rw [ov_dr s1, ov_ix]
    refine And.intro (pk_in 1 3 (by omega)) (pk_le 18 i (fun z => absurd z (by omega)) (fun _ => ?_) (hx := by rw [pk_cl 1, f3]; rfl))
    refine And.intro (by decide) (nm_r (e' := nI (4 + i / 9)) (by rw [ov_d9 (by omega), show (4 : Int32) = nI 4 from rfl, pk_mul, nI_add]) ?_)
    refine And.intro (by decide) (And.intro (by decide) (nm_r (e' := nI (i / 3 % 3)) (ov_dr (by omega)) ?_))
    refine And.intro (by decide) (nm_r (e' := nI (i % 3)) (ov_r3 (by omega)) ?_)
    refine And.intro (pk_in (4 + i / 9) 12 (by omega)) (nm_r (e' := nI (sg (i / 9))) (by rw [nI_clamp (by omega)]; exact s3) ?_)
    refine And.intro (by decide) (And.intro (pk_in (3 * (i / 3 % 3) + sg (i / 9) / 9) 9 (by omega) k1) (nm_r (e' := nI (e (i / 3 % 3) (sg (i / 9) / 9)) - 1) (by rw [k1, nI_clamp (by omega)]; exact g2) ?_))
    refine And.intro (by decide) (And.intro (by decide) (And.intro (pk_in (3 * (i % 3) + sg (i / 9) / 3 % 3) 9 (by omega) k2) (nm_r (e' := nI (e (i % 3) (sg (i / 9) / 3 % 3)) - 1) (by rw [k2, nI_clamp (by omega)]; exact g4) ?_)))
    generalize e (i / 3 % 3) (sg (i / 9) / 9) = x at g1
    generalize e (i % 3) (sg (i / 9) / 3 % 3) = y at g3
    refine And.intro (pk_in 2 12 (by omega)) (And.intro (pk_in (4 + i / 9) 12 (by omega)) (nm_r (e' := nI m - nI (sk (i / 9)) - (nI x - 1) - (nI y - 1)) (by rw [pk_cl 2, nI_clamp (show 4 + i / 9 < 2 ^ 31 by omega), h.1, s4]) ?_))
    refine And.intro (by decide) (And.intro (pk_in 2 12 (by omega)) (br_c (fun _ => ?_) (fun _ => nm_r (nI_1 i) hn)))
    refine br_c (fun _ => nm_r (nI_1 i) hn) (fun hx0 => br_c (fun _ => nm_r (nI_1 i) hn) (fun hy0 => br_c (fun _ => nm_r (nI_1 i) hn) (fun hr0 => ?_)))
    cases x with
    | zero => exact absurd ov_cn hx0
    | succ x =>
      cases y with
      | zero => exact absurd ov_cn hy0
      | succ y =>
        rw [nI_pred, nI_pred] at hr0
        obtain ⟨r, hr, er⟩ := ov_rest hm s2 (by omega) (by omega) hr0
        rw [nI_pred, nI_pred, er]
        refine And.intro (pk_in 2 12 (by omega)) (nm_r (e' := nI ((3 * 0 + i / 3 % 3) * 128)) (by rw [pk_cl 2, f14, ov_o]) (And.intro (pk_in 2 12 (by omega)) (nm_r (e' := nI ((3 * 1 + i % 3) * 128)) (by rw [pk_cl 2, f15, ov_o]) ?_)))
        exact ov_d175 hr (by omega) (by omega) f14 f15 h.1 h.2 (fun b18 b19 b20 z1 z2 => hw (b18, b19, b20) ⟨z1, z2⟩)
theorem ov_s93 {post : Int32 → St2 → Prop} {n0 n1 n2 : Int32} {a1 a2 a3 a4 a5 a6 a7 a8 a9 a10 a11 a12 a13 a14 a15 a16 a17 a18 a19 a20 : Nat → Int32} {e : Nat → Nat → Nat} {sg sk lit : Nat → Nat} {st kn m ty : Nat} (hF : ov_F e sg sk lit st kn a1 a2 a3 a4 a5 a6 a7 a8 a9 a10) (hm : m < 128) (h12 : ∀ k, k < 3 → a12 k = 1) (h18 : a18 2 = nI m) (h19 : a19 2 = nI ty)
    (H : ∀ b18 b19 b20, b19 2 = nI ty → post 1 (n0, n1, n2, a1, a2, a3, a4, a5, a6, a7, a8, a9, a10, a11, a12, a13, a14, a15, a16, a17, b18, b19, b20)) : ∃ n, wX_settle_93 post n (nI 2) n0 n1 n2 a1 a2 a3 a4 a5 a6 a7 a8 a9 a10 a11 a12 a13 a14 a15 a16 a17 a18 a19 a20 := by
  have h7 := hF.2.2.2.2.1
  refine ⟨4, ?_⟩
  refine br_f (by decide) (And.intro (pk_in 2 12 (by omega)) (br_f (by rw [pk_cl 2, h12 2 (by omega)]; decide) (And.intro (pk_in 2 12 (by omega)) (br_t (by rw [pk_cl 2]; exact h7.2.2) ?_))))
  refine ov_desc hF hm h18 h19 (fun b18 b19 b20 k => nm_r (e' := nI 1) rfl ?_)
  refine br_f (by decide) (And.intro (pk_in 1 12 (by omega)) (br_f (by rw [pk_cl 1, h12 1 (by omega)]; decide) (And.intro (pk_in 1 12 (by omega)) (br_f (by rw [pk_cl 1, h7.2.1]; decide) (nm_r (e' := nI 0) rfl ?_)))))
  refine br_f (by decide) (And.intro (pk_in 0 12 (by omega)) (br_f (by rw [pk_cl 0, h12 0 (by omega)]; decide) (And.intro (pk_in 0 12 (by omega)) (br_f (by rw [pk_cl 0, h7.1]; decide) (nm_r (e' := -1) rfl ?_)))))
  exact br_t (by decide) (H b18 b19 b20 k)
theorem ov_s33 {post : Int32 → St2 → Prop} {n0 n1 : Int32} {a1 a2 a3 a4 a5 a6 a7 a8 a9 a10 a11 a12 a13 a14 a15 a16 a17 a18 a19 a20 : Nat → Int32} {e : Nat → Nat → Nat} {sg sk lit : Nat → Nat} {st kn m : Nat} (hF : ov_F e sg sk lit st kn a1 a2 a3 a4 a5 a6 a7 a8 a9 a10) (hm : m < 128) (h12 : ∀ k, k < 3 → a12 k = 1) (hp : 0 < ov_tot e sg sk lit st kn m 9)
    (H : ∀ u ty, u < 3 → ty < 3 → ov_bit kn u = 1 → 0 < ov_t2 e sg sk lit st u ty m → ∀ b13 b14 b16 b17 b18 b19 b20, b19 2 = nI ty → post 1 (n0, n1, 1, a1, a2, a3, a4, a5, a6, a7, a8, a9, a10, a11, a12, b13, b14, a15, b16, b17, b18, b19, b20)) :
    ∃ n, wX_settle_33 post (nI 2) 3 (nI m) n 0 n0 n1 1 a1 a2 a3 a4 a5 a6 a7 a8 a9 a10 a11 a12 a13 a14 a15 a16 a17 a18 a19 a20 := by
  refine pk_loop (σ := (Nat → Int32) × (Nat → Int32) × (Nat → Int32) × (Nat → Int32)) (fun n i w => wX_settle_33 post (nI 2) 3 (nI m) n (nI i) n0 n1 1 a1 a2 a3 a4 a5 a6 a7 a8 a9 a10 a11 a12 w.1 w.2.1 a15 w.2.2.1 w.2.2.2 a18 a19 a20)
    (fun i _ => ∀ p, p < i → p % 3 = 0 → ov_bit kn (p / 3) = 1 → ∀ t, t < 3 → ov_t2 e sg sk lit st (p / 3) t m = 0) 9 0 (a13, a14, a16, a17) (by omega) (fun p hp => absurd hp (by omega)) ?_ ?_
  · intro n w h
    obtain ⟨u, ty, hu, hty, hk, h2⟩ := ov_tot_pos hp
    have h3 := h (3 * u) (by omega) (by omega)
    rw [show 3 * u / 3 = u by omega] at h3
    exact absurd (h3 hk ty hty) (by omega)
  · intro n i w hi h hw
    refine pk_le 9 i (fun z => absurd z (by omega)) (fun _ => And.intro (by decide) ?_)
    have hskip : (i % 3 = 0 → ov_bit kn (i / 3) = 1 → ∀ t, t < 3 → ov_t2 e sg sk lit st (i / 3) t m = 0) → ∀ p, p < i + 1 → p % 3 = 0 → ov_bit kn (p / 3) = 1 → ∀ t, t < 3 → ov_t2 e sg sk lit st (p / 3) t m = 0 := fun hn p hp h1 h2 => by
      by_cases ep : p = i
      · subst ep; exact hn h1 h2
      · exact h p (by omega) h1 h2
    refine ov_mh0 (t := i / 3) (ov_d3 (by omega)) hF.2.2.1.2.2.1 (by omega) hF.2.2.1.2.2.2 (fun hb => ?_) (fun hb => br_t rfl (nm_r (nI_1 i) (hw w (hskip (fun _ z => absurd z hb)))))
    refine br_f (by decide) (And.intro (by decide) ?_)
    refine ov_mh1 (r := i % 3) (ov_r3 (by omega)) (by omega) (fun hr => ?_) (fun hr => br_t rfl (nm_r (nI_1 i) (hw w (hskip (fun z => absurd z hr)))))
    refine br_f (by decide) ?_
    refine ov_fillAll (p := i) hF hi h12 (fun b13 b14 b16 b17 k => ?_)
    refine ov_start (T := fun t c => ov_t2 e sg sk lit st (i / 3) t c) hm k (fun t c => ov_t2_le e sg sk lit st (i / 3) t c) (fun t ht h0 => ?_) (fun h0 => ?_)
    · refine br_f (by decide) ?_
      exact ov_s93 hF hm h12 (by rw [pk_us]) (by rw [pk_us]) (fun b18 b19 b20 k2 => H (i / 3) t (by omega) ht hb h0 b13 b14 b16 b17 b18 b19 b20 k2)
    · exact br_t rfl (nm_r (nI_1 i) (hw (b13, b14, b16, b17) (hskip (fun _ _ => h0))))
/-- typeOf: -4, or the type of the only cheapest way -/
theorem ov_type {post : Int32 → St2 → Prop} {n1 n2 : Int32} {a1 a2 a3 a4 a5 a6 a7 a8 a9 a10 a11 a12 a13 a14 a15 a16 a17 a18 a19 a20 : Nat → Int32} {e : Nat → Nat → Nat} {sg sk lit : Nat → Nat} {st kn m : Nat} (hF : ov_F e sg sk lit st kn a1 a2 a3 a4 a5 a6 a7 a8 a9 a10) (hL : ov_L (ov_pv e sg sk lit st kn) m)
    (H0 : ¬ (m < 128 ∧ ov_cnt (ov_pv e sg sk lit st kn) m 18 = 1) → ∀ n2 b12 b13 b14 b15 b16 b17, post (-4) (3, n1, n2, a1, a2, a3, a4, a5, a6, a7, a8, a9, a10, a11, b12, b13, b14, b15, b16, b17, a18, a19, a20))
    (H1 : m < 128 → ov_cnt (ov_pv e sg sk lit st kn) m 18 = 1 → ∀ q, q < 18 → ov_pv e sg sk lit st kn q = m + 1 → ∀ n2 b12 b13 b14 b15 b16 b17 b18 b19 b20, post (nI (sg (q / 9) % 3)) (3, n1, n2, a1, a2, a3, a4, a5, a6, a7, a8, a9, a10, a11, b12, b13, b14, b15, b16, b17, b18, b19, b20)) :
    wpX_typeOf post (3, n1, n2, a1, a2, a3, a4, a5, a6, a7, a8, a9, a10, a11, a12, a13, a14, a15, a16, a17, a18, a19, a20) 2 3 := by
  unfold wpX_typeOf
  refine ov_ref ?_
  refine br_t (by decide) ?_
  unfold wpX_settle
  refine ov_sumUp hF (fun b12 b13 b14 b15 b16 b17 h12 h15 => ?_)
  refine ov_least h15 hL ?_
  have hm := hL.1
  refine pk_eq m 128 (fun z => ?_) (fun z => And.intro (pk_in m 128 (by omega)) ?_)
  · exact br_t rfl (H0 (by omega) 1 b12 b13 b14 b15 b16 b17)
  · have hc := ov_cnt_le (ov_pv e sg sk lit st kn) m 18
    refine pk_eq (ov_cnt (ov_pv e sg sk lit st kn) m 18) 1 (fun z1 => ?_) (fun z1 => br_t rfl (H0 (fun k => z1 k.2) 1 b12 b13 b14 b15 b16 b17)) (hx := by rw [pk_cl m]; exact h15 m (by omega))
    refine ov_s33 hF (by omega) h12 (by rw [ov_tot_cnt]; omega) (fun u ty hu hty hb h2 c13 c14 c16 c17 c18 c19 c20 k => ?_)
    obtain ⟨q, hq, e1, e2⟩ := ov_t2_way hu hb h2
    refine br_f (by decide) (And.intro (pk_in 2 12 (by omega)) ?_)
    rw [pk_cl 2, k, ← e2]
    exact H1 (by omega) z1 q hq e1 1 b12 c13 c14 b15 c16 c17 c18 c19 c20
theorem ov_chosen {post : Int32 → St2 → Prop} {n1 n2 : Int32} {a1 a2 a3 a4 a5 a6 a7 a8 a9 a10 a11 a12 a13 a14 a15 a16 a17 a18 a19 a20 : Nat → Int32} {e : Nat → Nat → Nat} {sg sk lit : Nat → Nat} {st kn : Nat} (hF : ov_F e sg sk lit st kn a1 a2 a3 a4 a5 a6 a7 a8 a9 a10)
    (H : ∀ n2 b12, post (-3) (3, n1, n2, a1, a2, a3, a4, a5, a6, a7, a8, a9, a10, a11, b12, a13, a14, a15, a16, a17, a18, a19, a20)) : wpX_chosen post (3, n1, n2, a1, a2, a3, a4, a5, a6, a7, a8, a9, a10, a11, a12, a13, a14, a15, a16, a17, a18, a19, a20) 2 3 3 := by
  unfold wpX_chosen
  refine ov_ref ?_
  refine br_t (by decide) ?_
  refine ov_mark hF.2.2.2.2.1 hF.2.2.2.2.2.1.2.1 hF.2.2.2.2.2.2.1 hF.2.2.2.2.2.2.2 (fun b12 h12 => ?_)
  refine ov_isN3 ?_
  exact br_t rfl (H 1 b12)
end
section
/-- the law's own conversion: 0 barred, k + 1 the cost k -/
def ov_e (code : Int32) (f t : Nat) : Nat := if f = t then 1 else (code >>> (nI (4 * (2 * f + if t ≤ f then t else t - 1)) &&& 31)).toBitVec.toNat % 16 % 11
theorem ov_e_le (code : Int32) (f t : Nat) : ov_e code f t ≤ 10 := by
  unfold ov_e
  by_cases h : f = t
  · rw [if_pos h]; omega
  · rw [if_neg h]; omega
theorem ov_dig (x : Int32) : (x &&& 15) - (x &&& 15) / 11 * 11 = nI (x.toBitVec.toNat % 16 % 11) := by
  have h : x &&& 15 = nI (x.toBitVec.toNat % 16) := pk_and x 4 (by decide)
  rw [h]
  exact pk_rem (d := 11) (by omega) (by omega) (by omega)
theorem ov_conv {post : Int32 → Prop} {code p1 p2 : Int32} {f t : Nat} (h1 : p1 = nI f) (h2 : p2 = nI t) (hf : f < 3) (ht : t < 3) (H : post (nI (ov_e code f t) - 1)) : wpL_conversion post () code p1 p2 := by
  subst h1 h2
  unfold wpL_conversion
  have key : ∀ k, (f = t → False) → k = 2 * f + (if t ≤ f then t else t - 1) → post ((((code >>> ((4 * nI k) &&& 31)) &&& 15) - ((code >>> ((4 * nI k) &&& 31)) &&& 15) / 11 * 11) - 1) := by
    intro k hne hk
    rw [ov_dig, show (4 : Int32) * nI k = nI (4 * k) from pk_mul 4 k]
    unfold ov_e at H
    rw [if_neg hne, ← hk] at H
    exact H
  refine pk_eq f t (fun z => ?_) (fun z => pk_le t f (fun z2 => ?_) (fun z2 => ?_))
  · unfold ov_e at H
    rw [if_pos z] at H
    exact H
  · unfold wL_conversion_22
    refine nm_r (e' := nI (2 * f + t)) ?_ (And.intro (by decide) (key _ z ?_))
    · rw [show (2 : Int32) * nI f = nI (2 * f) from pk_mul 2 f, nI_add]
    · rw [if_pos z2]
  · unfold wL_conversion_22
    refine nm_r (e' := nI (2 * f + (t - 1))) ?_ (And.intro (by decide) (key _ z ?_))
    · rw [show (2 : Int32) * nI f = nI (2 * f) from pk_mul 2 f, show nI t - 1 = nI (t - 1) from pk_sub (b := 1) (by omega), nI_add]
    · rw [if_neg (by omega)]
theorem ov_price {post : Int32 → Prop} {code p1 p2 p3 p4 : Int32} {s c t u : Nat} (h1 : p1 = nI s) (h2 : p2 = nI c) (h3 : p3 = nI t) (h4 : p4 = nI u) (hs : s < 27) (ht : t < 3) (hu : u < 3)
    (H0 : ¬ (1 ≤ ov_e code t (s / 9) ∧ 1 ≤ ov_e code u (s / 3 % 3)) → post (-1))
    (H1 : 1 ≤ ov_e code t (s / 9) → 1 ≤ ov_e code u (s / 3 % 3) → post (nI ((ov_e code t (s / 9) - 1) + (ov_e code u (s / 3 % 3) - 1) + c))) : wpL_price post () code p1 p2 p3 p4 := by
  subst h1 h2 h3 h4
  unfold wpL_price
  refine And.intro (by decide) (ov_conv rfl (ov_d9 hs) ht (by omega) ?_)
  refine And.intro (by decide) (And.intro (by decide) (ov_conv rfl (ov_dr hs) hu (by omega) ?_))
  have l1 := ov_e_le code t (s / 9)
  have l2 := ov_e_le code u (s / 3 % 3)
  generalize ov_e code t (s / 9) = x at *
  generalize ov_e code u (s / 3 % 3) = y at *
  cases x with
  | zero => exact br_t ov_cn (H0 (by omega))
  | succ x =>
    cases y with
    | zero => exact br_f (by rw [nI_pred]; exact nI_pos (by omega)) (br_f (by decide) (H0 (by omega)))
    | succ y =>
      have h := H1 (by omega) (by omega)
      rw [Nat.add_sub_cancel, Nat.add_sub_cancel, ← nI_add, ← nI_add] at h
      rw [nI_pred, nI_pred]
      exact br_f (nI_pos (by omega)) (br_t (nI_pos' (by omega)) h)
/-- the end of one turn -/
theorem ov_l376t {post : Int32 → St0 → Prop} {mc ms kc ks : Nat} {J231 J240 : Int32 → Int32 → Int32 → Int32 → Int32 → Prop} {x0 x6 x7 x8 x9 x10 x11 x12 x13 x14 x15 x16 x17 : Int32} {n0 n1 n2 : Int32} {a1 a2 a3 a4 a5 a6 a7 a8 a9 a10 a11 a12 a13 a14 a15 a16 a17 a18 a19 a20 : Nat → Int32} {p : Nat} (H : J240 x13 x14 (x15 + 1) x16 (nI (p + 1))) :
    wL_lawOf_376 post mc ms J231 J240 x0 x6 x7 x8 x9 x10 x11 x12 x13 x14 x15 x16 x17 (nI p) x14 kc ks n0 n1 n2 a1 a2 a3 a4 a5 a6 a7 a8 a9 a10 a11 a12 a13 a14 a15 a16 a17 a18 a19 a20 := by
  unfold wL_lawOf_376
  exact br_t rfl (nm_e (nm_r (nI_1 p) H))
theorem ov_l376f {post : Int32 → St0 → Prop} {mc ms kc ks : Nat} {J231 J240 : Int32 → Int32 → Int32 → Int32 → Int32 → Prop} {x0 x6 x7 x8 x9 x10 x11 x12 x13 x14 x15 x16 x17 x21 : Int32} {n0 n1 n2 : Int32} {a1 a2 a3 a4 a5 a6 a7 a8 a9 a10 a11 a12 a13 a14 a15 a16 a17 a18 a19 a20 : Nat → Int32} {p : Nat} (hn : ¬ x21 = x14) (H : J240 x13 x14 x15 x16 (nI (p + 1))) :
    wL_lawOf_376 post mc ms J231 J240 x0 x6 x7 x8 x9 x10 x11 x12 x13 x14 x15 x16 x17 (nI p) x21 kc ks n0 n1 n2 a1 a2 a3 a4 a5 a6 a7 a8 a9 a10 a11 a12 a13 a14 a15 a16 a17 a18 a19 a20 := by
  unfold wL_lawOf_376
  exact br_f hn (nm_r (nI_1 p) H)
theorem ov_l353 {post : Int32 → St0 → Prop} {mc ms kc ks : Nat} {J231 J240 : Int32 → Int32 → Int32 → Int32 → Int32 → Prop} {x0 x8 x9 x10 x11 x12 x13 x21 : Int32} {n0 n1 n2 : Int32} {a1 a2 a3 a4 a5 a6 a7 a8 a9 a10 a11 a12 a13 a14 a15 a16 a17 a18 a19 a20 : Nat → Int32} {i p : Nat} {sg : Nat → Nat} (hi : i < 2) (hs : ∀ i, i < 2 → sg i < 27) (H : J240 x13 x21 (0 + 1) (nI (sg i % 3)) (nI (p + 1))) :
    wL_lawOf_353 post mc ms J231 J240 x0 (nI (sg 0)) (nI (sg 1)) x8 x9 x10 x11 x12 x13 (nI i) (nI p) x21 kc ks n0 n1 n2 a1 a2 a3 a4 a5 a6 a7 a8 a9 a10 a11 a12 a13 a14 a15 a16 a17 a18 a19 a20 := by
  unfold wL_lawOf_353
  refine pk_eq i 0 (fun z => ?_) (fun z => ?_)
  · subst z
    unfold wL_lawOf_372
    exact And.intro (by decide) (nm_r (ov_r3 (hs 0 hi)) (ov_l376t H))
  · have hi1 : i = 1 := by omega
    subst hi1
    unfold wL_lawOf_372
    exact And.intro (by decide) (nm_r (ov_r3 (hs 1 hi)) (ov_l376t H))
/-- a turn whose price is barred -/
theorem ov_l311n {post : Int32 → St0 → Prop} {mc ms kc ks : Nat} {J231 J240 : Int32 → Int32 → Int32 → Int32 → Int32 → Prop} {x0 x6 x7 x8 x9 x10 x11 x12 x13 x14 x15 x16 x17 x19 x20 x21 : Int32} {n0 n1 n2 : Int32} {a1 a2 a3 a4 a5 a6 a7 a8 a9 a10 a11 a12 a13 a14 a15 a16 a17 a18 a19 a20 : Nat → Int32} {p : Nat} (hn : x21 < 0) (H : J240 x13 x14 x15 x16 (nI (p + 1))) :
    wL_lawOf_311 post mc ms J231 J240 x0 x6 x7 x8 x9 x10 x11 x12 x13 x14 x15 x16 x17 (nI p) x19 x20 x21 kc ks n0 n1 n2 a1 a2 a3 a4 a5 a6 a7 a8 a9 a10 a11 a12 a13 a14 a15 a16 a17 a18 a19 a20 := by
  unfold wL_lawOf_311
  exact br_t hn (nm_r (nI_1 p) H)
/-- a turn with a price -/
theorem ov_l311 {post : Int32 → St0 → Prop} {mc ms kc ks : Nat} {J231 J240 : Int32 → Int32 → Int32 → Int32 → Int32 → Prop} {x0 x8 x9 x10 x13 x14 x15 x16 : Int32} {n0 n1 n2 : Int32} {a1 a2 a3 a4 a5 a6 a7 a8 a9 a10 a11 a12 a13 a14 a15 a16 a17 a18 a19 a20 : Nat → Int32} {i p t u c n st kn : Nat} {sg pv ty : Nat → Nat} (hi : i < 2) (hs : ∀ i, i < 2 → sg i < 27) (hst : st < 8) (hkn : kn < 8) (ht : t < 3) (hu : u < 3) (hc : c < 128)
    (hpv : pv n = if ov_bit st t = 1 ∧ ov_bit kn u = 1 then c + 1 else 0) (hty : ty n = sg i % 3) (hP : ov_P pv ty n x13 x14 x15 x16)
    (H : ∀ y13 y14 y15 y16, ov_P pv ty (n + 1) y13 y14 y15 y16 → J240 y13 y14 y15 y16 (nI (p + 1))) :
    wL_lawOf_311 post mc ms J231 J240 x0 (nI (sg 0)) (nI (sg 1)) x8 x9 x10 (nI st) (nI kn) x13 x14 x15 x16 (nI i) (nI p) (nI t) (nI u) (nI c) kc ks n0 n1 n2 a1 a2 a3 a4 a5 a6 a7 a8 a9 a10 a11 a12 a13 a14 a15 a16 a17 a18 a19 a20 := by
  unfold wL_lawOf_311
  have b1 := ov_bit2 st t
  have b2 := ov_bit2 kn u
  refine br_f (nI_pos (by omega)) (pk_eq (ov_bit st t) 1 (fun z1 => pk_eq (ov_bit kn u) 1 (fun z2 => nm_e ?_) (fun z2 => nm_r (nI_1 p) (H _ _ _ _ (ov_Pskip hP ?_))) (hx := ov_bitI kn hkn u hu)) (fun z1 => nm_r (nI_1 p) (H _ _ _ _ (ov_Pskip hP ?_))) (hx := ov_bitI st hst t ht))
  · rw [if_pos ⟨z1, z2⟩] at hpv
    have hnew : (∀ m, m < 128 → x14 = nI m → c < m) → J240 (x13 + 1) (nI c) (0 + 1) (nI (sg i % 3)) (nI (p + 1)) := fun hl => by
      have h := ov_Pnew hP hpv hc hl
      rw [hty] at h
      exact H _ _ _ _ h
    rcases hP.2 with ⟨e14, _, _, _⟩ | ⟨m, hm, e14, _, _, _⟩
    · exact br_t (by rw [e14]; decide) (ov_l353 hi hs (hnew (fun m hm z => absurd (z.symm.trans e14) (ov_m3 hm))))
    · subst e14
      refine br_f (nI_pos (by omega)) (pk_le m c (fun z => ?_) (fun z => ?_))
      · by_cases hmc : m = c
        · subst hmc
          exact ov_l376t (H _ _ _ _ (ov_Psame hP hpv hc))
        · exact ov_l376f (fun z => hmc ((nI_eq (by omega) (by omega)).mp z).symm) (H _ _ _ _ (ov_Pdear hP hpv hm (by omega)))
      · exact ov_l353 hi hs (hnew (fun m' hm' z' => by
          have := (nI_eq (show m < 2 ^ 31 by omega) (show m' < 2 ^ 31 by omega)).mp z'
          omega))
  · rw [hpv, if_neg (fun z => z2 z.2)]
  · rw [hpv, if_neg (fun z => z1 z.1)]
/-- one turn of the law's inner loop -/
theorem ov_l284 {post : Int32 → St0 → Prop} {mc ms kc ks : Nat} {J231 J240 : Int32 → Int32 → Int32 → Int32 → Int32 → Prop} {code x8 x9 x13 x14 x15 x16 z0 z1 : Int32} {n0 n1 n2 : Int32} {a1 a2 a3 a4 a5 a6 a7 a8 a9 a10 a11 a12 a13 a14 a15 a16 a17 a18 a19 a20 : Nat → Int32} {i p st kn : Nat} {sg sk lit ty : Nat → Nat} (hi : i < 2) (hp : p < 9) (hs : ∀ i, i < 2 → sg i < 27) (hk : ∀ i, i < 2 → sk i ≤ 9) (hl : lit 0 = 0 ∧ lit 1 = 0 ∧ lit 2 ≤ 9) (hst : st < 8) (hkn : kn < 8)
    (hty : ∀ q, ty q = sg (q / 9) % 3) (ez0 : z0 = nI (sk i)) (ez1 : z1 = nI (sg i)) (hP : ov_P (ov_pv (ov_e code) sg sk lit st kn) ty (9 * i + p) x13 x14 x15 x16)
    (H : ∀ y13 y14 y15 y16, ov_P (ov_pv (ov_e code) sg sk lit st kn) ty (9 * i + p + 1) y13 y14 y15 y16 → J240 y13 y14 y15 y16 (nI (p + 1))) :
    wL_lawOf_284 post mc ms J231 J240 code (nI (sg 0)) (nI (sg 1)) x8 x9 (nI (lit 2)) (nI st) (nI kn) x13 x14 x15 x16 (nI i) (nI p) (nI (p / 3)) (nI (p % 3)) z0 z1 code kc ks n0 n1 n2 a1 a2 a3 a4 a5 a6 a7 a8 a9 a10 a11 a12 a13 a14 a15 a16 a17 a18 a19 a20 := by
  unfold wL_lawOf_284
  have hq : 9 * i + p = 9 * i + 3 * (p / 3) + p % 3 := by omega
  have hpv := ov_pv_at (ov_e code) sg sk lit st kn hq (by omega) (by omega)
  have l1 := ov_e_le code (p / 3) (sg i / 9)
  have l2 := ov_e_le code (p % 3) (sg i / 3 % 3)
  have l3 := hk i hi
  have hty' : ty (9 * i + p) = sg i % 3 := by rw [hty, show (9 * i + p) / 9 = i by omega]
  refine ov_price ez1 ez0 rfl rfl (hs i hi) (by omega) (by omega) (fun hn => ?_) (fun g1 g2 => ?_)
  · have h0 : ov_pv (ov_e code) sg sk lit st kn (9 * i + p) = 0 := by
      rw [hpv, if_neg (fun z => hn z.2.2)]
    have h := H _ _ _ _ (ov_Pskip hP h0)
    exact br_c (fun _ => br_t (by decide) (ov_l311n (by decide) h)) (fun _ => ov_l311n (by decide) h)
  · have hpv' : ∀ c, c = lit (p / 3) + (ov_e code (p / 3) (sg i / 9) - 1) + (ov_e code (p % 3) (sg i / 3 % 3) - 1) + sk i → ov_pv (ov_e code) sg sk lit st kn (9 * i + p) = if ov_bit st (p / 3) = 1 ∧ ov_bit kn (p % 3) = 1 then c + 1 else 0 := by
      intro c ec
      rw [hpv]
      by_cases hb : ov_bit st (p / 3) = 1 ∧ ov_bit kn (p % 3) = 1
      · rw [if_pos hb, if_pos ⟨hb.1, hb.2, g1, g2⟩]; omega
      · rw [if_neg hb, if_neg (fun z => hb ⟨z.1, z.2.1⟩)]
    refine pk_eq (p / 3) 2 (fun z => br_f (nI_pos (by omega)) (nm_r (nI_add _ _) ?_)) (fun z => ?_)
    · refine ov_l311 hi hs hst hkn (by omega) (by omega) (by omega) (hpv' _ ?_) hty' hP H
      rw [z]; omega
    · refine ov_l311 hi hs hst hkn (by omega) (by omega) (by omega) (hpv' _ ?_) hty' hP H
      have hz : p / 3 = 0 ∨ p / 3 = 1 := by omega
      rcases hz with hz | hz
      · rw [hz, hl.1]; omega
      · rw [hz, hl.2.1]; omega
theorem ov_l240 {post : Int32 → St0 → Prop} {mc ms kc ks : Nat} {J231 : Int32 → Int32 → Int32 → Int32 → Int32 → Prop} {code x13 x14 x15 x16 : Int32} {n0 n1 n2 : Int32} {a1 a2 a3 a4 a5 a6 a7 a8 a9 a10 a11 a12 a13 a14 a15 a16 a17 a18 a19 a20 : Nat → Int32} {i st kn : Nat} {sg sk lit ty : Nat → Nat} (hi : i < 2) (hs : ∀ i, i < 2 → sg i < 27) (hk : ∀ i, i < 2 → sk i ≤ 9) (hl : lit 0 = 0 ∧ lit 1 = 0 ∧ lit 2 ≤ 9) (hst : st < 8) (hkn : kn < 8)
    (hty : ∀ q, ty q = sg (q / 9) % 3) (hP : ov_P (ov_pv (ov_e code) sg sk lit st kn) ty (9 * i) x13 x14 x15 x16)
    (H : ∀ y13 y14 y15 y16, ov_P (ov_pv (ov_e code) sg sk lit st kn) ty (9 * (i + 1)) y13 y14 y15 y16 → J231 y13 y14 y15 y16 (nI (i + 1))) :
    ∃ n, wL_lawOf_240 post mc ms J231 code (nI (sg 0)) (nI (sg 1)) (nI (sk 0)) (nI (sk 1)) (nI (lit 2)) (nI st) (nI kn) (nI i) kc ks n0 n1 n2 a1 a2 a3 a4 a5 a6 a7 a8 a9 a10 a11 a12 a13 a14 a15 a16 a17 a18 a19 a20 n x13 x14 x15 x16 0 := by
  refine pk_loop (σ := Int32 × Int32 × Int32 × Int32) (fun n p w => wL_lawOf_240 post mc ms J231 code (nI (sg 0)) (nI (sg 1)) (nI (sk 0)) (nI (sk 1)) (nI (lit 2)) (nI st) (nI kn) (nI i) kc ks n0 n1 n2 a1 a2 a3 a4 a5 a6 a7 a8 a9 a10 a11 a12 a13 a14 a15 a16 a17 a18 a19 a20 n w.1 w.2.1 w.2.2.1 w.2.2.2 (nI p))
    (fun p w => ov_P (ov_pv (ov_e code) sg sk lit st kn) ty (9 * i + p) w.1 w.2.1 w.2.2.1 w.2.2.2) 9 0 (x13, x14, x15, x16) (by omega) hP ?_ ?_
  · intro n w h
    exact pk_le 9 9 (fun _ => nm_r (nI_1 i) (H _ _ _ _ h)) (fun z => absurd z (by omega))
  · intro n p w hp h hw
    refine pk_le 9 p (fun z => absurd z (by omega)) (fun _ => And.intro (by decide) (nm_r (e' := nI (p / 3)) (ov_d3 (by omega)) (And.intro (by decide) (nm_r (e' := nI (p % 3)) (ov_r3 (by omega)) ?_))))
    refine pk_eq i 0 (fun z => ?_) (fun z => ?_)
    · unfold wL_lawOf_272
      exact br_t (by rw [z]; rfl) (ov_l284 hi hp hs hk hl hst hkn hty (by rw [z]) (by rw [z]) h (fun y13 y14 y15 y16 k => hw (y13, y14, y15, y16) k))
    · have z1 : i = 1 := by omega
      unfold wL_lawOf_272
      exact br_f (by rw [z1]; decide) (ov_l284 hi hp hs hk hl hst hkn hty (by rw [z1]) (by rw [z1]) h (fun y13 y14 y15 y16 k => hw (y13, y14, y15, y16) k))
/-- the law's last lines: the type and the refusal -/
theorem ov_l456 {post : Int32 → St0 → Prop} {mc ms kc ks : Nat} {n1 n2 : Int32} {a1 a2 a3 a4 a5 a6 a7 a8 a9 a10 a11 a12 a13 a14 a15 a16 a17 a18 a19 a20 : Nat → Int32} {z0 z1 : Int32} {e : Nat → Nat → Nat} {sg sk lit : Nat → Nat} {st kn : Nat} (hF : ov_F e sg sk lit st kn a1 a2 a3 a4 a5 a6 a7 a8 a9 a10) (hz : z1 = z0) (H : post 1 ()) : wL_lawOf_456 post mc ms z0 z1 kc ks 3 n1 n2 a1 a2 a3 a4 a5 a6 a7 a8 a9 a10 a11 a12 a13 a14 a15 a16 a17 a18 a19 a20 := by
  unfold wL_lawOf_456
  refine br_t hz ?_
  exact ov_chosen hF (fun n2 b12 => br_t rfl H)
theorem ov_l231 {post : Int32 → St0 → Prop} {mc ms kc ks : Nat} {code : Int32} {n1 n2 : Int32} {a1 a2 a3 a4 a5 a6 a7 a8 a9 a10 a11 a12 a13 a14 a15 a16 a17 a18 a19 a20 : Nat → Int32} {st kn : Nat} {sg sk lit : Nat → Nat} (hF : ov_F (ov_e code) sg sk lit st kn a1 a2 a3 a4 a5 a6 a7 a8 a9 a10) (hl : lit 0 = 0 ∧ lit 1 = 0) (H : post 1 ()) :
    ∃ n, wL_lawOf_231 post mc ms code (nI (sg 0)) (nI (sg 1)) (nI (sk 0)) (nI (sk 1)) (nI (lit 2)) (nI st) (nI kn) kc ks 3 n1 n2 a1 a2 a3 a4 a5 a6 a7 a8 a9 a10 a11 a12 a13 a14 a15 a16 a17 a18 a19 a20 n 0 (-3) 0 (-4) 0 := by
  refine pk_loop (σ := Int32 × Int32 × Int32 × Int32) (fun n i w => wL_lawOf_231 post mc ms code (nI (sg 0)) (nI (sg 1)) (nI (sk 0)) (nI (sk 1)) (nI (lit 2)) (nI st) (nI kn) kc ks 3 n1 n2 a1 a2 a3 a4 a5 a6 a7 a8 a9 a10 a11 a12 a13 a14 a15 a16 a17 a18 a19 a20 n w.1 w.2.1 w.2.2.1 w.2.2.2 (nI i))
    (fun i w => ov_P (ov_pv (ov_e code) sg sk lit st kn) (fun q => sg (q / 9) % 3) (9 * i) w.1 w.2.1 w.2.2.1 w.2.2.2) 2 0 (0, -3, 0, -4) (by omega) (ov_P0 _ _) ?_ ?_
  · intro n w h
    refine pk_le 2 2 (fun _ => ?_) (fun z => absurd z (by omega))
    obtain ⟨h13, h2⟩ := h
    refine ov_sol hF (fun n2 b12 b13 b14 b15 b16 b17 => ?_)
    refine br_t h13.symm ?_
    rcases h2 with ⟨e14, e15, e16, hz⟩ | ⟨m, hm, e14, e15, ⟨q, hq, q1, q2⟩, hmin⟩
    · have hL : ov_L (ov_pv (ov_e code) sg sk lit st kn) 128 := ⟨by omega, fun c hc => ov_sm_zero 18 (fun q hq => if_neg (by have := hz q hq; omega)), fun z => absurd z (by omega)⟩
      refine ov_lc hF hL (fun n2 b12 b13 b14 b15 b16 b17 => ?_)
      refine br_t e14.symm ?_
      refine ov_bc hF hL (fun n2 b12 b13 b14 b15 b16 b17 => ?_)
      refine br_t e15.symm ?_
      refine ov_type hF hL (fun _ n2 b12 b13 b14 b15 b16 b17 => ?_) (fun z => absurd z (by omega))
      exact br_f (by rw [e15]; decide) (ov_l456 hF rfl H)
    · have hL : ov_L (ov_pv (ov_e code) sg sk lit st kn) m := by
        refine ⟨by omega, fun c hc => ov_sm_zero 18 (fun q hq => if_neg (by have := hmin q hq; omega)), fun _ => ?_⟩
        have h := ov_sm_ge (f := fun q => if ov_pv (ov_e code) sg sk lit st kn q = m + 1 then 1 else 0) 18 q hq
        have h' : (if ov_pv (ov_e code) sg sk lit st kn q = m + 1 then 1 else 0) ≤ ov_cnt (ov_pv (ov_e code) sg sk lit st kn) m 18 := h
        rw [if_pos q1] at h'
        omega
      refine ov_lc hF hL (fun n2 b12 b13 b14 b15 b16 b17 => ?_)
      refine br_t (by rw [if_pos hm]; exact e14.symm) ?_
      refine ov_bc hF hL (fun n2 b12 b13 b14 b15 b16 b17 => ?_)
      refine br_t (by rw [if_pos hm]; exact e15.symm) ?_
      have hc := ov_cnt_le (ov_pv (ov_e code) sg sk lit st kn) m 18
      refine ov_type hF hL (fun hn n2 b12 b13 b14 b15 b16 b17 => ?_) (fun _ h1 q' hq' q1' n2 b12 b13 b14 b15 b16 b17 b18 b19 b20 => ?_)
      · refine br_f (fun z => ?_) (ov_l456 hF rfl H)
        rw [e15] at z
        exact hn ⟨hm, (nI_eq (by omega) (by omega)).mp (z : nI (ov_cnt (ov_pv (ov_e code) sg sk lit st kn) m 18) = nI 1)⟩
      · refine br_t (by rw [e15, show 9 * 2 = 18 from rfl, h1]; rfl) (ov_l456 hF ?_ H)
        rw [q2, ov_uniq h1 hq hq' q1 q1']
  · intro n i w hi h hw
    refine pk_le 2 i (fun z => absurd z (by omega)) (fun _ => ?_)
    exact ov_l240 hi (fun i hi => (hF.2.1 i hi).1) (fun i hi => (hF.2.1 i hi).2.1) ⟨hl.1, hl.2, (hF.2.2.2.1 2 (by omega)).1⟩ hF.2.2.1.2.1 hF.2.2.1.2.2.1 (fun q => rfl) h (fun y13 y14 y15 y16 k => hw (y13, y14, y15, y16) k)
end
section
theorem ov_isT {post : Int32 → Prop} {p : Int32} {t : Nat} (hp : p = nI t) (ht : t < 3) (h : post 1) : wpX_isType post () p := by
  subst hp
  unfold wpX_isType
  exact br_f (nI_pos (by omega)) (pk_lt 2 t (fun z => absurd z (by omega)) (fun _ => h))
theorem ov_cost : ∀ x, x < 11 → ¬ (nI x - 1 < (-1)) ∧ nI x - 1 ≤ 9 := by decide +kernel
theorem ov_convert {post : Int32 → St2 → Prop} {n0 n1 n2 : Int32} {a1 a2 a3 a4 a5 a6 a7 a8 a9 a10 a11 a12 a13 a14 a15 a16 a17 a18 a19 a20 : Nat → Int32} {f t x : Nat} (hf : f < 3) (ht : t < 3) (hn : f ≠ t) (hx : x ≤ 10) (H : post 0 (n0, n1, n2, (upd a1 (3 * f + t) (nI x - 1)), a2, a3, a4, a5, a6, a7, a8, a9, a10, a11, a12, a13, a14, a15, a16, a17, a18, a19, a20)) : wpX_convert post (n0, n1, n2, a1, a2, a3, a4, a5, a6, a7, a8, a9, a10, a11, a12, a13, a14, a15, a16, a17, a18, a19, a20) (nI f) (nI t) (nI x - 1) := by
  unfold wpX_convert
  refine ov_isT rfl hf ?_
  refine br_f (by decide) ?_
  refine ov_isT rfl ht ?_
  refine br_f (by decide) ?_
  refine pk_eq f t (fun z => absurd z hn) (fun _ => ?_)
  refine br_f (ov_cost x (by omega)).1 (br_t (ov_cost x (by omega)).2 ?_)
  exact And.intro (pk_in (3 * f + t) 9 (by omega) (ov_ix f t)) (nm_r (e' := upd a1 (3 * f + t) (nI x - 1)) (by rw [ov_ix, nI_clamp (by omega)]) H)
theorem ov_over {post : Int32 → St2 → Prop} {n0 n1 n2 : Int32} {a1 a2 a3 a4 a5 a6 a7 a8 a9 a10 a11 a12 a13 a14 a15 a16 a17 a18 a19 a20 : Nat → Int32} {k s c : Nat} (h4 : a4 1 = nI k) (hk : k < 4) (hs : s < 27) (hc : c ≤ 9) (H : ∀ r, post r (n0, n1, n2, a1, (upd a2 (4 + k) (nI s)), (upd a3 (4 + k) (nI c)), (upd a4 1 (nI (k + 1))), a5, a6, a7, a8, a9, a10, a11, a12, a13, a14, a15, a16, a17, a18, a19, a20)) : wpX_overload post (n0, n1, n2, a1, a2, a3, a4, a5, a6, a7, a8, a9, a10, a11, a12, a13, a14, a15, a16, a17, a18, a19, a20) 1 (nI s) (nI c) := by
  unfold wpX_overload
  refine ov_isT (t := 1) rfl (by omega) ?_
  refine br_f (by decide) ?_
  have e4 : a4 (1 : Int32).toNatClampNeg = nI k := by rw [pk_cl 1]; exact h4
  have ex : (4 * 1) + a4 (1 : Int32).toNatClampNeg = nI (4 + k) := by rw [e4, show ((4 : Int32) * 1) = nI 4 from rfl, nI_add]
  refine br_f (nI_pos (by omega)) (pk_le s 26 (fun _ => br_f (nI_pos (by omega)) (pk_le c 9 (fun _ => ?_) (fun z => absurd z (by omega)))) (fun z => absurd z (by omega)))
  refine And.intro (pk_in 1 3 (by omega)) (pk_eq k 4 (fun z => absurd z (by omega)) (fun _ => ?_) (hx := e4))
  refine And.intro (pk_in 1 3 (by omega)) (And.intro (pk_in (4 + k) 12 (by omega) ex) (nm_r (e' := upd a2 (4 + k) (nI s)) (by rw [ex, nI_clamp (by omega)]) ?_))
  refine And.intro (pk_in 1 3 (by omega)) (And.intro (pk_in (4 + k) 12 (by omega) ex) (nm_r (e' := upd a3 (4 + k) (nI c)) (by rw [ex, nI_clamp (by omega)]) ?_))
  refine And.intro (pk_in 1 3 (by omega)) (And.intro (pk_in 1 3 (by omega)) (nm_r (e' := upd a4 1 (nI (k + 1))) (by rw [e4, pk_cl 1, nI_1]) ?_))
  exact And.intro (pk_in 1 3 (by omega)) (H _)
theorem ov_litc {post : Int32 → St2 → Prop} {n0 n1 n2 : Int32} {a1 a2 a3 a4 a5 a6 a7 a8 a9 a10 a11 a12 a13 a14 a15 a16 a17 a18 a19 a20 : Nat → Int32} {c : Nat} (hc : c ≤ 9) (H : ∀ r, post r (n0, n1, n2, a1, a2, a3, a4, a5, (upd a6 2 (nI c)), a7, a8, a9, a10, a11, a12, a13, a14, a15, a16, a17, a18, a19, a20)) : wpX_literalCost post (n0, n1, n2, a1, a2, a3, a4, a5, a6, a7, a8, a9, a10, a11, a12, a13, a14, a15, a16, a17, a18, a19, a20) 2 (nI c) := by
  unfold wpX_literalCost
  refine ov_isT (t := 2) rfl (by omega) ?_
  refine br_f (by decide) ?_
  refine br_f (nI_pos (by omega)) (pk_le c 9 (fun _ => ?_) (fun z => absurd z (by omega)))
  exact And.intro (pk_in 2 3 (by omega)) (nm_r (e' := upd a6 2 (nI c)) (by rw [pk_cl 2]) (H _))
theorem ov_decl {post : Int32 → St2 → Prop} {n0 n1 n2 : Int32} {a1 a2 a3 a4 a5 a6 a7 a8 a9 a10 a11 a12 a13 a14 a15 a16 a17 a18 a19 a20 : Nat → Int32} {s : Nat} (h1 : 1 ≤ s) (h7 : s ≤ 7) (H : ∀ r, post r (n0, n1, n2, a1, a2, a3, a4, (upd a5 0 (nI s)), a6, a7, a8, a9, a10, a11, a12, a13, a14, a15, a16, a17, a18, a19, a20)) : wpX_declare post (n0, n1, n2, a1, a2, a3, a4, a5, a6, a7, a8, a9, a10, a11, a12, a13, a14, a15, a16, a17, a18, a19, a20) 0 (nI s) := by
  unfold wpX_declare
  refine br_t rfl ?_
  unfold wX_declare_11
  refine pk_lt s 1 (fun z => absurd z (by omega)) (fun _ => pk_le s 7 (fun _ => ?_) (fun z => absurd z (by omega)))
  exact And.intro (pk_in 0 2 (by omega)) (nm_e (And.intro (pk_in 0 2 (by omega)) (nm_r (e' := upd a5 0 (nI s)) (by rw [pk_cl 0]) (H _))))
theorem ov_new {post : Int32 → St2 → Prop} {n1 n2 : Int32} {a1 a2 a3 a4 a5 a6 a7 a8 a9 a10 a11 a12 a13 a14 a15 a16 a17 a18 a19 a20 : Nat → Int32} {p0 p1 : Int32} {n : Nat} (hn : n < 12) (H : post (nI n) ((nI (n + 1)), n1, n2, a1, a2, a3, a4, a5, a6, (upd a7 n p0), (upd a8 n p1), a9, a10, a11, a12, a13, a14, a15, a16, a17, a18, a19, a20)) : wpX_newNode post ((nI n), n1, n2, a1, a2, a3, a4, a5, a6, a7, a8, a9, a10, a11, a12, a13, a14, a15, a16, a17, a18, a19, a20) p0 p1 := by
  unfold wpX_newNode
  refine And.intro (pk_in n 12 hn) (nm_r (e' := upd a7 n p0) (by rw [pk_cl n]) (And.intro (pk_in n 12 hn) (nm_r (e' := upd a8 n p1) (by rw [pk_cl n]) (nm_r (nI_1 n) ?_))))
  rw [nI_pred]
  exact H
theorem ov_lit {post : Int32 → St2 → Prop} {n1 n2 : Int32} {a1 a2 a3 a4 a5 a6 a7 a8 a9 a10 a11 a12 a13 a14 a15 a16 a17 a18 a19 a20 : Nat → Int32} {s n : Nat} (hn : n < 12) (h1 : 1 ≤ s) (h7 : s ≤ 7) (H : post (nI n) ((nI (n + 1)), n1, n2, a1, a2, a3, a4, a5, a6, (upd a7 n 0), (upd a8 n (nI s)), a9, a10, a11, a12, a13, a14, a15, a16, a17, a18, a19, a20)) : wpX_literal post ((nI n), n1, n2, a1, a2, a3, a4, a5, a6, a7, a8, a9, a10, a11, a12, a13, a14, a15, a16, a17, a18, a19, a20) (nI s) := by
  unfold wpX_literal
  refine pk_lt s 1 (fun z => absurd z (by omega)) (fun _ => pk_le s 7 (fun _ => pk_eq n 12 (fun z => absurd z (by omega)) (fun _ => ?_)) (fun z => absurd z (by omega)))
  exact ov_new hn H
theorem ov_use {post : Int32 → St2 → Prop} {n1 n2 : Int32} {a1 a2 a3 a4 a5 a6 a7 a8 a9 a10 a11 a12 a13 a14 a15 a16 a17 a18 a19 a20 : Nat → Int32} {n : Nat} (hn : n < 12) (H : post (nI n) ((nI (n + 1)), n1, n2, a1, a2, a3, a4, a5, a6, (upd a7 n 1), (upd a8 n 0), a9, a10, a11, a12, a13, a14, a15, a16, a17, a18, a19, a20)) : wpX_use post ((nI n), n1, n2, a1, a2, a3, a4, a5, a6, a7, a8, a9, a10, a11, a12, a13, a14, a15, a16, a17, a18, a19, a20) 0 := by
  unfold wpX_use
  refine br_t rfl ?_
  unfold wX_use_11
  refine pk_eq n 12 (fun z => absurd z (by omega)) (fun _ => ?_)
  exact ov_new hn H
theorem ov_isN {post : Int32 → Prop} {n1 n2 : Int32} {a1 a2 a3 a4 a5 a6 a7 a8 a9 a10 a11 a12 a13 a14 a15 a16 a17 a18 a19 a20 : Nat → Int32} {p : Int32} {k : Nat} (hp : p = nI k) (hk : k < 2) (h : post 1) : wpX_isNode post ((nI 2), n1, n2, a1, a2, a3, a4, a5, a6, a7, a8, a9, a10, a11, a12, a13, a14, a15, a16, a17, a18, a19, a20) p := by
  subst hp
  unfold wpX_isNode
  exact br_f (nI_pos (by omega)) (pk_le 2 k (fun z => absurd z (by omega)) (fun _ => h))
theorem ov_apply {post : Int32 → St2 → Prop} {n2 : Int32} {a1 a2 a3 a4 a5 a6 a7 a8 a9 a10 a11 a12 a13 a14 a15 a16 a17 a18 a19 a20 : Nat → Int32} (h0 : a11 0 = 0) (h1 : a11 1 = 0) (H : ∀ b11, post (nI 2) ((nI 3), 1, n2, a1, a2, a3, a4, a5, a6, (upd a7 2 3), (upd a8 2 1), (upd a9 2 0), (upd a10 2 1), b11, a12, a13, a14, a15, a16, a17, a18, a19, a20)) : wpX_apply post ((nI 2), 0, n2, a1, a2, a3, a4, a5, a6, a7, a8, a9, a10, a11, a12, a13, a14, a15, a16, a17, a18, a19, a20) 1 0 1 := by
  unfold wpX_apply
  refine ov_isT (t := 1) rfl (by omega) ?_
  refine br_f (by decide) ?_
  refine ov_isN (k := 0) rfl (by omega) ?_
  refine br_f (by decide) ?_
  refine ov_isN (k := 1) rfl (by omega) ?_
  refine br_f (by decide) (br_f (by decide) ?_)
  refine And.intro (pk_in 0 12 (by omega)) (br_t (by rw [pk_cl 0]; exact h0) ?_)
  refine And.intro (pk_in 1 12 (by omega)) (br_t (by rw [pk_cl 1]; exact h1) ?_)
  refine br_f (by decide) (br_f (by decide) ?_)
  refine And.intro (pk_in 0 12 (by omega)) (nm_e (And.intro (pk_in 1 12 (by omega)) (nm_e ?_)))
  refine And.intro (pk_in 2 12 (by omega)) (nm_r (e' := upd a9 2 0) (by rw [pk_cl 2]) (And.intro (pk_in 2 12 (by omega)) (nm_r (e' := upd a10 2 1) (by rw [pk_cl 2]) (nm_r (e' := 1) rfl ?_))))
  exact ov_new (n := 2) (by omega) (H _)
theorem ov_mod (x : Int32) {m : Int32} (k d : Nat) (hm : m.toBitVec.toNat = 2 ^ k - 1) (hk : k ≤ 5) (hd : 0 < d) (hd2 : d < 32) : (x &&& m) - (x &&& m) / nI d * nI d = nI (x.toBitVec.toNat % 2 ^ k % d) := by
  rw [pk_and x k hm]
  have h1 : x.toBitVec.toNat % 2 ^ k < 2 ^ k := Nat.mod_lt _ (Nat.two_pow_pos k)
  have h2 : 2 ^ k ≤ 2 ^ 5 := Nat.pow_le_pow_right (by omega) hk
  exact pk_rem (by omega) hd (by omega)
/-- the conversions that the law has told so far -/
def ov_C (code : Int32) (f t : Nat) (s : Nat → Int32) : Prop := ∀ f' t', f' < 3 → t' < 3 → (f' < f ∨ (f' = f ∧ t' < t) ∨ f' = t') → s (3 * f' + t') = nI (ov_e code f' t') - 1
theorem ov_eD (code : Int32) (f : Nat) : ov_e code f f = 1 := if_pos rfl
theorem ov_l21 {post : Int32 → St0 → Prop} {mc ms kc ks : Nat} {J12 : Int32 → Int32 → Int32 → Int32 → (Nat → Int32) → (Nat → Int32) → (Nat → Int32) → (Nat → Int32) → (Nat → Int32) → (Nat → Int32) → (Nat → Int32) → (Nat → Int32) → (Nat → Int32) → (Nat → Int32) → (Nat → Int32) → (Nat → Int32) → (Nat → Int32) → (Nat → Int32) → (Nat → Int32) → (Nat → Int32) → (Nat → Int32) → (Nat → Int32) → (Nat → Int32) → (Nat → Int32) → Prop} {code x1 x2 x3 x4 : Int32} {n0 n1 n2 : Int32} {a1 a2 a3 a4 a5 a6 a7 a8 a9 a10 a11 a12 a13 a14 a15 a16 a17 a18 a19 a20 : Nat → Int32} {f : Nat} (hf : f < 3) (hC : ov_C code f 0 a1)
    (H : ∀ b, ov_C code (f + 1) 0 b → J12 (nI (f + 1)) n0 n1 n2 b a2 a3 a4 a5 a6 a7 a8 a9 a10 a11 a12 a13 a14 a15 a16 a17 a18 a19 a20) :
    ∃ n, wL_lawOf_21 post mc ms J12 code x1 x2 x3 x4 (nI f) kc ks n 0 n0 n1 n2 a1 a2 a3 a4 a5 a6 a7 a8 a9 a10 a11 a12 a13 a14 a15 a16 a17 a18 a19 a20 := by
  refine pk_loop (fun n t s => wL_lawOf_21 post mc ms J12 code x1 x2 x3 x4 (nI f) kc ks n (nI t) n0 n1 n2 s a2 a3 a4 a5 a6 a7 a8 a9 a10 a11 a12 a13 a14 a15 a16 a17 a18 a19 a20) (fun t s => ov_C code f t s) 3 0 a1 (by omega) hC ?_ ?_
  · intro n s h
    exact pk_le 3 3 (fun _ => nm_r (nI_1 f) (H s (fun f' t' h1 h2 h3 => h f' t' h1 h2 (by omega)))) (fun z => absurd z (by omega))
  · intro n t s ht h hw
    refine pk_le 3 t (fun z => absurd z (by omega)) (fun _ => ?_)
    refine ov_conv rfl rfl hf ht ?_
    refine pk_eq f t (fun z => nm_r (nI_1 t) (hw s (fun f' t' h1 h2 h3 => h f' t' h1 h2 (by omega)))) (fun z => ?_)
    refine ov_convert hf ht z (ov_e_le code f t) (nm_r (nI_1 t) (hw _ (fun f' t' h1 h2 h3 => ?_)))
    by_cases he : f' = f ∧ t' = t
    · rw [he.1, he.2, pk_us]
    · rw [pk_un (by omega)]
      exact h f' t' h1 h2 (by omega)
/-- the law from its first loop on -/
theorem ov_l12 {post : Int32 → St0 → Prop} {mc ms kc ks : Nat} {p0 p1 p2 p3 p4 : Int32} {a1 : Nat → Int32} (hC : ov_C p0 0 0 a1) (H : post 1 ()) :
    ∃ n, wL_lawOf_12 post mc ms p0 p1 p2 p3 p4 kc ks n 0 0 0 0 a1 (fun _ => 0) (fun _ => 0) (fun _ => 0) (upd (upd (fun _ => 0) 0 7) 1 7) (fun _ => 0) (fun _ => 0) (fun _ => 0) (fun _ => 0) (fun _ => 0) (fun _ => 0) (fun _ => 0) (fun _ => 0) (fun _ => 0) (fun _ => 0) (fun _ => 0) (fun _ => 0) (fun _ => 0) (fun _ => 0) (fun _ => 0) := by
  refine pk_loop (fun n f s => wL_lawOf_12 post mc ms p0 p1 p2 p3 p4 kc ks n (nI f) 0 0 0 s (fun _ => 0) (fun _ => 0) (fun _ => 0) (upd (upd (fun _ => 0) 0 7) 1 7) (fun _ => 0) (fun _ => 0) (fun _ => 0) (fun _ => 0) (fun _ => 0) (fun _ => 0) (fun _ => 0) (fun _ => 0) (fun _ => 0) (fun _ => 0) (fun _ => 0) (fun _ => 0) (fun _ => 0) (fun _ => 0) (fun _ => 0)) (fun f s => ov_C p0 f 0 s) 3 0 a1 (by omega) hC ?_ ?_
  · intro n s h
    refine pk_le 3 3 (fun _ => ?_) (fun z => absurd z (by omega))
    refine And.intro (by decide) (nm_r (ov_mod p1 5 27 (by decide) (by omega) (by omega) (by omega)) ?_)
    refine And.intro (by decide) (nm_r (ov_mod p2 5 27 (by decide) (by omega) (by omega) (by omega)) ?_)
    refine And.intro (by decide) (nm_r (ov_mod p4 4 10 (by decide) (by omega) (by omega) (by omega)) ?_)
    refine And.intro (by decide) (nm_r (ov_mod (p4 >>> ((4 : Int32) &&& 31)) 4 10 (by decide) (by omega) (by omega) (by omega)) ?_)
    refine And.intro (by decide) (nm_r (ov_mod (p4 >>> ((8 : Int32) &&& 31)) 4 10 (by decide) (by omega) (by omega) (by omega)) ?_)
    refine And.intro (by decide) (nm_r (e' := nI (1 + p3.toBitVec.toNat % 2 ^ 3 % 7)) (by rw [← nI_add]; exact congrArg (fun z => 1 + z) (ov_mod p3 3 7 (by decide) (by omega) (by omega) (by omega))) ?_)
    refine And.intro (by decide) (nm_r (e' := nI (1 + (p3 >>> ((3 : Int32) &&& 31)).toBitVec.toNat % 2 ^ 3 % 7)) (by rw [← nI_add]; exact congrArg (fun z => 1 + z) (ov_mod (p3 >>> ((3 : Int32) &&& 31)) 3 7 (by decide) (by omega) (by omega) (by omega))) ?_)
    generalize hs0 : p1.toBitVec.toNat % 2 ^ 5 % 27 = s0
    generalize hs1 : p2.toBitVec.toNat % 2 ^ 5 % 27 = s1
    generalize hc0 : p4.toBitVec.toNat % 2 ^ 4 % 10 = c0
    generalize hc1 : (p4 >>> ((4 : Int32) &&& 31)).toBitVec.toNat % 2 ^ 4 % 10 = c1
    generalize hd : (p4 >>> ((8 : Int32) &&& 31)).toBitVec.toNat % 2 ^ 4 % 10 = d
    generalize hst : 1 + p3.toBitVec.toNat % 2 ^ 3 % 7 = st
    generalize hkn : 1 + (p3 >>> ((3 : Int32) &&& 31)).toBitVec.toNat % 2 ^ 3 % 7 = kn
    have b0 : s0 < 27 := by omega
    have b1 : s1 < 27 := by omega
    have b2 : c0 ≤ 9 := by omega
    have b3 : c1 ≤ 9 := by omega
    have b4 : d ≤ 9 := by omega
    have b5 : 1 ≤ st ∧ st ≤ 7 := by omega
    have b6 : 1 ≤ kn ∧ kn ≤ 7 := by omega
    clear hs0 hs1 hc0 hc1 hd hst hkn
    refine ov_over (k := 0) rfl (by omega) b0 b2 (fun r => ?_)
    refine ov_over (k := 1) rfl (by omega) b1 b3 (fun r => ?_)
    refine ov_litc b4 (fun r => ?_)
    refine ov_decl b6.1 b6.2 (fun r => ?_)
    refine ov_lit (n := 0) (by omega) b5.1 b5.2 ?_
    refine ov_use (n := 1) (by omega) ?_
    refine ov_apply rfl rfl (fun b11 => ?_)
    refine br_t rfl ?_
    refine ov_l231 (sg := fun i => if i = 0 then s0 else s1) (sk := fun i => if i = 0 then c0 else c1) (lit := fun t => if t = 2 then d else 0) (st := st) (kn := kn) ?_ ⟨rfl, rfl⟩ H
    refine ⟨fun t q ht hq => ⟨ov_e_le p0 t q, h t q ht hq (Or.inl (by omega))⟩, fun i hi => ?_, ⟨rfl, by omega, by omega, rfl⟩, fun t ht => ?_, ⟨rfl, rfl, rfl⟩, ⟨rfl, rfl, rfl⟩, rfl, rfl⟩
    · have hi' : i = 0 ∨ i = 1 := by omega
      rcases hi' with rfl | rfl
      · exact ⟨b0, b2, rfl, rfl⟩
      · exact ⟨b1, b3, rfl, rfl⟩
    · have ht' : t = 0 ∨ t = 1 ∨ t = 2 := by omega
      rcases ht' with rfl | rfl | rfl
      · exact ⟨by show 0 ≤ 9; omega, rfl⟩
      · exact ⟨by show 0 ≤ 9; omega, rfl⟩
      · exact ⟨b4, rfl⟩
  · intro n f s hf h hw
    refine pk_le 3 f (fun z => absurd z (by omega)) (fun _ => ?_)
    exact ov_l21 hf h (fun b hb => hw b hb)
theorem ov_i4 : ∀ i, i < 9 → nI i - nI i / 4 * 4 = nI (i % 4) := by decide +kernel
theorem ov_init {post : St2 → Prop} {mc ms : Nat} (hc : 20 ≤ mc) (hs : 5143 ≤ ms) (H : ∀ b, (∀ j, j < 9 → b j = if j % 4 = 0 then 0 else -1) → post (0, 0, 0, b, (fun _ => 0), (fun _ => 0), (fun _ => 0), (upd (upd (fun _ => 0) 0 7) 1 7), (fun _ => 0), (fun _ => 0), (fun _ => 0), (fun _ => 0), (fun _ => 0), (fun _ => 0), (fun _ => 0), (fun _ => 0), (fun _ => 0), (fun _ => 0), (fun _ => 0), (fun _ => 0), (fun _ => 0), (fun _ => 0), (fun _ => 0))) : wpX_init post mc ms (0, 0, 0) := by
  unfold wpX_init
  repeat (refine And.intro (by omega) ?_)
  refine pk_loop (fun n i s => wX_init_166 post mc ms 20 5143 0 0 0 n (nI i) s (fun _ => 0) (fun _ => 0) (fun _ => 0) (fun _ => 0) (fun _ => 0) (fun _ => 0) (fun _ => 0) (fun _ => 0) (fun _ => 0) (fun _ => 0) (fun _ => 0) (fun _ => 0) (fun _ => 0) (fun _ => 0) (fun _ => 0) (fun _ => 0) (fun _ => 0) (fun _ => 0) (fun _ => 0)) (fun i s => ∀ j, j < i → s j = if j % 4 = 0 then 0 else -1) 9 0 (fun _ => 0) (by omega) (fun j hj => absurd hj (by omega)) ?_ ?_
  · intro n s h
    exact pk_le 9 9 (fun _ => nm_e (nm_e (H s h))) (fun z => absurd z (by omega))
  · intro n i s hi h hw
    refine pk_le 9 i (fun z => absurd z (by omega)) (fun _ => And.intro (by decide) ?_)
    refine pk_eq (i % 4) 0 (fun z => And.intro (pk_in i 9 hi) (nm_r (e' := upd s i 0) (by rw [pk_cl i]) (nm_r (nI_1 i) (hw _ (fun j hj => ?_))))) (fun z => And.intro (pk_in i 9 hi) (nm_r (e' := upd s i (-1)) (by rw [pk_cl i]) (nm_r (nI_1 i) (hw _ (fun j hj => ?_))))) (hx := ov_i4 i hi)
    · by_cases ej : j = i
      · rw [ej, pk_us, if_pos z]
      · rw [pk_un ej]; exact h j (by omega)
    · by_cases ej : j = i
      · rw [ej, pk_us, if_neg z]
      · rw [pk_un ej]; exact h j (by omega)
theorem ov_cell {post : Int32 → Prop} {L : Nat} {xs : Nat → Int32} {p1 : Int32} {k : Nat} (hL : L ≤ 5) (hp : p1 = nI k) (hk : k < 5) (H : ∀ v, post v) : wpL_cellAt post L xs () p1 := by
  subst hp
  unfold wpL_cellAt
  exact pk_le L k (fun _ => H _) (fun z => And.intro (pk_in k L z) (H _))
theorem i_vc (xs : Nat → Int32) (L : Nat) (hL : L ≤ 5) : wpL_law (fun r => r = 1) L xs := by
  unfold wpL_law
  refine ov_cell (k := 0) hL rfl (by omega) (fun r1 => ?_)
  refine ov_cell (k := 1) hL rfl (by omega) (fun r2 => ?_)
  refine ov_cell (k := 2) hL rfl (by omega) (fun r3 => ?_)
  refine ov_cell (k := 3) hL rfl (by omega) (fun r4 => ?_)
  refine ov_cell (k := 4) hL rfl (by omega) (fun r5 => ?_)
  refine ⟨21, 5166, by omega, by omega, ?_⟩
  unfold wpL_lawOf
  refine And.intro (by omega) (And.intro (by omega) ⟨20, 5143, by omega, by omega, ?_⟩)
  refine ov_init (by omega) (by omega) (fun b hb => ?_)
  refine ov_l12 (fun f' t' h1 h2 h3 => ?_) rfl
  have hd : f' = t' := by omega
  subst hd
  rw [hb _ (by omega), if_pos (by omega), ov_eD]
  rfl
end
