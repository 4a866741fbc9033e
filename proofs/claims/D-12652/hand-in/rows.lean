section
/-! masks of five bits, as naturals below 32 -/
def rd_pcu (S : Nat) : Nat → Nat
  | 0 => 0
  | k + 1 => rd_pcu S k + (if S.testBit k = true then 1 else 0)
def rd_pc (S : Nat) : Nat := rd_pcu S 5
def rd_add (S k : Nat) : Nat := S ||| 2 ^ k
def rd_del (S k : Nat) : Nat := S &&& (31 ^^^ 2 ^ k)
def rd_sub (P S : Nat) : Nat := P &&& (31 ^^^ S)
def rd_bits (S : Nat) : List Nat := (List.range 5).filter (fun k => S.testBit k)
def rd_sel (S d : Nat) : Nat := (rd_bits S).getD d 0
theorem rd_add_lt : ∀ S, S < 32 → ∀ k, k < 5 → rd_add S k < 32 := by decide +kernel
theorem rd_del_lt : ∀ S, S < 32 → ∀ k, k < 5 → rd_del S k < 32 := by decide +kernel
theorem rd_sub_lt : ∀ P, P < 32 → ∀ S, S < 32 → rd_sub P S < 32 := by decide +kernel
theorem rd_and_lt : ∀ P, P < 32 → ∀ S, S < 32 → P &&& S < 32 := by decide +kernel
theorem rd_add_tb : ∀ S, S < 32 → ∀ k, k < 5 → ∀ j, j < 5 → (rd_add S k).testBit j = (S.testBit j || decide (j = k)) := by decide +kernel
theorem rd_del_tb : ∀ S, S < 32 → ∀ k, k < 5 → ∀ j, j < 5 → (rd_del S k).testBit j = (S.testBit j && !decide (j = k)) := by decide +kernel
theorem rd_sub_tb : ∀ P, P < 32 → ∀ S, S < 32 → ∀ j, j < 5 → (rd_sub P S).testBit j = (P.testBit j && !S.testBit j) := by decide +kernel
theorem rd_and_tb (S P j : Nat) : (S &&& P).testBit j = (S.testBit j && P.testBit j) := Nat.testBit_and S P j
theorem rd_ext : ∀ S, S < 32 → ∀ T, T < 32 → (∀ j, j < 5 → S.testBit j = T.testBit j) → S = T := by decide +kernel
theorem rd_pc_le : ∀ S, S < 32 → rd_pc S ≤ 5 := by decide +kernel
theorem rd_pc_del : ∀ S, S < 32 → ∀ k, k < 5 → S.testBit k = true → rd_pc (rd_del S k) + 1 = rd_pc S := by decide +kernel
theorem rd_pc_add : ∀ S, S < 32 → ∀ k, k < 5 → S.testBit k = false → rd_pc (rd_add S k) = rd_pc S + 1 := by decide +kernel
theorem rd_pc_0 : ∀ S, S < 32 → rd_pc S = 0 → S = 0 := by decide +kernel
theorem rd_pc_lt : ∀ S, S < 32 → ∀ k, k < 5 → S.testBit k = false → rd_pc S < 5 := by decide +kernel
theorem rd_del_comm : ∀ S, S < 32 → ∀ j, j < 5 → ∀ k, k < 5 → rd_del (rd_del S j) k = rd_del (rd_del S k) j := by decide +kernel
theorem rd_sub_add : ∀ P, P < 32 → ∀ S, S < 32 → ∀ k, k < 5 → rd_sub P (rd_add S k) = rd_del (rd_sub P S) k := by decide +kernel
theorem rd_or_del : ∀ L, L < 32 → ∀ k, k < 5 → L.testBit k = true → ∀ S, S < 32 → rd_add S k ||| rd_del L k = S ||| L := by decide +kernel
theorem rd_sub_self : ∀ P, P < 32 → rd_sub P P = 0 := by decide +kernel
theorem rd_sub_0 : ∀ P, P < 32 → rd_sub P 0 = P := by decide +kernel
theorem rd_sub_0l (P : Nat) : rd_sub 0 P = 0 := Nat.zero_and _
theorem rd_sub_eq : ∀ P, P < 32 → ∀ S, S < 32 → rd_sub S P = 0 → rd_sub P S = 0 → S = P := by decide +kernel
theorem rd_sub_grow : ∀ P, P < 32 → ∀ S, S < 32 → rd_sub S P = 0 → ∀ k, k < 5 → (rd_sub P S).testBit k = true → rd_sub (rd_add S k) P = 0 := by decide +kernel
theorem rd_add_gt : ∀ P, P < 32 → ∀ S, S < 32 → ∀ k, k < 5 → (rd_sub P S).testBit k = true → S < rd_add S k := by decide +kernel
theorem rd_del_gt : ∀ S, S < 32 → ∀ k, k < 5 → S.testBit k = true → rd_del S k < S := by decide +kernel
theorem rd_and_del : ∀ S, S < 32 → ∀ P, P < 32 → S &&& P = S → ∀ k, k < 5 → rd_del S k &&& P = rd_del S k := by decide +kernel
theorem rd_sel_in : ∀ S, S < 32 → ∀ d, d < rd_pc S → rd_sel S d < 5 ∧ S.testBit (rd_sel S d) = true := by decide +kernel
theorem rd_sel_ix : ∀ S, S < 32 → ∀ k, k < 5 → S.testBit k = true → rd_pcu S k < rd_pc S ∧ rd_sel S (rd_pcu S k) = k := by decide +kernel
theorem rd_bits_len : ∀ S, S < 32 → (rd_bits S).length = rd_pc S := by decide +kernel
/-! sums -/
def rd_sum (g : Nat → Nat) : Nat → Nat
  | 0 => 0
  | n + 1 => rd_sum g n + g n
theorem rd_sum_congr {g h : Nat → Nat} : ∀ n, (∀ i, i < n → g i = h i) → rd_sum g n = rd_sum h n := by
  intro n
  induction n with
  | zero => intro _; rfl
  | succ n ih =>
    intro H
    show rd_sum g n + g n = rd_sum h n + h n
    rw [ih (fun i hi => H i (by omega)), H n (by omega)]
theorem rd_sum_add (g h : Nat → Nat) : ∀ n, rd_sum (fun i => g i + h i) n = rd_sum g n + rd_sum h n := by
  intro n
  induction n with
  | zero => rfl
  | succ n ih =>
    show rd_sum (fun i => g i + h i) n + (g n + h n) = (rd_sum g n + g n) + (rd_sum h n + h n)
    rw [ih]
    omega
theorem rd_sum_app (g : Nat → Nat) (a : Nat) : ∀ b, rd_sum g (a + b) = rd_sum g a + rd_sum (fun d => g (a + d)) b := by
  intro b
  induction b with
  | zero => rfl
  | succ b ih =>
    show rd_sum g (a + b) + g (a + b) = rd_sum g a + (rd_sum (fun d => g (a + d)) b + g (a + b))
    rw [ih]
    omega
theorem rd_sum_0 : ∀ n, rd_sum (fun _ => 0) n = 0 := by
  intro n
  induction n with
  | zero => rfl
  | succ n ih => exact ih
theorem rd_sum_mul (h : Nat → Nat → Nat) (a : Nat) (ha : 0 < a) : ∀ N, rd_sum (fun c => h (c % a) (c / a)) (a * N) = rd_sum (fun d => rd_sum (fun c => h d c) N) a := by
  intro N
  induction N with
  | zero =>
    rw [Nat.mul_zero]
    exact (rd_sum_0 a).symm
  | succ N ih =>
    rw [Nat.mul_succ, rd_sum_app, ih]
    have e : rd_sum (fun d => h ((a * N + d) % a) ((a * N + d) / a)) a = rd_sum (fun d => h d N) a := by
      refine rd_sum_congr a (fun i hi => ?_)
      show h ((a * N + i) % a) ((a * N + i) / a) = h i N
      rw [Nat.mul_add_mod, Nat.mod_eq_of_lt hi, Nat.mul_add_div ha, Nat.div_eq_of_lt hi, Nat.add_zero]
    show _ + rd_sum (fun d => h ((a * N + d) % a) ((a * N + d) / a)) a = _
    rw [e, ← rd_sum_add]
    rfl
theorem rd_sum_pos {g : Nat → Nat} : ∀ n, 0 < rd_sum g n ↔ ∃ i, i < n ∧ 0 < g i := by
  intro n
  induction n with
  | zero =>
    refine ⟨fun h => absurd h (Nat.lt_irrefl 0), ?_⟩
    rintro ⟨i, hi, _⟩
    exact absurd hi (Nat.not_lt_zero i)
  | succ n ih =>
    have e : rd_sum g (n + 1) = rd_sum g n + g n := rfl
    rw [e]
    constructor
    · intro h
      by_cases hg : 0 < g n
      · exact ⟨n, Nat.lt_succ_self n, hg⟩
      · obtain ⟨i, hi, h'⟩ := ih.mp (by omega)
        exact ⟨i, by omega, h'⟩
    · rintro ⟨i, hi, h'⟩
      by_cases en : i = n
      · rw [en] at h'
        omega
      · have := ih.mpr ⟨i, by omega, h'⟩
        omega
theorem rd_sum_le {g : Nat → Nat} {b : Nat} : ∀ n, (∀ i, i < n → g i ≤ b) → rd_sum g n ≤ n * b := by
  intro n
  induction n with
  | zero => intro _; exact Nat.zero_le _
  | succ n ih =>
    intro H
    have e : rd_sum g (n + 1) = rd_sum g n + g n := rfl
    rw [e, Nat.succ_mul]
    exact Nat.add_le_add (ih (fun i hi => H i (by omega))) (H n (by omega))
theorem rd_sum_list (H : Nat → Nat) : ∀ l : List Nat, rd_sum (fun d => H (l.getD d 0)) l.length = (l.map H).sum := by
  intro l
  induction l with
  | nil => rfl
  | cons k l ih =>
    rw [List.length_cons, Nat.add_comm, rd_sum_app]
    have e : rd_sum (fun d => H ((k :: l).getD (1 + d) 0)) l.length = rd_sum (fun d => H (l.getD d 0)) l.length := by
      refine rd_sum_congr _ (fun i _ => ?_)
      show H ((k :: l).getD (1 + i) 0) = H (l.getD i 0)
      rw [Nat.add_comm, List.getD_cons_succ]
    show rd_sum (fun d => H ((k :: l).getD d 0)) 1 + rd_sum (fun d => H ((k :: l).getD (1 + d) 0)) l.length = _
    rw [e, ih, List.map_cons, List.sum_cons]
    show 0 + H ((k :: l).getD 0 0) + _ = _
    rw [List.getD_cons_zero, Nat.zero_add]
theorem rd_sum_filter (p : Nat → Bool) (H : Nat → Nat) : ∀ n, (((List.range n).filter p).map H).sum = rd_sum (fun k => if p k = true then H k else 0) n := by
  intro n
  induction n with
  | zero => rfl
  | succ n ih =>
    rw [List.range_succ, List.filter_append, List.map_append, List.sum_append, ih]
    show rd_sum (fun k => if p k = true then H k else 0) n + _ = rd_sum (fun k => if p k = true then H k else 0) n + (if p n = true then H n else 0)
    cases h : p n <;> simp [List.filter, h]
theorem rd_sum_sel (H : Nat → Nat) (L : Nat) (hL : L < 32) : rd_sum (fun d => H (rd_sel L d)) (rd_pc L) = rd_sum (fun k => if L.testBit k = true then H k else 0) 5 := by
  rw [← rd_bits_len L hL]
  exact (rd_sum_list H (rd_bits L)).trans (rd_sum_filter (fun k => L.testBit k) H 5)
/-! orders -/
def rd_dec : Nat → Nat → Nat → List Nat
  | 0, _, _ => []
  | m + 1, L, c => rd_sel L (c % (m + 1)) :: rd_dec m (rd_del L (rd_sel L (c % (m + 1)))) (c / (m + 1))
def rd_good (f : Nat → Nat → Bool) : Nat → List Nat → Bool
  | _, [] => true
  | S, k :: l => f k S && rd_good f (rd_add S k) l
def rd_pm : Nat → List Nat → Prop
  | L, [] => L = 0
  | L, k :: l => k < 5 ∧ L.testBit k = true ∧ rd_pm (rd_del L k) l
def rd_fact : Nat → Nat
  | 0 => 1
  | m + 1 => (m + 1) * rd_fact m
def rd_bel (f : Nat → Nat → Bool) : Nat → Nat → Nat → Nat
  | 0, _, _ => 1
  | m + 1, L, S => rd_sum (fun k => if (L.testBit k && f k S) = true then rd_bel f m (rd_del L k) (rd_add S k) else 0) 5
def rd_am (f : Nat → Nat → Bool) (P : Nat) : Nat → Nat → Nat
  | 0, S => if S = 0 then 1 else 0
  | m + 1, S => rd_sum (fun k => if ((S &&& P).testBit k && f k (rd_del S k &&& P)) = true then rd_am f P m (rd_del S k) else 0) 5
theorem rd_count (f : Nat → Nat → Bool) : ∀ m L S, L < 32 → rd_pc L = m → rd_sum (fun c => if rd_good f S (rd_dec m L c) = true then 1 else 0) (rd_fact m) = rd_bel f m L S := by
  intro m
  induction m with
  | zero => intro L S _ _; rfl
  | succ m ih =>
    intro L S hL hp
    let h : Nat → Nat → Nat := fun d c => if (f (rd_sel L d) S && rd_good f (rd_add S (rd_sel L d)) (rd_dec m (rd_del L (rd_sel L d)) c)) = true then 1 else 0
    let H : Nat → Nat := fun k => if f k S = true then rd_bel f m (rd_del L k) (rd_add S k) else 0
    have e1 : rd_sum (fun c => if rd_good f S (rd_dec (m + 1) L c) = true then 1 else 0) (rd_fact (m + 1)) = rd_sum (fun c => h (c % (m + 1)) (c / (m + 1))) ((m + 1) * rd_fact m) := rfl
    have step : ∀ d, d < m + 1 → rd_sum (fun c => h d c) (rd_fact m) = H (rd_sel L d) := by
      intro d hd
      obtain ⟨k5, kL⟩ := rd_sel_in L hL d (by omega)
      have hd1 := rd_pc_del L hL _ k5 kL
      have ih' := ih (rd_del L (rd_sel L d)) (rd_add S (rd_sel L d)) (rd_del_lt L hL _ k5) (by omega)
      show rd_sum (fun c => if (f (rd_sel L d) S && rd_good f (rd_add S (rd_sel L d)) (rd_dec m (rd_del L (rd_sel L d)) c)) = true then 1 else 0) (rd_fact m) = if f (rd_sel L d) S = true then rd_bel f m (rd_del L (rd_sel L d)) (rd_add S (rd_sel L d)) else 0
      cases hf : f (rd_sel L d) S
      · simp only [Bool.false_and, Bool.false_eq_true, if_false]
        exact rd_sum_0 _
      · simp only [Bool.true_and, if_true]
        exact ih'
    rw [e1, rd_sum_mul h (m + 1) (by omega), rd_sum_congr _ step, ← hp, rd_sum_sel H L hL, hp]
    show _ = rd_sum (fun k => if (L.testBit k && f k S) = true then rd_bel f m (rd_del L k) (rd_add S k) else 0) 5
    refine rd_sum_congr 5 (fun k _ => ?_)
    show (if L.testBit k = true then (if f k S = true then rd_bel f m (rd_del L k) (rd_add S k) else 0) else 0) = _
    cases L.testBit k <;> cases f k S <;> rfl
theorem rd_dec_pm : ∀ m L c, L < 32 → rd_pc L = m → rd_pm L (rd_dec m L c) := by
  intro m
  induction m with
  | zero => intro L c hL hp; exact rd_pc_0 L hL hp
  | succ m ih =>
    intro L c hL hp
    have hd : c % (m + 1) < rd_pc L := by rw [hp]; exact Nat.mod_lt _ (by omega)
    obtain ⟨k5, kL⟩ := rd_sel_in L hL _ hd
    have hd1 := rd_pc_del L hL _ k5 kL
    exact ⟨k5, kL, ih _ _ (rd_del_lt L hL _ k5) (by omega)⟩
theorem rd_pm_len : ∀ l L, L < 32 → rd_pm L l → l.length = rd_pc L := by
  intro l
  induction l with
  | nil =>
    intro L _ h
    have h' : L = 0 := h
    rw [h']
    rfl
  | cons k l ih =>
    intro L hL h
    obtain ⟨k5, kL, h'⟩ := h
    rw [List.length_cons, ih _ (rd_del_lt L hL _ k5) h']
    exact rd_pc_del L hL k k5 kL
theorem rd_pm_dec : ∀ l L, L < 32 → rd_pm L l → ∃ c, c < rd_fact (rd_pc L) ∧ rd_dec (rd_pc L) L c = l := by
  intro l
  induction l with
  | nil =>
    intro L _ h
    have h' : L = 0 := h
    rw [h']
    exact ⟨0, by decide, rfl⟩
  | cons k l ih =>
    intro L hL h
    obtain ⟨k5, kL, h'⟩ := h
    obtain ⟨c, hc, ec⟩ := ih _ (rd_del_lt L hL _ k5) h'
    obtain ⟨hd, es⟩ := rd_sel_ix L hL k k5 kL
    have hp := rd_pc_del L hL k k5 kL
    generalize rd_pc (rd_del L k) = m at hc ec hp
    rw [← hp] at hd ⊢
    refine ⟨rd_pcu L k + (m + 1) * c, ?_, ?_⟩
    · show _ < (m + 1) * rd_fact m
      have : (m + 1) * (c + 1) ≤ (m + 1) * rd_fact m := Nat.mul_le_mul_left _ hc
      rw [Nat.mul_succ] at this
      omega
    · have e1 : (rd_pcu L k + (m + 1) * c) % (m + 1) = rd_pcu L k := by rw [Nat.add_mul_mod_self_left, Nat.mod_eq_of_lt hd]
      have e2 : (rd_pcu L k + (m + 1) * c) / (m + 1) = c := by rw [Nat.add_mul_div_left _ _ (by omega), Nat.div_eq_of_lt hd, Nat.zero_add]
      show rd_sel L ((rd_pcu L k + (m + 1) * c) % (m + 1)) :: rd_dec m (rd_del L (rd_sel L ((rd_pcu L k + (m + 1) * c) % (m + 1)))) ((rd_pcu L k + (m + 1) * c) / (m + 1)) = k :: l
      rw [e1, e2, es, ec]
theorem rd_bel_pos (f : Nat → Nat → Bool) {m L S : Nat} (hL : L < 32) (hp : rd_pc L = m) : 0 < rd_bel f m L S ↔ ∃ l, rd_pm L l ∧ rd_good f S l = true := by
  rw [← rd_count f m L S hL hp, rd_sum_pos]
  constructor
  · rintro ⟨c, _, h⟩
    refine ⟨rd_dec m L c, rd_dec_pm m L c hL hp, ?_⟩
    cases hg : rd_good f S (rd_dec m L c)
    · rw [hg] at h
      exact absurd h (by decide)
    · rfl
  · rintro ⟨l, hl, hg⟩
    obtain ⟨c, hc, ec⟩ := rd_pm_dec l L hL hl
    rw [hp] at hc ec
    refine ⟨c, hc, ?_⟩
    rw [ec, hg]
    decide
theorem rd_bel_le (f : Nat → Nat → Bool) : ∀ m L S, rd_bel f m L S ≤ 5 ^ m := by
  intro m
  induction m with
  | zero => intro L S; exact Nat.le_refl 1
  | succ m ih =>
    intro L S
    have h := rd_sum_le (g := fun k => if (L.testBit k && f k S) = true then rd_bel f m (rd_del L k) (rd_add S k) else 0) (b := 5 ^ m) 5 (fun i _ => by
      show (if (L.testBit i && f i S) = true then rd_bel f m (rd_del L i) (rd_add S i) else 0) ≤ 5 ^ m
      split
      · exact ih _ _
      · exact Nat.zero_le _)
    rw [Nat.pow_succ, Nat.mul_comm]
    exact h
theorem rd_am_le (f : Nat → Nat → Bool) (P : Nat) : ∀ m S, rd_am f P m S ≤ 5 ^ m := by
  intro m
  induction m with
  | zero =>
    intro S
    show (if S = 0 then 1 else 0) ≤ 1
    split <;> omega
  | succ m ih =>
    intro S
    have h := rd_sum_le (g := fun k => if ((S &&& P).testBit k && f k (rd_del S k &&& P)) = true then rd_am f P m (rd_del S k) else 0) (b := 5 ^ m) 5 (fun i _ => by
      show (if ((S &&& P).testBit i && f i (rd_del S i &&& P)) = true then rd_am f P m (rd_del S i) else 0) ≤ 5 ^ m
      split
      · exact ih _
      · exact Nat.zero_le _)
    rw [Nat.pow_succ, Nat.mul_comm]
    exact h
theorem rd_snoc : ∀ l : List Nat, l = [] ∨ ∃ l' k, l = l' ++ [k] := by
  intro l
  induction l with
  | nil => exact Or.inl rfl
  | cons a l ih =>
    rcases ih with rfl | ⟨l', k, rfl⟩
    · exact Or.inr ⟨[], a, rfl⟩
    · exact Or.inr ⟨a :: l', k, rfl⟩
theorem rd_pm_snoc (k : Nat) : ∀ l L, L < 32 → (rd_pm L (l ++ [k]) ↔ k < 5 ∧ L.testBit k = true ∧ rd_pm (rd_del L k) l) := by
  intro l
  induction l with
  | nil => intro L _; exact Iff.rfl
  | cons j l ih =>
    intro L hL
    constructor
    · rintro ⟨j5, jL, h⟩
      obtain ⟨k5, kL, h'⟩ := (ih _ (rd_del_lt L hL j j5)).mp h
      rw [rd_del_tb L hL j j5 k k5, Bool.and_eq_true, Bool.not_eq_true', decide_eq_false_iff_not] at kL
      refine ⟨k5, kL.1, j5, ?_, ?_⟩
      · rw [rd_del_tb L hL k k5 j j5, jL]
        simp only [Bool.true_and, Bool.not_eq_true', decide_eq_false_iff_not]
        exact fun e => kL.2 e.symm
      · rw [rd_del_comm L hL k k5 j j5]
        exact h'
    · rintro ⟨k5, kL, j5, jL, h⟩
      rw [rd_del_tb L hL k k5 j j5, Bool.and_eq_true, Bool.not_eq_true', decide_eq_false_iff_not] at jL
      refine ⟨j5, jL.1, (ih _ (rd_del_lt L hL j j5)).mpr ⟨k5, ?_, ?_⟩⟩
      · rw [rd_del_tb L hL j j5 k k5, kL]
        simp only [Bool.true_and, Bool.not_eq_true', decide_eq_false_iff_not]
        exact fun e => jL.2 e.symm
      · rw [rd_del_comm L hL j j5 k k5]
        exact h
theorem rd_good_snoc (f : Nat → Nat → Bool) (k : Nat) : ∀ l L S, L < 32 → S < 32 → rd_pm L l → rd_good f S (l ++ [k]) = (rd_good f S l && f k (S ||| L)) := by
  intro l
  induction l with
  | nil =>
    intro L S _ _ h
    have h' : L = 0 := h
    show (f k S && true) = (true && f k (S ||| L))
    rw [h', Nat.or_zero, Bool.and_true, Bool.true_and]
  | cons j l ih =>
    intro L S hL hS h
    obtain ⟨j5, jL, h'⟩ := h
    show (f j S && rd_good f (rd_add S j) (l ++ [k])) = ((f j S && rd_good f (rd_add S j) l) && f k (S ||| L))
    rw [ih _ _ (rd_del_lt L hL j j5) (rd_add_lt S hS j j5) h', rd_or_del L hL j j5 jL S hS, Bool.and_assoc]
theorem rd_am_pos (f : Nat → Nat → Bool) {P : Nat} (hP : P < 32) : ∀ m S, S < 32 → rd_pc S = m → S &&& P = S → (0 < rd_am f P m S ↔ ∃ l, rd_pm S l ∧ rd_good f 0 l = true) := by
  intro m
  induction m with
  | zero =>
    intro S hS hp _
    have h0 := rd_pc_0 S hS hp
    rw [h0]
    exact ⟨fun _ => ⟨[], rfl, rfl⟩, fun _ => Nat.lt_succ_self 0⟩
  | succ m ih =>
    intro S hS hp hSP
    show 0 < rd_sum (fun k => if ((S &&& P).testBit k && f k (rd_del S k &&& P)) = true then rd_am f P m (rd_del S k) else 0) 5 ↔ _
    rw [rd_sum_pos, hSP]
    constructor
    · rintro ⟨k, k5, h⟩
      by_cases hc : (S.testBit k && f k (rd_del S k &&& P)) = true
      · rw [if_pos hc] at h
        rw [rd_and_del S hS P hP hSP k k5, Bool.and_eq_true] at hc
        have hd := rd_pc_del S hS k k5 hc.1
        obtain ⟨l, hl, hg⟩ := (ih _ (rd_del_lt S hS k k5) (by omega) (rd_and_del S hS P hP hSP k k5)).mp h
        refine ⟨l ++ [k], (rd_pm_snoc k l S hS).mpr ⟨k5, hc.1, hl⟩, ?_⟩
        rw [rd_good_snoc f k l _ 0 (rd_del_lt S hS k k5) (by decide) hl, hg, Nat.zero_or, hc.2]
        rfl
      · rw [if_neg hc] at h
        exact absurd h (Nat.lt_irrefl 0)
    · rintro ⟨l, hl, hg⟩
      rcases rd_snoc l with rfl | ⟨l', k, rfl⟩
      · have h0 : S = 0 := hl
        rw [h0, show rd_pc 0 = 0 from rfl] at hp
        exact absurd hp (by omega)
      · obtain ⟨k5, kS, hl'⟩ := (rd_pm_snoc k l' S hS).mp hl
        rw [rd_good_snoc f k l' _ 0 (rd_del_lt S hS k k5) (by decide) hl', Nat.zero_or, Bool.and_eq_true] at hg
        have hd := rd_pc_del S hS k k5 kS
        refine ⟨k, k5, ?_⟩
        rw [if_pos (by rw [kS, rd_and_del S hS P hP hSP k k5, hg.2]; rfl)]
        exact (ih _ (rd_del_lt S hS k k5) (by omega) (rd_and_del S hS P hP hSP k k5)).mpr ⟨l', hl', hg.1⟩
end
section
/-! the row of an order, the least good order -/
def rd_val (l : List Nat) : Nat := l.foldl (fun r k => r * 5 + k) 0
theorem rd_val_from : ∀ (l : List Nat) (r : Nat), l.foldl (fun r k => r * 5 + k) r = r * 5 ^ l.length + rd_val l := by
  intro l
  induction l with
  | nil =>
    intro r
    show r = r * 1 + 0
    omega
  | cons k l ih =>
    intro r
    have e1 : (k :: l).foldl (fun r k => r * 5 + k) r = l.foldl (fun r k => r * 5 + k) (r * 5 + k) := rfl
    have e2 : rd_val (k :: l) = l.foldl (fun r k => r * 5 + k) (0 * 5 + k) := rfl
    rw [e1, e2, ih, ih (0 * 5 + k), List.length_cons, Nat.pow_succ, Nat.zero_mul, Nat.zero_add, Nat.add_mul, Nat.mul_assoc, Nat.mul_comm 5]
    omega
theorem rd_val_cons (k : Nat) (l : List Nat) : rd_val (k :: l) = k * 5 ^ l.length + rd_val l := by
  have e2 : rd_val (k :: l) = l.foldl (fun r k => r * 5 + k) (0 * 5 + k) := rfl
  rw [e2, rd_val_from, Nat.zero_mul, Nat.zero_add]
theorem rd_val_snoc (l : List Nat) (k : Nat) : rd_val (l ++ [k]) = rd_val l * 5 + k := by
  unfold rd_val
  rw [List.foldl_append]
  rfl
theorem rd_val_lt : ∀ l L, rd_pm L l → rd_val l < 5 ^ l.length := by
  intro l
  induction l with
  | nil => intro L _; decide
  | cons k l ih =>
    intro L h
    obtain ⟨k5, _, h'⟩ := h
    have h1 := ih _ h'
    have h2 : (k + 1) * 5 ^ l.length ≤ 5 * 5 ^ l.length := Nat.mul_le_mul_right _ k5
    rw [Nat.succ_mul] at h2
    rw [rd_val_cons, List.length_cons, Nat.pow_succ, Nat.mul_comm (5 ^ l.length)]
    omega
def rd_pick (p : Nat → Bool) : Nat := if p 0 = true then 0 else if p 1 = true then 1 else if p 2 = true then 2 else if p 3 = true then 3 else 4
theorem rd_pick_le (p : Nat → Bool) : rd_pick p ≤ 4 := by
  unfold rd_pick
  repeat' split
  all_goals omega
theorem rd_pick_lt (p : Nat → Bool) : rd_pick p < 4 → p (rd_pick p) = true := by
  unfold rd_pick
  repeat' split
  all_goals (first | (intro _; assumption) | (intro h; omega))
theorem rd_pick_min (p : Nat → Bool) : ∀ j, j < rd_pick p → p j = false := by
  unfold rd_pick
  intro j
  repeat' split
  · intro h; omega
  · intro h
    have e : j = 0 := by omega
    subst e
    exact Bool.eq_false_iff.mpr (by assumption)
  · intro h
    have e : j = 0 ∨ j = 1 := by omega
    rcases e with e | e <;> subst e <;> exact Bool.eq_false_iff.mpr (by assumption)
  · intro h
    have e : j = 0 ∨ j = 1 ∨ j = 2 := by omega
    rcases e with e | e | e <;> subst e <;> exact Bool.eq_false_iff.mpr (by assumption)
  · intro h
    have e : j = 0 ∨ j = 1 ∨ j = 2 ∨ j = 3 := by omega
    rcases e with e | e | e | e <;> subst e <;> exact Bool.eq_false_iff.mpr (by assumption)
theorem rd_pick_ok (p : Nat → Bool) {k : Nat} (hk : k < 5) (h : p k = true) : p (rd_pick p) = true ∧ rd_pick p ≤ k := by
  have h1 := rd_pick_le p
  have h2 : rd_pick p ≤ k := by
    rcases Nat.lt_or_ge k (rd_pick p) with z | z
    · rw [rd_pick_min p k z] at h
      exact absurd h (by decide)
    · exact z
  refine ⟨?_, h2⟩
  by_cases h3 : rd_pick p < 4
  · exact rd_pick_lt p h3
  · have e : rd_pick p = k := by omega
    rw [e]
    exact h
/-- the least task that can follow: L left, S above, m + 1 left in number -/
def rd_cf (f : Nat → Nat → Bool) (m L S k : Nat) : Bool := L.testBit k && (decide (0 < rd_bel f m (rd_del L k) (rd_add S k)) && f k S)
def rd_gr (f : Nat → Nat → Bool) : Nat → Nat → Nat → List Nat
  | 0, _, _ => []
  | m + 1, L, S => rd_pick (rd_cf f m L S) :: rd_gr f m (rd_del L (rd_pick (rd_cf f m L S))) (rd_add S (rd_pick (rd_cf f m L S)))
theorem rd_cf_iff (f : Nat → Nat → Bool) {m L S k : Nat} : rd_cf f m L S k = true ↔ L.testBit k = true ∧ 0 < rd_bel f m (rd_del L k) (rd_add S k) ∧ f k S = true := by
  unfold rd_cf
  rw [Bool.and_eq_true, Bool.and_eq_true, decide_eq_true_iff]
theorem rd_cf_ex (f : Nat → Nat → Bool) {m L S : Nat} (h : 0 < rd_bel f (m + 1) L S) : ∃ k, k < 5 ∧ rd_cf f m L S k = true := by
  have h' : 0 < rd_sum (fun k => if (L.testBit k && f k S) = true then rd_bel f m (rd_del L k) (rd_add S k) else 0) 5 := h
  rw [rd_sum_pos] at h'
  obtain ⟨k, k5, hk⟩ := h'
  by_cases hc : (L.testBit k && f k S) = true
  · rw [if_pos hc] at hk
    rw [Bool.and_eq_true] at hc
    exact ⟨k, k5, (rd_cf_iff f).mpr ⟨hc.1, hk, hc.2⟩⟩
  · rw [if_neg hc] at hk
    exact absurd hk (Nat.lt_irrefl 0)
theorem rd_gr_next (f : Nat → Nat → Bool) {m L S : Nat} (h : 0 < rd_bel f (m + 1) L S) : rd_pick (rd_cf f m L S) < 5 ∧ L.testBit (rd_pick (rd_cf f m L S)) = true ∧ 0 < rd_bel f m (rd_del L (rd_pick (rd_cf f m L S))) (rd_add S (rd_pick (rd_cf f m L S))) ∧ f (rd_pick (rd_cf f m L S)) S = true := by
  obtain ⟨k, k5, hk⟩ := rd_cf_ex f h
  have h1 := rd_pick_le (rd_cf f m L S)
  have h2 := (rd_cf_iff f).mp (rd_pick_ok (rd_cf f m L S) k5 hk).1
  exact ⟨by omega, h2.1, h2.2.1, h2.2.2⟩
theorem rd_gr_ok (f : Nat → Nat → Bool) : ∀ m L S, L < 32 → rd_pc L = m → 0 < rd_bel f m L S → rd_pm L (rd_gr f m L S) ∧ rd_good f S (rd_gr f m L S) = true ∧ ∀ l, rd_pm L l → rd_good f S l = true → rd_val (rd_gr f m L S) ≤ rd_val l := by
  intro m
  induction m with
  | zero =>
    intro L S hL hp _
    exact ⟨rd_pc_0 L hL hp, rfl, fun l _ _ => Nat.zero_le _⟩
  | succ m ih =>
    intro L S hL hp h
    obtain ⟨n1, n2, n3, n4⟩ := rd_gr_next f h
    have hmin : ∀ j, j < 5 → rd_cf f m L S j = true → rd_pick (rd_cf f m L S) ≤ j := fun j j5 hj => (rd_pick_ok _ j5 hj).2
    have e : rd_gr f (m + 1) L S = rd_pick (rd_cf f m L S) :: rd_gr f m (rd_del L (rd_pick (rd_cf f m L S))) (rd_add S (rd_pick (rd_cf f m L S))) := rfl
    rw [e]
    generalize rd_pick (rd_cf f m L S) = k at n1 n2 n3 n4 hmin
    have hd := rd_pc_del L hL k n1 n2
    obtain ⟨g1, g2, g3⟩ := ih _ _ (rd_del_lt L hL k n1) (by omega) n3
    refine ⟨⟨n1, n2, g1⟩, ?_, ?_⟩
    · show (f k S && rd_good f (rd_add S k) (rd_gr f m (rd_del L k) (rd_add S k))) = true
      rw [n4, g2]
      rfl
    · intro l hl hg
      have len := rd_pm_len l L hL hl
      cases l with
      | nil =>
        rw [hp] at len
        exact absurd len (by simp)
      | cons j l =>
        obtain ⟨j5, jL, hl'⟩ := hl
        have hg' : (f j S && rd_good f (rd_add S j) l) = true := hg
        rw [Bool.and_eq_true] at hg'
        have hdj := rd_pc_del L hL j j5 jL
        have hbj : 0 < rd_bel f m (rd_del L j) (rd_add S j) := (rd_bel_pos f (rd_del_lt L hL j j5) (by omega)).mpr ⟨l, hl', hg'.2⟩
        have hkj := hmin j j5 ((rd_cf_iff f).mpr ⟨jL, hbj, hg'.1⟩)
        have len1 := rd_pm_len _ _ (rd_del_lt L hL k n1) g1
        have len2 := rd_pm_len _ _ (rd_del_lt L hL j j5) hl'
        have v1 := rd_val_lt _ _ g1
        rw [rd_val_cons, rd_val_cons]
        have el : (rd_gr f m (rd_del L k) (rd_add S k)).length = l.length := by omega
        rw [el] at v1 ⊢
        rcases Nat.lt_or_eq_of_le hkj with z | z
        · have h2 : (k + 1) * 5 ^ l.length ≤ j * 5 ^ l.length := Nat.mul_le_mul_right _ z
          rw [Nat.succ_mul] at h2
          omega
        · subst z
          exact Nat.add_le_add_left (g3 l hl' hg'.2) _
theorem rd_gr_len (f : Nat → Nat → Bool) : ∀ m L S, (rd_gr f m L S).length = m := by
  intro m
  induction m with
  | zero => intro L S; rfl
  | succ m ih =>
    intro L S
    show (rd_pick (rd_cf f m L S) :: rd_gr f m (rd_del L (rd_pick (rd_cf f m L S))) (rd_add S (rd_pick (rd_cf f m L S)))).length = m + 1
    rw [List.length_cons, ih]
theorem rd_dec_len : ∀ m L c, (rd_dec m L c).length = m := by
  intro m
  induction m with
  | zero => intro L c; rfl
  | succ m ih =>
    intro L c
    show (rd_sel L (c % (m + 1)) :: rd_dec m (rd_del L (rd_sel L (c % (m + 1)))) (c / (m + 1))).length = m + 1
    rw [List.length_cons, ih]
/-! the set of the first i of an order -/
def rd_M (o : Nat → Nat) : Nat → Nat
  | 0 => 0
  | i + 1 => rd_add (rd_M o i) (o i)
theorem rd_M_lt {o : Nat → Nat} : ∀ i, (∀ j, j < i → o j < 5) → rd_M o i < 32 := by
  intro i
  induction i with
  | zero => intro _; exact (by decide : 0 < 32)
  | succ i ih => intro h; exact rd_add_lt _ (ih (fun j hj => h j (by omega))) _ (h i (by omega))
theorem rd_M_cons (o : Nat → Nat) : ∀ i, rd_M o (i + 1) = 2 ^ o 0 ||| rd_M (fun j => o (j + 1)) i := by
  intro i
  induction i with
  | zero =>
    show 0 ||| 2 ^ o 0 = 2 ^ o 0 ||| 0
    rw [Nat.zero_or, Nat.or_zero]
  | succ i ih =>
    show rd_M o (i + 1) ||| 2 ^ o (i + 1) = 2 ^ o 0 ||| (rd_M (fun j => o (j + 1)) i ||| 2 ^ o (i + 1))
    rw [ih, Nat.or_assoc]
theorem rd_M_congr {o o' : Nat → Nat} : ∀ i, (∀ j, j < i → o j = o' j) → rd_M o i = rd_M o' i := by
  intro i
  induction i with
  | zero => intro _; rfl
  | succ i ih =>
    intro h
    show rd_add (rd_M o i) (o i) = rd_add (rd_M o' i) (o' i)
    rw [ih (fun j hj => h j (by omega)), h i (by omega)]
theorem rd_good_ix (f : Nat → Nat → Bool) : ∀ l S, rd_good f S l = true ↔ ∀ i, i < l.length → f (l.getD i 0) (S ||| rd_M (fun j => l.getD j 0) i) = true := by
  intro l
  induction l with
  | nil => intro S; exact ⟨fun _ i hi => absurd hi (Nat.not_lt_zero i), fun _ => rfl⟩
  | cons k l ih =>
    intro S
    show (f k S && rd_good f (rd_add S k) l) = true ↔ _
    rw [Bool.and_eq_true, ih]
    have e : ∀ i, S ||| rd_M (fun j => (k :: l).getD j 0) (i + 1) = rd_add S k ||| rd_M (fun j => l.getD j 0) i := by
      intro i
      rw [rd_M_cons]
      show S ||| (2 ^ k ||| rd_M (fun j => l.getD j 0) i) = (S ||| 2 ^ k) ||| rd_M (fun j => l.getD j 0) i
      rw [Nat.or_assoc]
    constructor
    · rintro ⟨h1, h2⟩ i hi
      cases i with
      | zero =>
        show f k (S ||| 0) = true
        rw [Nat.or_zero]
        exact h1
      | succ i =>
        rw [e i]
        exact h2 i (by rw [List.length_cons] at hi; omega)
    · intro h
      constructor
      · have h0 : f k (S ||| 0) = true := h 0 (by rw [List.length_cons]; omega)
        rw [Nat.or_zero] at h0
        exact h0
      · intro i hi
        have h1 := h (i + 1) (by rw [List.length_cons]; omega)
        rw [e i] at h1
        exact h1
/-! the tables -/
def rd_B (f : Nat → Nat → Bool) (P T : Nat) : Nat := if rd_sub T P = 0 then rd_bel f (rd_pc (rd_sub P T)) (rd_sub P T) T else 0
def rd_A (f : Nat → Nat → Bool) (P T : Nat) : Nat := rd_am f P (rd_pc T) T
theorem rd_pow5 : ∀ m, m ≤ 5 → 5 ^ m ≤ 3125 := by decide
theorem rd_B_le (f : Nat → Nat → Bool) {P T : Nat} (hP : P < 32) (hT : T < 32) : rd_B f P T ≤ 3125 := by
  unfold rd_B
  split
  · exact Nat.le_trans (rd_bel_le f _ _ _) (rd_pow5 _ (rd_pc_le _ (rd_sub_lt P hP T hT)))
  · omega
theorem rd_A_le (f : Nat → Nat → Bool) {P T : Nat} (hT : T < 32) : rd_A f P T ≤ 3125 :=
  Nat.le_trans (rd_am_le f _ _ _) (rd_pow5 _ (rd_pc_le _ hT))
def rd_Bt (f : Nat → Nat → Bool) (P S k : Nat) : Nat := if ((rd_sub P S).testBit k && (decide (rd_sub S P = 0) && f k S)) = true then rd_B f P (rd_add S k) else 0
def rd_At (f : Nat → Nat → Bool) (P S k : Nat) : Nat := if ((S &&& P).testBit k && f k (rd_del S k &&& P)) = true then rd_A f P (rd_del S k) else 0
theorem rd_B_step (f : Nat → Nat → Bool) {P S k : Nat} (hP : P < 32) (hS : S < 32) (hk : k < 5) (h0 : rd_sub S P = 0) (hb : (rd_sub P S).testBit k = true) : rd_B f P (rd_add S k) = rd_bel f (rd_pc (rd_sub P S) - 1) (rd_del (rd_sub P S) k) (rd_add S k) := by
  unfold rd_B
  have hd := rd_pc_del _ (rd_sub_lt P hP S hS) k hk hb
  rw [if_pos (rd_sub_grow P hP S hS h0 k hk hb), rd_sub_add P hP S hS k hk, ← hd, Nat.add_sub_cancel]
theorem rd_B_eq (f : Nat → Nat → Bool) {P S : Nat} (hP : P < 32) (hS : S < 32) : rd_B f P S = (if S = P then 1 else 0) + rd_sum (rd_Bt f P S) 5 := by
  by_cases h0 : rd_sub S P = 0
  · have eB : rd_B f P S = rd_bel f (rd_pc (rd_sub P S)) (rd_sub P S) S := by unfold rd_B; rw [if_pos h0]
    cases hm : rd_pc (rd_sub P S) with
    | zero =>
      have z := rd_pc_0 _ (rd_sub_lt P hP S hS) hm
      have e := rd_sub_eq P hP S hS h0 z
      have es : rd_sum (rd_Bt f P S) 5 = rd_sum (fun _ => 0) 5 := by
        refine rd_sum_congr 5 (fun k _ => ?_)
        unfold rd_Bt
        rw [z, Nat.zero_testBit, Bool.false_and]
        rfl
      rw [eB, hm, es, rd_sum_0, if_pos e]
      rfl
    | succ m =>
      have ne : ¬ S = P := by
        intro e
        rw [e, rd_sub_self P hP, show rd_pc 0 = 0 from rfl] at hm
        exact absurd hm (by omega)
      rw [eB, hm, if_neg ne, Nat.zero_add]
      show rd_sum (fun k => if ((rd_sub P S).testBit k && f k S) = true then rd_bel f m (rd_del (rd_sub P S) k) (rd_add S k) else 0) 5 = _
      refine rd_sum_congr 5 (fun k k5 => ?_)
      unfold rd_Bt
      rw [decide_eq_true h0, Bool.true_and]
      cases hb : (rd_sub P S).testBit k
      · rfl
      · rw [rd_B_step f hP hS k5 h0 hb, hm]
        rfl
  · have eB : rd_B f P S = 0 := by unfold rd_B; rw [if_neg h0]
    have ne : ¬ S = P := by
      intro e
      rw [e] at h0
      exact h0 (rd_sub_self P hP)
    have es : rd_sum (rd_Bt f P S) 5 = rd_sum (fun _ => 0) 5 := by
      refine rd_sum_congr 5 (fun k _ => ?_)
      unfold rd_Bt
      rw [decide_eq_false h0, Bool.false_and, Bool.and_false]
      rfl
    rw [eB, es, rd_sum_0, if_neg ne]
theorem rd_A_eq (f : Nat → Nat → Bool) {P S : Nat} (hS : S < 32) : rd_A f P S = (if S = 0 then 1 else 0) + rd_sum (rd_At f P S) 5 := by
  by_cases h0 : S = 0
  · have es : rd_sum (rd_At f P S) 5 = rd_sum (fun _ => 0) 5 := by
      refine rd_sum_congr 5 (fun k _ => ?_)
      unfold rd_At
      rw [h0, Nat.zero_and, Nat.zero_testBit, Bool.false_and]
      rfl
    rw [es, rd_sum_0, if_pos h0, h0]
    rfl
  · unfold rd_A
    cases hm : rd_pc S with
    | zero => exact absurd (rd_pc_0 S hS hm) h0
    | succ m =>
      rw [if_neg h0, Nat.zero_add]
      show rd_sum (fun k => if ((S &&& P).testBit k && f k (rd_del S k &&& P)) = true then rd_am f P m (rd_del S k) else 0) 5 = _
      refine rd_sum_congr 5 (fun k k5 => ?_)
      unfold rd_At
      cases hb : (S &&& P).testBit k
      · rfl
      · rw [rd_and_tb, Bool.and_eq_true] at hb
        have hd := rd_pc_del S hS k k5 hb.1
        have e : rd_pc (rd_del S k) = m := by omega
        unfold rd_A
        rw [e]
/-! masks out of a Bool function -/
def rd_mk (g : Nat → Bool) : Nat → Nat
  | 0 => 0
  | k + 1 => if g k = true then rd_add (rd_mk g k) k else rd_mk g k
theorem rd_mk_lt (g : Nat → Bool) : ∀ k, k ≤ 5 → rd_mk g k < 32 := by
  intro k
  induction k with
  | zero => intro _; exact (by decide : 0 < 32)
  | succ k ih =>
    intro hk
    show (if g k = true then rd_add (rd_mk g k) k else rd_mk g k) < 32
    split
    · exact rd_add_lt _ (ih (by omega)) k (by omega)
    · exact ih (by omega)
theorem rd_mk_tb (g : Nat → Bool) : ∀ k, k ≤ 5 → ∀ j, j < 5 → (rd_mk g k).testBit j = (decide (j < k) && g j) := by
  intro k
  induction k with
  | zero =>
    intro _ j _
    show (0 : Nat).testBit j = _
    rw [Nat.zero_testBit, decide_eq_false (Nat.not_lt_zero j), Bool.false_and]
  | succ k ih =>
    intro hk j hj
    have ih' := ih (by omega) j hj
    show (if g k = true then rd_add (rd_mk g k) k else rd_mk g k).testBit j = _
    by_cases e : j = k
    · subst e
      rw [decide_eq_false (Nat.lt_irrefl j), Bool.false_and] at ih'
      rw [decide_eq_true (Nat.lt_succ_self j), Bool.true_and]
      split
      · rw [rd_add_tb _ (rd_mk_lt g j (by omega)) j hj j hj, decide_eq_true rfl, Bool.or_true]
        exact Eq.symm (by assumption)
      · rw [ih']
        exact (Bool.eq_false_iff.mpr (by assumption)).symm
    · have ed : decide (j < k + 1) = decide (j < k) := by
        rw [decide_eq_decide]
        omega
      rw [ed]
      split
      · rw [rd_add_tb _ (rd_mk_lt g k (by omega)) k (by omega) j hj, decide_eq_false e, Bool.or_false]
        exact ih'
      · exact ih'
theorem rd_mk_eq (g : Nat → Bool) {P : Nat} (hP : P < 32) : rd_mk g 5 = P ↔ ∀ j, j < 5 → g j = P.testBit j := by
  have t : ∀ j, j < 5 → (rd_mk g 5).testBit j = g j := fun j hj => by rw [rd_mk_tb g 5 (by omega) j hj, decide_eq_true hj, Bool.true_and]
  constructor
  · intro h j hj
    rw [← t j hj, h]
  · intro h
    exact rd_ext _ (rd_mk_lt g 5 (by omega)) P hP (fun j hj => by rw [t j hj, h j hj])
end
section
/-! bits of Int32 against naturals -/
theorem rd_b0 : ∀ S, S < 32 → ∀ k, k < 5 → ((nI S >>> (nI k &&& 31)) &&& 1) = nI (if S.testBit k = true then 1 else 0) := by decide +kernel
theorem rd_bor : ∀ S, S < 32 → ∀ k, k < 5 → nI S ||| ((1 : Int32) <<< (nI k &&& 31)) = nI (rd_add S k) := by decide +kernel
theorem rd_bdel : ∀ S, S < 32 → ∀ k, k < 5 → nI S &&& (((1 : Int32) <<< (nI k &&& 31)) ^^^ (-1)) = nI (rd_del S k) := by decide +kernel
theorem rd_bsub : ∀ P, P < 32 → ∀ S, S < 32 → nI P &&& (nI S ^^^ (-1)) = nI (rd_sub P S) := by decide +kernel
theorem rd_band : ∀ P, P < 32 → ∀ S, S < 32 → nI P &&& nI S = nI (P &&& S) := by decide +kernel
theorem rd_or0 : ∀ S, S < 32 → nI S ||| 0 = nI S := by decide +kernel
theorem rd_b8 : ∀ c, c < 16 → (nI c).toInt8.toInt32 = nI c := by decide +kernel
theorem rd_nb (c : Nat) (hc : c < 16) : vp_nar .byte (nI c) = nI c := by rw [vp_nar_byte]; exact rd_b8 c hc
theorem rd_m1 {n : Nat} (h : 0 < n) : nI n - 1 = nI (n - 1) := by
  obtain ⟨m, rfl⟩ : ∃ m, n = m + 1 := ⟨n - 1, by omega⟩
  exact nI_pred m
theorem rd_in {post : Int32 → Prop} {S k : Nat} (hS : S < 32) (hk : k < 5) (h0 : S.testBit k = false → post 0) (h1 : S.testBit k = true → post 1) : wpX_in post () (nI S) (nI k) := by
  unfold wpX_in
  rw [rd_b0 S hS k hk]
  cases h : S.testBit k
  · exact br_t (by decide) (h0 h)
  · exact br_f (by decide) (h1 h)
/-! the work of a set, a response, in time or not: there is an answer, whatever the rest of the state -/
theorem rd_work (a1 a3 : Nat → Int32) (x1 x2 : Int32) : ∃ r : Int32, ∀ (post : Int32 → Prop) (p c : Int32) (a2 a4 a5 a6 : Nat → Int32), post r → wpX_workIn post (p, c, a1, a2, a3, a4, a5, a6) x1 x2 := by
  have key : ∀ j, j ≤ 5 → ∀ x3 : Int32, ∃ r : Int32, ∀ (post : Int32 → Prop) (p c : Int32) (a2 a4 a5 a6 : Nat → Int32), post r → wX_workIn_5 post x1 x2 p c a1 a2 a3 a4 a5 a6 (j + 1) x3 (nI (5 - j)) := by
    intro j
    induction j with
    | zero =>
      intro _ x3
      exact ⟨x3, fun post p c a2 a4 a5 a6 hp => pk_le 5 5 (fun _ => hp) (fun z => absurd z (by omega))⟩
    | succ j ih =>
      intro hj x3
      obtain ⟨i, hi, ei⟩ : ∃ i, i < 5 ∧ 5 - (j + 1) = i := ⟨5 - (j + 1), by omega, rfl⟩
      rw [ei]
      have e : nI i + 1 = nI (5 - j) := by rw [nI_1]; congr 1; omega
      by_cases hb : ((x1 >>> (nI i &&& 31)) &&& 1) = 0
      · obtain ⟨r, hr⟩ := ih (by omega) x3
        refine ⟨r, fun post p c a2 a4 a5 a6 hp => pk_le 5 i (fun z => absurd z (by omega)) (fun _ => ?_)⟩
        exact br_t hb (br_t rfl (nm_r e (hr post p c a2 a4 a5 a6 hp)))
      · by_cases hz : a3 (nI i).toNatClampNeg ≤ 0
        · obtain ⟨r, hr⟩ := ih (by omega) (x3 + ((((x2 + 1) - 1) / 1) * (a1 (nI i).toNatClampNeg)))
          refine ⟨r, fun post p c a2 a4 a5 a6 hp => pk_le 5 i (fun z => absurd z (by omega)) (fun _ => ?_)⟩
          exact br_f hb (br_f (by decide) ⟨pk_in i 5 hi, br_t hz ⟨by decide, pk_in i 5 hi, nm_e (nm_r e (hr post p c a2 a4 a5 a6 hp))⟩⟩)
        · have hne : ¬ a3 (nI i).toNatClampNeg = 0 := fun z => hz (by rw [z]; decide)
          obtain ⟨r, hr⟩ := ih (by omega) (x3 + ((((x2 + a3 (nI i).toNatClampNeg) - 1) / a3 (nI i).toNatClampNeg) * (a1 (nI i).toNatClampNeg)))
          refine ⟨r, fun post p c a2 a4 a5 a6 hp => pk_le 5 i (fun z => absurd z (by omega)) (fun _ => ?_)⟩
          exact br_f hb (br_f (by decide) ⟨pk_in i 5 hi, br_f hz ⟨pk_in i 5 hi, hne, pk_in i 5 hi, nm_e (nm_r e (hr post p c a2 a4 a5 a6 hp))⟩⟩)
  obtain ⟨r, hr⟩ := key 5 (Nat.le_refl 5) 0
  exact ⟨r, fun post p c a2 a4 a5 a6 hp => ⟨6, hr post p c a2 a4 a5 a6 hp⟩⟩
theorem rd_resp (a1 a3 : Nat → Int32) (k : Nat) (hk : k < 5) (x2 : Int32) : ∃ r : Int32, ∀ (post : Int32 → Prop) (p c : Int32) (a2 a4 a5 a6 : Nat → Int32), post r → wpX_responseUnder post (p, c, a1, a2, a3, a4, a5, a6) (nI k) x2 := by
  have key : ∀ j, j ≤ 16 → ∀ x3 : Int32, ∃ r : Int32, ∀ (post : Int32 → Prop) (p c : Int32) (a2 a4 a5 a6 : Nat → Int32), post r → wX_responseUnder_10 post (nI k) x2 p c a1 a2 a3 a4 a5 a6 (j + 1) x3 (nI (16 - j)) := by
    intro j
    induction j with
    | zero =>
      intro _ x3
      exact ⟨-3, fun post p c a2 a4 a5 a6 hp => pk_lt 15 16 (fun _ => hp) (fun z => absurd z (by omega))⟩
    | succ j ih =>
      intro hj x3
      obtain ⟨i, hi, ei⟩ : ∃ i, i < 16 ∧ 16 - (j + 1) = i := ⟨16 - (j + 1), by omega, rfl⟩
      rw [ei]
      have e : nI i + 1 = nI (16 - j) := by rw [nI_1]; congr 1; omega
      obtain ⟨w, hw⟩ := rd_work a1 a3 x2 x3
      by_cases h1 : a1 (nI k).toNatClampNeg + w = x3
      · refine ⟨x3, fun post p c a2 a4 a5 a6 hp => pk_lt 15 i (fun z => absurd z (by omega)) (fun _ => ⟨pk_in k 5 hk, ?_⟩)⟩
        exact hw _ p c a2 a4 a5 a6 (nm_e (br_t h1 hp))
      · by_cases h2 : a1 (nI k).toNatClampNeg + w ≤ a3 (nI k).toNatClampNeg
        · obtain ⟨r, hr⟩ := ih (by omega) (a1 (nI k).toNatClampNeg + w)
          refine ⟨r, fun post p c a2 a4 a5 a6 hp => pk_lt 15 i (fun z => absurd z (by omega)) (fun _ => ⟨pk_in k 5 hk, ?_⟩)⟩
          exact hw _ p c a2 a4 a5 a6 (nm_e (br_f h1 ⟨pk_in k 5 hk, br_t h2 (nm_r e (hr post p c a2 a4 a5 a6 hp))⟩))
        · refine ⟨-3, fun post p c a2 a4 a5 a6 hp => pk_lt 15 i (fun z => absurd z (by omega)) (fun _ => ⟨pk_in k 5 hk, ?_⟩)⟩
          exact hw _ p c a2 a4 a5 a6 (nm_e (br_f h1 ⟨pk_in k 5 hk, br_f h2 hp⟩))
  obtain ⟨r, hr⟩ := key 16 (Nat.le_refl 16) (a1 (nI k).toNatClampNeg)
  exact ⟨r, fun post p c a2 a4 a5 a6 hp => ⟨pk_in k 5 hk, nm_e ⟨17, hr post p c a2 a4 a5 a6 hp⟩⟩⟩
theorem rd_itu (a1 a2 a3 : Nat → Int32) (k : Nat) (hk : k < 5) (x2 : Int32) : ∃ b : Bool, ∀ (post : Int32 → Prop) (p c : Int32) (a4 a5 a6 : Nat → Int32), (b = false → post 0) → (b = true → post 1) → wpX_inTimeUnder post (p, c, a1, a2, a3, a4, a5, a6) (nI k) x2 := by
  obtain ⟨r, hr⟩ := rd_resp a1 a3 k hk x2
  by_cases h : r = -3
  · exact ⟨false, fun post p c a4 a5 a6 h0 _ => hr _ p c a2 a4 a5 a6 (br_t h (h0 rfl))⟩
  · by_cases h2 : a2 (nI k).toNatClampNeg < r
    · exact ⟨false, fun post p c a4 a5 a6 h0 _ => hr _ p c a2 a4 a5 a6 (br_f h ⟨pk_in k 5 hk, br_t h2 (h0 rfl)⟩)⟩
    · exact ⟨true, fun post p c a4 a5 a6 _ h1 => hr _ p c a2 a4 a5 a6 (br_f h ⟨pk_in k 5 hk, br_f h2 (h1 rfl)⟩)⟩
noncomputable def rd_f (a1 a2 a3 : Nat → Int32) (k S : Nat) : Bool := if h : k < 5 then Classical.choose (rd_itu a1 a2 a3 k h (nI S)) else false
theorem rd_fw {post : Int32 → Prop} {p c : Int32} {a1 a2 a3 a4 a5 a6 : Nat → Int32} {k S : Nat} (hk : k < 5) (h0 : rd_f a1 a2 a3 k S = false → post 0) (h1 : rd_f a1 a2 a3 k S = true → post 1) : wpX_inTimeUnder post (p, c, a1, a2, a3, a4, a5, a6) (nI k) (nI S) := by
  have e : rd_f a1 a2 a3 k S = Classical.choose (rd_itu a1 a2 a3 k hk (nI S)) := by unfold rd_f; rw [dif_pos hk]
  have h := Classical.choose_spec (rd_itu a1 a2 a3 k hk (nI S))
  rw [← e] at h
  exact h post p c a4 a5 a6 h0 h1
/-! has, placeOf, moreUrgent, good -/
theorem rd_has {post : Int32 → Prop} {c : Int32} {a1 a2 a3 a4 a5 a6 : Nat → Int32} {P k : Nat} (hP : P < 32) (hk : k < 5) (h0 : P.testBit k = false → post 0) (h1 : P.testBit k = true → post 1) : wpX_has post (nI P, c, a1, a2, a3, a4, a5, a6) (nI k) := by
  refine br_f (nI_pos (by omega)) (pk_le 5 k (fun z => absurd z (by omega)) (fun _ => ?_))
  rw [rd_b0 P hP k hk]
  cases h : P.testBit k
  · exact br_t (by decide) (h0 h)
  · exact br_f (by decide) (h1 h)
theorem rd_hasN {P : Nat} (hP : P < 32) (x : Int32) : (∃ k, k < 5 ∧ x = nI k ∧ P.testBit k = true) ∨ (∀ (post : Int32 → Prop) (c : Int32) (a1 a2 a3 a4 a5 a6 : Nat → Int32), post 0 → wpX_has post (nI P, c, a1, a2, a3, a4, a5, a6) x) := by
  rcases pk_ix x (n := 5) (by omega) with h | h | ⟨k, hk, rfl⟩
  · exact Or.inr (fun post c a1 a2 a3 a4 a5 a6 hp => br_t h hp)
  · by_cases hx : x < 0
    · exact Or.inr (fun post c a1 a2 a3 a4 a5 a6 hp => br_t hx hp)
    · exact Or.inr (fun post c a1 a2 a3 a4 a5 a6 hp => br_f hx (br_t h hp))
  · cases hb : P.testBit k
    · exact Or.inr (fun post c a1 a2 a3 a4 a5 a6 hp => rd_has hP hk (fun _ => hp) (fun z => absurd (hb.symm.trans z) (by decide)))
    · exact Or.inl ⟨k, hk, rfl, hb⟩
/-- o: the order of the n tasks of P -/
def rd_VO (P n : Nat) (o : Nat → Nat) : Prop := n ≤ 5 ∧ (∀ i, i < n → o i < 5 ∧ P.testBit (o i) = true) ∧ (∀ i j, i < n → j < n → o i = o j → i = j) ∧ (∀ k, k < 5 → P.testBit k = true → ∃ i, i < n ∧ o i = k)
def rd_A4 (n : Nat) (o : Nat → Nat) (a4 : Nat → Int32) : Prop := ∀ j, j < n → a4 j = nI (o j)
theorem rd_pof {post : Int32 → Prop} {p : Int32} {a1 a2 a3 a4 a5 a6 : Nat → Int32} {P n i : Nat} {o : Nat → Nat} (hV : rd_VO P n o) (h4 : rd_A4 n o a4) (hi : i < n) (hp : post (nI i)) : wpX_placeOf post (p, nI n, a1, a2, a3, a4, a5, a6) (nI (o i)) := by
  obtain ⟨hn, ho, inj, _⟩ := hV
  refine pk_loop (σ := Unit) (fun fu j _ => wX_placeOf_2 post (nI (o i)) p (nI n) a1 a2 a3 a4 a5 a6 fu (nI j)) (fun _ _ => True) i 0 () (by omega) trivial ?_ ?_
  · intro fu _ _
    refine pk_le (n - 1) i (fun _ => hp) (fun z => ⟨pk_in i 5 (by omega), br_t ?_ hp⟩) (rd_m1 (by omega))
    rw [nI_clamp (by omega)]
    exact h4 i hi
  · intro fu j _ hj _ hw
    refine pk_le (n - 1) j (fun z => absurd z (by omega)) (fun z => ⟨pk_in j 5 (by omega), br_f ?_ (nm_r (nI_1 j) (hw () trivial))⟩) (rd_m1 (by omega))
    rw [nI_clamp (by omega), h4 j (by omega)]
    intro e
    have oj := (ho j (by omega)).1
    have oi := (ho i hi).1
    have := inj j i (by omega) hi ((nI_eq (by omega) (by omega)).mp e)
    omega
theorem rd_mu {post : Int32 → Prop} {p : Int32} {a1 a2 a3 a4 a5 a6 : Nat → Int32} {P n i : Nat} {o : Nat → Nat} (hV : rd_VO P n o) (h4 : rd_A4 n o a4) (hi : i < n) (hp : post (nI (rd_M o i))) : wpX_moreUrgent post (p, nI n, a1, a2, a3, a4, a5, a6) (nI (o i)) := by
  have hn := hV.1
  have ho := hV.2.1
  refine rd_pof hV h4 hi ?_
  refine pk_loop (σ := Unit) (fun fu j _ => wX_moreUrgent_11 post (nI i) p (nI n) a1 a2 a3 a4 a5 a6 fu (nI (rd_M o j)) (nI j)) (fun _ _ => True) i 0 () (by omega) trivial ?_ ?_
  · intro fu _ _
    exact pk_le i i (fun _ => hp) (fun z => absurd z (by omega))
  · intro fu j _ hj _ hw
    refine pk_le i j (fun z => absurd z (by omega)) (fun z => ⟨pk_in j 5 (by omega), nm_r ?_ (nm_r (nI_1 j) (hw () trivial))⟩)
    rw [nI_clamp (by omega), h4 j (by omega)]
    exact rd_bor _ (rd_M_lt j (fun t ht => (ho t (by omega)).1)) _ (ho j (by omega)).1
theorem rd_inTime {post : Int32 → Prop} {a1 a2 a3 a4 a5 a6 : Nat → Int32} {P n : Nat} {o : Nat → Nat} {t : Nat → Bool} (hP : P < 32) (hV : rd_VO P n o) (h4 : rd_A4 n o a4) (ht : ∀ i, i < n → t (o i) = rd_f a1 a2 a3 (o i) (rd_M o i)) (hp : post (nI (rd_mk (fun k => P.testBit k && t k) 5))) : wpX_inTime post (nI P, nI n, a1, a2, a3, a4, a5, a6) := by
  refine pk_loop (σ := Unit) (fun fu k _ => wX_inTime_4 post (nI P) (nI n) a1 a2 a3 a4 a5 a6 fu (nI (rd_mk (fun k => P.testBit k && t k) k)) (nI k)) (fun _ _ => True) 5 0 () (by omega) trivial ?_ ?_
  · intro fu _ _
    exact pk_le 5 5 (fun _ => hp) (fun z => absurd z (by omega))
  · intro fu k _ hk _ hw
    have hw' := hw () trivial
    have hm := rd_mk_lt (fun k => P.testBit k && t k) k (by omega)
    have em : rd_mk (fun k => P.testBit k && t k) (k + 1) = if (P.testBit k && t k) = true then rd_add (rd_mk (fun k => P.testBit k && t k) k) k else rd_mk (fun k => P.testBit k && t k) k := rfl
    try dsimp only at hw'
    rw [em] at hw'
    try dsimp only
    generalize rd_mk (fun k => P.testBit k && t k) k = m at hm hw'
    refine pk_le 5 k (fun z => absurd z (by omega)) (fun _ => rd_has hP hk (fun hb => br_t rfl (nm_r (nI_1 k) ?_)) (fun hb => br_f (by decide) ?_))
    · rw [hb, Bool.false_and, if_neg (by decide)] at hw'
      exact hw'
    · obtain ⟨i, hi, rfl⟩ := hV.2.2.2 k hk hb
      refine rd_mu hV h4 hi (rd_fw hk (fun hf => br_t rfl (nm_r (rd_or0 m hm) (nm_r (nI_1 _) ?_))) (fun hf => br_f (by decide) (nm_r (rd_bor m hm _ hk) (nm_r (nI_1 _) ?_))))
      · rw [ht i hi, hf, Bool.and_false, if_neg (by decide)] at hw'
        exact hw'
      · rw [ht i hi, hf, hb, Bool.true_and, if_pos rfl] at hw'
        exact hw'
theorem rd_goodw {post : Int32 → Prop} {a1 a2 a3 a4 a5 a6 : Nat → Int32} {P n : Nat} {o : Nat → Nat} (hP : P < 32) (hV : rd_VO P n o) (h4 : rd_A4 n o a4) (h1 : (∀ i, i < n → rd_f a1 a2 a3 (o i) (rd_M o i) = true) → post 1) (h0 : ¬ (∀ i, i < n → rd_f a1 a2 a3 (o i) (rd_M o i) = true) → post 0) : wpX_good post (nI P, nI n, a1, a2, a3, a4, a5, a6) := by
  have hV' := hV
  obtain ⟨hn, ho, inj, sur⟩ := hV'
  have ex : ∃ t : Nat → Bool, ∀ i, i < n → t (o i) = rd_f a1 a2 a3 (o i) (rd_M o i) := by
    refine ⟨fun k => @decide (∃ i, i < n ∧ o i = k ∧ rd_f a1 a2 a3 k (rd_M o i) = true) (Classical.propDecidable _), fun i hi => ?_⟩
    cases hf : rd_f a1 a2 a3 (o i) (rd_M o i)
    · refine @decide_eq_false _ (Classical.propDecidable _) ?_
      rintro ⟨j, hj, ej, h⟩
      rw [inj j i hj hi ej, hf] at h
      exact absurd h (by decide)
    · exact @decide_eq_true _ (Classical.propDecidable _) ⟨i, hi, rfl, hf⟩
  obtain ⟨t, ht⟩ := ex
  have hlt := rd_mk_lt (fun k => P.testBit k && t k) 5 (by omega)
  have heq := rd_mk_eq (fun k => P.testBit k && t k) hP
  refine rd_inTime hP hV h4 ht ?_
  refine pk_eq (rd_mk (fun k => P.testBit k && t k) 5) P (fun e => h1 ?_) (fun e => h0 ?_)
  · intro i hi
    have := heq.mp e (o i) (ho i hi).1
    try dsimp only at this
    rw [(ho i hi).2, Bool.true_and, ht i hi] at this
    exact this
  · intro h
    refine e (heq.mpr (fun k hk => ?_))
    cases hb : P.testBit k
    · rw [Bool.false_and]
    · obtain ⟨i, hi, rfl⟩ := sur k hk hb
      rw [Bool.true_and, ht i hi, h i hi]
end
section
/-- a state that matches: the tasks P, n of them, in the order o -/
def rd_ok (P n : Nat) (o : Nat → Nat) (a1 a2 a3 a4 : Nat → Int32) : Prop := P < 32 ∧ n = rd_pc P ∧ rd_VO P n o ∧ rd_A4 n o a4 ∧ (∀ k, k < 5 → vp_nar .byte (a1 k) = a1 k) ∧ (∀ k, k < 5 → vp_nar .byte (a3 k) = a3 k) ∧ (∀ k, k < 5 → ∃ d, d ≤ 15 ∧ a2 k = nI d ∧ (P.testBit k = true → 1 ≤ d))
theorem rd_ok0 : rd_ok 0 0 (fun _ => 0) (fun _ => 0) (fun _ => 0) (fun _ => 0) (fun _ => 0) :=
  ⟨by decide, by decide, ⟨by decide, fun i hi => absurd hi (Nat.not_lt_zero i), fun i j hi => absurd hi (Nat.not_lt_zero i), fun k _ h => absurd h (by rw [Nat.zero_testBit]; decide)⟩, fun j hj => absurd hj (Nat.not_lt_zero j), fun _ _ => rd_nb 0 (by decide), fun _ _ => rd_nb 0 (by decide), fun k _ => ⟨0, by decide, rfl, fun h => absurd h (by rw [Nat.zero_testBit]; decide)⟩⟩
theorem rd_response {P n : Nat} {o : Nat → Nat} {a1 a2 a3 a4 a5 a6 : Nat → Int32} (h : rd_ok P n o a1 a2 a3 a4) {k : Nat} (hk : k < 5) : ∃ r : Int32, ∀ post : Int32 → Prop, post r → wpX_response post (nI P, nI n, a1, a2, a3, a4, a5, a6) (nI k) := by
  obtain ⟨hP, _, hV, h4, _⟩ := h
  cases hb : P.testBit k
  · exact ⟨-1, fun post hp => (by
        unfold wpX_response
        try dsimp only
        exact rd_has hP hk (fun _ => br_t rfl hp) (fun z => absurd (hb.symm.trans z) (by decide)))⟩
  · obtain ⟨i, hi, rfl⟩ := hV.2.2.2 k hk hb
    obtain ⟨r, hr⟩ := rd_resp a1 a3 (o i) hk (nI (rd_M o i))
    exact ⟨r, fun post hp => (by
        unfold wpX_response
        try dsimp only
        exact rd_has hP hk (fun z => absurd (hb.symm.trans z) (by decide)) (fun _ => br_f (by decide) (rd_mu hV h4 hi (hr _ _ _ _ _ _ _ hp))))⟩
theorem rd_at {post : Int32 → Prop} {p : Int32} {a1 a2 a3 a4 a5 a6 : Nat → Int32} {n k : Nat} (hn : n ≤ 5) (hk : k < n) (hp : post (a4 k)) : wpX_at post (p, nI n, a1, a2, a3, a4, a5, a6) (nI k) :=
  br_f (nI_pos (by omega)) (pk_lt k n (fun _ => ⟨pk_in k 5 (by omega), by rw [nI_clamp (by omega)]; exact hp⟩) (fun z => absurd z (by omega)))
theorem rd_atD {p : Int32} {a1 a2 a3 a4 a5 a6 : Nat → Int32} {n k : Nat} (hn : n ≤ 5) (hk : k < 5) : ∃ r : Int32, ∀ post : Int32 → Prop, post r → wpX_at post (p, nI n, a1, a2, a3, a4, a5, a6) (nI k) := by
  by_cases h : k < n
  · exact ⟨a4 k, fun post hp => rd_at hn h hp⟩
  · exact ⟨-1, fun post hp => br_f (nI_pos (by omega)) (pk_lt k n (fun z => absurd z h) (fun _ => hp))⟩
theorem rd_restore {a b : Nat → Int32} {k : Nat} {x : Int32} (hx : x = a k) (h : ∀ i, i ≠ k → b i = a i) : upd b k x = a := by
  funext j
  by_cases e : j = k
  · rw [e, pk_us, hx]
  · rw [pk_un e]
    exact h j e
theorem rd_gc {P n : Nat} {o : Nat → Nat} {a1 a2 a3 a4 a5 a6 : Nat → Int32} (h : rd_ok P n o a1 a2 a3 a4) {k : Nat} (hk : k < 5) : ∃ r : Int32, ∀ post : Int32 → St1 → Prop, post r (nI P, nI n, a1, a2, a3, a4, a5, a6) → wpX_greatestCost post (nI P, nI n, a1, a2, a3, a4, a5, a6) (nI k) := by
  obtain ⟨hP, _, hV, h4, hb1, _, hd⟩ := h
  have ek : (nI k).toNatClampNeg = k := nI_clamp (by omega)
  cases hb : P.testBit k
  · exact ⟨-1, fun post hp => (by
        unfold wpX_greatestCost
        try dsimp only
        exact rd_has hP hk (fun _ => br_t rfl hp) (fun z => absurd (hb.symm.trans z) (by decide)))⟩
  · obtain ⟨d, hd15, ed, _⟩ := hd k hk
    have ed' : a2 (nI k).toNatClampNeg = nI d := by rw [ek]; exact ed
    have key : ∀ j, j ≤ d → ∀ (x3 : Int32) (b1 : Nat → Int32), (∀ i, i ≠ k → b1 i = a1 i) → ∃ r : Int32, ∀ post : Int32 → St1 → Prop, post r (nI P, nI n, a1, a2, a3, a4, a5, a6) → wX_greatestCost_22 post (nI k) (a1 k) (nI P) (nI n) (j + 1) x3 (nI (d + 1 - j)) b1 a2 a3 a4 a5 a6 := by
      intro j
      induction j with
      | zero =>
        intro _ x3 b1 hb1'
        refine ⟨x3, fun post hp => ⟨pk_in k 5 hk, pk_lt d (d + 1) (fun _ => ⟨pk_in k 5 hk, nm_r ?_ hp⟩) (fun z => absurd z (by omega)) ed'⟩⟩
        rw [ek]
        exact rd_restore (hb1 k hk) hb1'
      | succ j ih =>
        intro hj x3 b1 hb1'
        obtain ⟨i, hi, ei⟩ : ∃ i, i ≤ d ∧ d + 1 - (j + 1) = i := ⟨d + 1 - (j + 1), by omega, rfl⟩
        rw [ei]
        have e : nI i + 1 = nI (d + 1 - j) := by rw [nI_1]; congr 1; omega
        have eu : upd b1 (nI k).toNatClampNeg (nI i).toInt8.toInt32 = upd b1 k (nI i) := by rw [ek, rd_b8 i (by omega)]
        have hu : ∀ t, t ≠ k → upd b1 k (nI i) t = a1 t := fun t ht => by rw [pk_un ht]; exact hb1' t ht
        by_cases g : ∀ t, t < n → rd_f (upd b1 k (nI i)) a2 a3 (o t) (rd_M o t) = true
        · obtain ⟨r, hr⟩ := ih (by omega) (nI i) _ hu
          exact ⟨r, fun post hp => ⟨pk_in k 5 hk, pk_lt d i (fun z => absurd z (by omega)) (fun _ => ⟨pk_in k 5 hk, nm_r eu (rd_goodw hP hV h4 (fun _ => br_f (by decide) (nm_r e (hr post hp))) (fun z => absurd g z))⟩) ed'⟩⟩
        · obtain ⟨r, hr⟩ := ih (by omega) x3 _ hu
          exact ⟨r, fun post hp => ⟨pk_in k 5 hk, pk_lt d i (fun z => absurd z (by omega)) (fun _ => ⟨pk_in k 5 hk, nm_r eu (rd_goodw hP hV h4 (fun z => absurd z g) (fun _ => br_t rfl (nm_r e (hr post hp))))⟩) ed'⟩⟩
    obtain ⟨r, hr⟩ := key d (Nat.le_refl d) 0 a1 (fun _ _ => rfl)
    rw [show d + 1 - d = 1 by omega] at hr
    exact ⟨r, fun post hp => (by
        unfold wpX_greatestCost
        try dsimp only
        exact rd_has hP hk (fun z => absurd (hb.symm.trans z) (by decide)) (fun _ => br_f (by decide) ⟨pk_in k 5 hk, nm_r (congrArg a1 ek) ⟨d + 1, hr post hp⟩⟩))⟩
theorem rd_lpd {P n : Nat} {o : Nat → Nat} {a1 a2 a3 a4 a5 a6 : Nat → Int32} (h : rd_ok P n o a1 a2 a3 a4) {k : Nat} (hk : k < 5) : ∃ r : Int32, ∀ post : Int32 → St1 → Prop, post r (nI P, nI n, a1, a2, a3, a4, a5, a6) → wpX_leastPeriod post (nI P, nI n, a1, a2, a3, a4, a5, a6) (nI k) := by
  obtain ⟨hP, _, hV, h4, _, hb3, hd⟩ := h
  have ek : (nI k).toNatClampNeg = k := nI_clamp (by omega)
  cases hb : P.testBit k
  · exact ⟨-1, fun post hp => (by
        unfold wpX_leastPeriod
        try dsimp only
        exact rd_has hP hk (fun _ => br_t rfl hp) (fun z => absurd (hb.symm.trans z) (by decide)))⟩
  · obtain ⟨d, hd15, ed, hd1⟩ := hd k hk
    have hd1' := hd1 hb
    have ed' : a2 (nI k).toNatClampNeg = nI d := by rw [ek]; exact ed
    have key : ∀ j, d + j ≤ 16 → ∀ (x3 : Int32) (b3 : Nat → Int32), (∀ i, i ≠ k → b3 i = a3 i) → ∃ r : Int32, ∀ post : Int32 → St1 → Prop, post r (nI P, nI n, a1, a2, a3, a4, a5, a6) → wX_leastPeriod_23 post (nI k) (a3 k) (nI P) (nI n) (j + 1) x3 (nI (d - 1 + j)) a1 a2 b3 a4 a5 a6 := by
      intro j
      induction j with
      | zero =>
        intro _ x3 b3 hb3'
        refine ⟨x3, fun post hp => ⟨pk_in k 5 hk, pk_lt (d - 1) d (fun _ => ⟨pk_in k 5 hk, nm_r ?_ hp⟩) (fun z => absurd z (by omega)) rfl ed'⟩⟩
        rw [ek]
        exact rd_restore (hb3 k hk) hb3'
      | succ j ih =>
        intro hj x3 b3 hb3'
        have e : nI (d - 1 + (j + 1)) + (-1) = nI (d - 1 + j) := pk_m1 (d - 1 + j)
        obtain ⟨i, hi, hi2, ei⟩ : ∃ i, i ≤ 15 ∧ d ≤ i ∧ d - 1 + (j + 1) = i := ⟨d - 1 + (j + 1), by omega, by omega, rfl⟩
        rw [ei] at e ⊢
        have eu : upd b3 (nI k).toNatClampNeg (nI i).toInt8.toInt32 = upd b3 k (nI i) := by rw [ek, rd_b8 i (by omega)]
        have hu : ∀ t, t ≠ k → upd b3 k (nI i) t = a3 t := fun t ht => by rw [pk_un ht]; exact hb3' t ht
        by_cases g : ∀ t, t < n → rd_f a1 a2 (upd b3 k (nI i)) (o t) (rd_M o t) = true
        · obtain ⟨r, hr⟩ := ih (by omega) (nI i) _ hu
          exact ⟨r, fun post hp => ⟨pk_in k 5 hk, pk_lt i d (fun z => absurd z (by omega)) (fun _ => ⟨pk_in k 5 hk, nm_r eu (rd_goodw hP hV h4 (fun _ => br_f (by decide) (nm_r e (hr post hp))) (fun z => absurd g z))⟩) rfl ed'⟩⟩
        · obtain ⟨r, hr⟩ := ih (by omega) x3 _ hu
          exact ⟨r, fun post hp => ⟨pk_in k 5 hk, pk_lt i d (fun z => absurd z (by omega)) (fun _ => ⟨pk_in k 5 hk, nm_r eu (rd_goodw hP hV h4 (fun z => absurd z g) (fun _ => br_t rfl (nm_r e (hr post hp))))⟩) rfl ed'⟩⟩
    obtain ⟨r, hr⟩ := key (16 - d) (by omega) 0 a3 (fun _ _ => rfl)
    rw [show d - 1 + (16 - d) = 15 by omega] at hr
    exact ⟨r, fun post hp => (by
        unfold wpX_leastPeriod
        try dsimp only
        exact rd_has hP hk (fun z => absurd (hb.symm.trans z) (by decide)) (fun _ => br_f (by decide) ⟨pk_in k 5 hk, nm_r (congrArg a3 ek) ⟨16 - d + 1, hr post hp⟩⟩))⟩
/-! add -/
theorem rd_num (x y z : Int32) : (∀ post : Int32 → Prop, post 0 → wpX_numbersOk post () x y z) ∨ (∃ c d p : Nat, x = nI c ∧ y = nI d ∧ z = nI p ∧ 1 ≤ c ∧ c ≤ d ∧ d ≤ p ∧ p ≤ 15 ∧ ∀ post : Int32 → Prop, post 1 → wpX_numbersOk post () x y z) := by
  by_cases h1 : x < 1
  · exact Or.inl (fun post hp => br_t h1 hp)
  · by_cases h2 : y < x
    · exact Or.inl (fun post hp => br_f h1 (br_t h2 hp))
    · by_cases h3 : z < y
      · exact Or.inl (fun post hp => br_f h1 (br_f h2 (br_t h3 hp)))
      · by_cases h4 : 15 < z
        · exact Or.inl (fun post hp => br_f h1 (br_f h2 (br_f h3 (br_t h4 hp))))
        · refine Or.inr ?_
          have t0 : (0 : Int32).toInt = 0 := by decide
          have t1 : (1 : Int32).toInt = 1 := by decide
          have i1 := h1
          have i2 := h2
          have i3 := h3
          rw [Int32.lt_iff_toInt_lt] at i1 i2 i3
          have nx : ¬ x < 0 := by rw [Int32.lt_iff_toInt_lt]; omega
          have ny : ¬ y < 0 := by rw [Int32.lt_iff_toInt_lt]; omega
          have nz : ¬ z < 0 := by rw [Int32.lt_iff_toInt_lt]; omega
          obtain ⟨c, hc, rfl⟩ := nI_of nx
          obtain ⟨d, hd, rfl⟩ := nI_of ny
          obtain ⟨p, hp, rfl⟩ := nI_of nz
          have k1 : ¬ c < 1 := mt (nI_ltI (b := 1) hc (by omega)).mpr h1
          have k2 : ¬ d < c := mt (nI_ltI hd hc).mpr h2
          have k3 : ¬ p < d := mt (nI_ltI hp hd).mpr h3
          have k4 : ¬ 15 < p := mt (nI_ltI (a := 15) (by omega) hp).mpr h4
          exact ⟨c, d, p, rfl, rfl, rfl, by omega, by omega, by omega, by omega, fun post hp => br_f h1 (br_f h2 (br_f h3 (br_f h4 hp)))⟩
def rd_fst (P : Nat) : Nat := if P.testBit 0 = false then 0 else if P.testBit 1 = false then 1 else if P.testBit 2 = false then 2 else if P.testBit 3 = false then 3 else if P.testBit 4 = false then 4 else 5
theorem rd_fst_ok : ∀ P, P < 32 → rd_fst P ≤ 5 ∧ (∀ j, j < rd_fst P → P.testBit j = true) ∧ (rd_fst P < 5 → P.testBit (rd_fst P) = false) := by decide +kernel
theorem rd_addVO {P n k : Nat} {o : Nat → Nat} (hP : P < 32) (hk : k < 5) (hb : P.testBit k = false) (hn : n < 5) (hV : rd_VO P n o) : rd_VO (rd_add P k) (n + 1) (fun j => if j = n then k else o j) := by
  obtain ⟨_, ho, inj, sur⟩ := hV
  have nk : ∀ i, i < n → o i ≠ k := by
    intro i hi e
    have := (ho i hi).2
    rw [e, hb] at this
    exact absurd this (by decide)
  refine ⟨by omega, ?_, ?_, ?_⟩
  · intro i hi
    dsimp only
    by_cases e : i = n
    · rw [if_pos e]
      refine ⟨hk, ?_⟩
      rw [rd_add_tb P hP k hk k hk, decide_eq_true rfl, Bool.or_true]
    · rw [if_neg e]
      obtain ⟨h5, ht⟩ := ho i (by omega)
      refine ⟨h5, ?_⟩
      rw [rd_add_tb P hP k hk _ h5, ht, Bool.true_or]
  · intro i j hi hj
    dsimp only
    by_cases ei : i = n
    · by_cases ej : j = n
      · intro _
        omega
      · rw [if_pos ei, if_neg ej]
        intro e
        exact absurd e.symm (nk j (by omega))
    · by_cases ej : j = n
      · rw [if_neg ei, if_pos ej]
        intro e
        exact absurd e (nk i (by omega))
      · rw [if_neg ei, if_neg ej]
        exact inj i j (by omega) (by omega)
  · intro t ht hbt
    dsimp only
    rw [rd_add_tb P hP k hk t ht, Bool.or_eq_true, decide_eq_true_iff] at hbt
    by_cases e : t = k
    · exact ⟨n, by omega, by rw [if_pos rfl]; exact e.symm⟩
    · rcases hbt with hbt | hbt
      · obtain ⟨i, hi, ei⟩ := sur t ht hbt
        exact ⟨i, by omega, by rw [if_neg (by omega)]; exact ei⟩
      · exact absurd hbt e
theorem rd_addw {P n : Nat} {o : Nat → Nat} {a1 a2 a3 a4 a5 a6 : Nat → Int32} (h : rd_ok P n o a1 a2 a3 a4) (x y z : Int32) :
    (∃ r : Int32, r < 0 ∧ ∀ post : Int32 → St1 → Prop, post r (nI P, nI n, a1, a2, a3, a4, a5, a6) → wpX_add post (nI P, nI n, a1, a2, a3, a4, a5, a6) x y z) ∨
    (∃ (r : Int32) (P' n' : Nat) (o' : Nat → Nat) (b1 b2 b3 b4 : Nat → Int32), ¬ r < 0 ∧ rd_ok P' n' o' b1 b2 b3 b4 ∧ ∀ post : Int32 → St1 → Prop, post r (nI P', nI n', b1, b2, b3, b4, a5, a6) → wpX_add post (nI P, nI n, a1, a2, a3, a4, a5, a6) x y z) := by
  obtain ⟨hP, hpc, hV, h4, hb1, hb3, hd⟩ := h
  rcases rd_num x y z with hx | ⟨c, d, p, rfl, rfl, rfl, hc1, hcd, hdp, hp15, hx⟩
  · refine Or.inl ⟨-1, by decide, fun post hp => ?_⟩
    unfold wpX_add
    try dsimp only
    exact hx _ (br_t rfl hp)
  · obtain ⟨hf5, hfl, hff⟩ := rd_fst_ok P hP
    generalize rd_fst P = k at hf5 hfl hff
    by_cases hk : k < 5
    · have hb := hff hk
      have hn : n < 5 := by rw [hpc]; exact rd_pc_lt P hP k hk hb
      have ek : (nI k).toNatClampNeg = k := nI_clamp (by omega)
      have en : (nI n).toNatClampNeg = n := nI_clamp (by omega)
      refine Or.inr ⟨nI k, rd_add P k, n + 1, fun j => if j = n then k else o j, upd a1 k (nI c), upd a2 k (nI d), upd a3 k (nI p), upd a4 n (nI k), nI_pos (by omega), ?_, ?_⟩
      · refine ⟨rd_add_lt P hP k hk, ?_, rd_addVO hP hk hb hn hV, ?_, ?_, ?_, ?_⟩
        · rw [rd_pc_add P hP k hk hb, hpc]
        · intro j hj
          dsimp only
          by_cases e : j = n
          · rw [if_pos e, e, pk_us]
          · rw [if_neg e, pk_un e]
            exact h4 j (by omega)
        · intro j hj
          by_cases e : j = k
          · rw [e, pk_us]
            exact rd_nb c (by omega)
          · rw [pk_un e]
            exact hb1 j hj
        · intro j hj
          by_cases e : j = k
          · rw [e, pk_us]
            exact rd_nb p (by omega)
          · rw [pk_un e]
            exact hb3 j hj
        · intro j hj
          by_cases e : j = k
          · exact ⟨d, by omega, by rw [e, pk_us], fun _ => by omega⟩
          · obtain ⟨d', h1, h2, h3⟩ := hd j hj
            refine ⟨d', h1, by rw [pk_un e]; exact h2, fun hbt => h3 ?_⟩
            rw [rd_add_tb P hP k hk j hj, decide_eq_false e, Bool.or_false] at hbt
            exact hbt
      · intro post hp
        unfold wpX_add
        try dsimp only
        refine hx _ (br_f (by decide) ?_)
        refine pk_loop (σ := Unit) (fun fu j _ => wX_add_14 post (nI c) (nI d) (nI p) (nI P) (nI n) a1 a2 a3 a4 a5 a6 fu (nI j)) (fun _ _ => True) k 0 () (by omega) trivial ?_ ?_
        · intro fu _ _
          refine pk_le 5 k (fun z => absurd z (by omega)) (fun _ => rd_has hP hk (fun _ => br_t rfl (nm_r (rd_bor P hP k hk) ⟨pk_in k 5 hk, nm_r ?_ ⟨pk_in k 5 hk, nm_r ?_ ⟨pk_in k 5 hk, nm_r ?_ ⟨pk_in n 5 hn, nm_r ?_ (nm_r (nI_1 n) hp)⟩⟩⟩⟩)) (fun z => absurd (hb.symm.trans z) (by decide)))
          · rw [ek, rd_b8 c (by omega)]
          · rw [ek, rd_b8 d (by omega)]
          · rw [ek, rd_b8 p (by omega)]
          · rw [en, rd_b8 k (by omega)]
        · intro fu j _ hj _ hw
          exact pk_le 5 j (fun z => absurd z (by omega)) (fun _ => rd_has hP (by omega) (fun z => absurd ((hfl j hj).symm.trans z) (by decide)) (fun _ => br_f (by decide) (nm_r (nI_1 j) (hw () trivial))))
    · have e5 : k = 5 := by omega
      subst e5
      refine Or.inl ⟨-2, by decide, fun post hp => ?_⟩
      unfold wpX_add
      try dsimp only
      refine hx _ (br_f (by decide) ?_)
      refine pk_loop (σ := Unit) (fun fu j _ => wX_add_14 post (nI c) (nI d) (nI p) (nI P) (nI n) a1 a2 a3 a4 a5 a6 fu (nI j)) (fun _ _ => True) 5 0 () (by omega) trivial ?_ ?_
      · intro fu _ _
        exact pk_le 5 5 (fun _ => hp) (fun z => absurd z (by omega))
      · intro fu j _ hj _ hw
        exact pk_le 5 j (fun z => absurd z (by omega)) (fun _ => rd_has hP hj (fun z => absurd ((hfl j hj).symm.trans z) (by decide)) (fun _ => br_f (by decide) (nm_r (nI_1 j) (hw () trivial))))
end
section
/-! shifts of the order -/
def rd_sh : Nat → Nat → (Nat → Int32) → (Nat → Int32)
  | 0, _, s => s
  | m + 1, i, s => rd_sh m (i + 1) (upd s i (vp_nar .byte (s (i + 1))))
def rd_sd : Nat → Nat → (Nat → Int32) → (Nat → Int32)
  | 0, _, s => s
  | m + 1, i, s => rd_sd m i (upd s (i + m + 1) (vp_nar .byte (s (i + m))))
theorem rd_sh_at : ∀ m i s t, rd_sh m i s t = if i ≤ t ∧ t < i + m then vp_nar .byte (s (t + 1)) else s t := by
  intro m
  induction m with
  | zero =>
    intro i s t
    rw [if_neg (by omega)]
    rfl
  | succ m ih =>
    intro i s t
    show rd_sh m (i + 1) (upd s i (vp_nar .byte (s (i + 1)))) t = _
    rw [ih]
    by_cases e : t = i
    · subst e
      rw [if_neg (by omega), if_pos (by omega), pk_us]
    · by_cases h : i + 1 ≤ t ∧ t < i + 1 + m
      · rw [if_pos h, if_pos (by omega), pk_un (by omega)]
      · rw [if_neg h, if_neg (by omega), pk_un e]
theorem rd_sd_at : ∀ m i s t, rd_sd m i s t = if i < t ∧ t ≤ i + m then vp_nar .byte (s (t - 1)) else s t := by
  intro m
  induction m with
  | zero =>
    intro i s t
    rw [if_neg (by omega)]
    rfl
  | succ m ih =>
    intro i s t
    show rd_sd m i (upd s (i + m + 1) (vp_nar .byte (s (i + m)))) t = _
    rw [ih]
    by_cases e : t = i + m + 1
    · subst e
      rw [if_neg (by omega), if_pos (by omega), pk_us, Nat.add_sub_cancel]
    · by_cases h : i < t ∧ t ≤ i + m
      · rw [if_pos h, if_pos (by omega), pk_un (by omega)]
      · rw [if_neg h, if_neg (by omega), pk_un e]
/-! remove -/
theorem rd_rml {post : Int32 → St1 → Prop} {a1 a2 a3 a5 a6 : Nat → Int32} {P k n : Nat} (hP : P < 32) (hk : k < 5) (hn : n ≤ 4) : ∀ m i s, i + m = n → post 1 (nI (rd_del P k), nI n, a1, a2, a3, rd_sh m i s, a5, a6) → wX_remove_28 post (nI k) (nI P) (nI n) (m + 1) (nI i) a1 a2 a3 s a5 a6 := by
  intro m
  induction m with
  | zero =>
    intro i s e hp
    exact pk_le n i (fun _ => nm_r (rd_bdel P hP k hk) hp) (fun z => absurd z (by omega))
  | succ m ih =>
    intro i s e hp
    refine pk_le n i (fun z => absurd z (by omega)) (fun _ => ⟨pk_in (i + 1) 5 (by omega) (nI_1 i), pk_in i 5 (by omega), nm_r (e' := upd s i (vp_nar .byte (s (i + 1)))) ?_ (nm_r (nI_1 i) (ih (i + 1) _ (by omega) hp))⟩)
    rw [nI_1, nI_clamp (by omega), nI_clamp (by omega)]
theorem rd_rmVO {P n i : Nat} {o : Nat → Nat} (hP : P < 32) (hi : i < n) (hV : rd_VO P n o) : rd_VO (rd_del P (o i)) (n - 1) (fun j => if j < i then o j else o (j + 1)) := by
  obtain ⟨hn, ho, inj, sur⟩ := hV
  have hk := (ho i hi).1
  have ht : ∀ j, j < n → j ≠ i → o j < 5 ∧ (rd_del P (o i)).testBit (o j) = true := by
    intro j hj ne
    obtain ⟨h5, hb⟩ := ho j hj
    refine ⟨h5, ?_⟩
    rw [rd_del_tb P hP _ hk _ h5, hb, Bool.true_and, decide_eq_false (fun e => ne (inj j i hj hi e))]
    rfl
  refine ⟨by omega, ?_, ?_, ?_⟩
  · intro j hj
    dsimp only
    by_cases h : j < i
    · rw [if_pos h]
      exact ht j (by omega) (by omega)
    · rw [if_neg h]
      exact ht (j + 1) (by omega) (by omega)
  · intro j t hj htt
    dsimp only
    by_cases h : j < i
    · by_cases h' : t < i
      · rw [if_pos h, if_pos h']
        exact inj j t (by omega) (by omega)
      · rw [if_pos h, if_neg h']
        intro e
        have := inj j (t + 1) (by omega) (by omega) e
        omega
    · by_cases h' : t < i
      · rw [if_neg h, if_pos h']
        intro e
        have := inj (j + 1) t (by omega) (by omega) e
        omega
      · rw [if_neg h, if_neg h']
        intro e
        have := inj (j + 1) (t + 1) (by omega) (by omega) e
        omega
  · intro t ht5 hb
    dsimp only
    rw [rd_del_tb P hP _ hk t ht5, Bool.and_eq_true, Bool.not_eq_true', decide_eq_false_iff_not] at hb
    obtain ⟨j, hj, ej⟩ := sur t ht5 hb.1
    have ne : j ≠ i := fun e => hb.2 (by rw [← ej, e])
    by_cases h : j < i
    · exact ⟨j, by omega, by rw [if_pos h]; exact ej⟩
    · refine ⟨j - 1, by omega, ?_⟩
      rw [if_neg (by omega), show j - 1 + 1 = j by omega]
      exact ej
theorem rd_rmw {P n : Nat} {o : Nat → Nat} {a1 a2 a3 a4 a5 a6 : Nat → Int32} (h : rd_ok P n o a1 a2 a3 a4) (x : Int32) :
    (∀ post : Int32 → St1 → Prop, post 0 (nI P, nI n, a1, a2, a3, a4, a5, a6) → wpX_remove post (nI P, nI n, a1, a2, a3, a4, a5, a6) x) ∨
    (∃ (P' n' : Nat) (o' : Nat → Nat) (b4 : Nat → Int32), rd_ok P' n' o' a1 a2 a3 b4 ∧ ∀ post : Int32 → St1 → Prop, post 1 (nI P', nI n', a1, a2, a3, b4, a5, a6) → wpX_remove post (nI P, nI n, a1, a2, a3, a4, a5, a6) x) := by
  obtain ⟨hP, hpc, hV, h4, hb1, hb3, hd⟩ := h
  rcases rd_hasN hP x with ⟨k, hk, rfl, hb⟩ | hx
  · obtain ⟨i, hi, rfl⟩ := hV.2.2.2 k hk hb
    have hn := hV.1
    refine Or.inr ⟨rd_del P (o i), n - 1, fun j => if j < i then o j else o (j + 1), rd_sh (n - 1 - i) i a4, ?_, ?_⟩
    · refine ⟨rd_del_lt P hP _ hk, ?_, rd_rmVO hP hi hV, ?_, hb1, hb3, ?_⟩
      · have := rd_pc_del P hP _ hk hb
        omega
      · intro j hj
        dsimp only
        rw [rd_sh_at]
        by_cases hji : j < i
        · rw [if_neg (by omega), if_pos hji]
          exact h4 j (by omega)
        · rw [if_pos (by omega), if_neg hji, h4 (j + 1) (by omega)]
          have := (hV.2.1 (j + 1) (by omega)).1
          exact rd_nb _ (by omega)
      · intro j hj
        obtain ⟨d, h1, h2, h3⟩ := hd j hj
        refine ⟨d, h1, h2, fun hbt => h3 ?_⟩
        rw [rd_del_tb P hP _ hk j hj, Bool.and_eq_true] at hbt
        exact hbt.1
    · intro post hp
      unfold wpX_remove
      try dsimp only
      refine rd_has hP hk (fun z => absurd (hb.symm.trans z) (by decide)) (fun _ => br_f (by decide) (rd_pof hV h4 hi (nm_r (rd_m1 (by omega)) ⟨n - 1 - i + 1, rd_rml hP hk (by omega) (n - 1 - i) i a4 (by omega) hp⟩)))
  · refine Or.inl (fun post hp => ?_)
    unfold wpX_remove
    try dsimp only
    exact hx _ _ _ _ _ _ _ _ (br_t rfl hp)
/-! place -/
theorem rd_pl53 {post : Int32 → St1 → Prop} {a1 a2 a3 a5 a6 : Nat → Int32} {p c : Int32} {k i : Nat} (hk : k < 5) : ∀ m s, i + m ≤ 4 → post 1 (p, c, a1, a2, a3, upd (rd_sd m i s) i (nI k), a5, a6) → wX_place_53 post (nI k) (nI i) p c (m + 1) (nI (i + m)) a1 a2 a3 s a5 a6 := by
  intro m
  induction m with
  | zero =>
    intro s e hp
    refine pk_le (i + 0) i (fun _ => ⟨pk_in i 5 (by omega), nm_r ?_ hp⟩) (fun z => absurd z (by omega))
    rw [nI_clamp (by omega), rd_b8 k (by omega)]
    rfl
  | succ m ih =>
    intro s e hp
    refine pk_le (i + (m + 1)) i (fun z => absurd z (by omega)) (fun _ => ⟨pk_in (i + m) 5 (by omega) (nI_pred (i + m)), pk_in (i + (m + 1)) 5 (by omega), nm_r (e' := upd s (i + m + 1) (vp_nar .byte (s (i + m)))) ?_ (nm_r (pk_m1 (i + m)) (ih _ (by omega) hp))⟩)
    rw [show nI (i + (m + 1)) - 1 = nI (i + m) from nI_pred (i + m), nI_clamp (by omega), nI_clamp (by omega)]
    rfl
theorem rd_pl28 {post : Int32 → St1 → Prop} {a1 a2 a3 a5 a6 : Nat → Int32} {p c : Int32} {k i : Nat} (hk : k < 5) (hi : i ≤ 4) : ∀ m q s, q + m = i → post 1 (p, c, a1, a2, a3, upd (rd_sh m q s) i (nI k), a5, a6) → wX_place_28 post (nI k) (nI i) p c (m + 1) (nI q) a1 a2 a3 s a5 a6 := by
  intro m
  induction m with
  | zero =>
    intro q s e hp
    have e' : q = i := by omega
    subst e'
    exact pk_le q q (fun _ => ⟨1, rd_pl53 hk 0 s (by omega) hp⟩) (fun z => absurd z (by omega))
  | succ m ih =>
    intro q s e hp
    refine pk_le i q (fun z => absurd z (by omega)) (fun _ => ⟨pk_in (q + 1) 5 (by omega) (nI_1 q), pk_in q 5 (by omega), nm_r (e' := upd s q (vp_nar .byte (s (q + 1)))) ?_ (nm_r (nI_1 q) (ih (q + 1) _ (by omega) hp))⟩)
    rw [nI_1, nI_clamp (by omega), nI_clamp (by omega)]
/-- the order with the task at q moved to i -/
def rd_mv (o : Nat → Nat) (q i : Nat) : Nat → Nat := fun j => if j = i then o q else if q ≤ j ∧ j < i then o (j + 1) else if i < j ∧ j ≤ q then o (j - 1) else o j
def rd_mvx (q i j : Nat) : Nat := if j = i then q else if q ≤ j ∧ j < i then j + 1 else if i < j ∧ j ≤ q then j - 1 else j
theorem rd_mv_x (o : Nat → Nat) (q i j : Nat) : rd_mv o q i j = o (rd_mvx q i j) := by
  unfold rd_mv rd_mvx
  by_cases h1 : j = i
  · rw [if_pos h1, if_pos h1]
  · rw [if_neg h1, if_neg h1]
    by_cases h2 : q ≤ j ∧ j < i
    · rw [if_pos h2, if_pos h2]
    · rw [if_neg h2, if_neg h2]
      by_cases h3 : i < j ∧ j ≤ q
      · rw [if_pos h3, if_pos h3]
      · rw [if_neg h3, if_neg h3]
theorem rd_mvx_lt {q i n j : Nat} (hq : q < n) (hi : i < n) (hj : j < n) : rd_mvx q i j < n := by
  unfold rd_mvx
  repeat' split
  all_goals omega
theorem rd_mvx_inj {q i j t : Nat} (h : rd_mvx q i j = rd_mvx q i t) : j = t := by
  unfold rd_mvx at h
  by_cases a1 : j = i
  · rw [if_pos a1] at h
    by_cases b1 : t = i
    · omega
    · rw [if_neg b1] at h
      split at h
      · omega
      · split at h <;> omega
  · rw [if_neg a1] at h
    by_cases b1 : t = i
    · rw [if_pos b1] at h
      split at h
      · omega
      · split at h <;> omega
    · rw [if_neg b1] at h
      split at h
      · split at h
        · omega
        · split at h <;> omega
      · split at h
        · split at h
          · omega
          · split at h <;> omega
        · split at h
          · omega
          · split at h <;> omega
theorem rd_mvx_inv {q i j : Nat} : rd_mvx q i (rd_mvx i q j) = j := by
  have h : ∃ t, t = rd_mvx i q j := ⟨_, rfl⟩
  obtain ⟨t, ht⟩ := h
  rw [← ht]
  unfold rd_mvx at ht ⊢
  split at ht
  · subst ht
    rw [if_pos rfl]
    omega
  · split at ht
    · subst ht
      rw [if_neg (by omega), if_neg (by omega), if_pos (by omega)]
      omega
    · split at ht
      · subst ht
        rw [if_neg (by omega), if_pos (by omega)]
        omega
      · rw [ht]
        by_cases e : j = i
        · rw [if_pos e]
          omega
        · rw [if_neg e, if_neg (by omega), if_neg (by omega)]
theorem rd_mvVO {P n q i : Nat} {o : Nat → Nat} (hq : q < n) (hi : i < n) (hV : rd_VO P n o) : rd_VO P n (rd_mv o q i) := by
  obtain ⟨hn, ho, inj, sur⟩ := hV
  refine ⟨hn, ?_, ?_, ?_⟩
  · intro j hj
    rw [rd_mv_x]
    exact ho _ (rd_mvx_lt hq hi hj)
  · intro j t hj ht e
    rw [rd_mv_x, rd_mv_x] at e
    exact rd_mvx_inj (inj _ _ (rd_mvx_lt hq hi hj) (rd_mvx_lt hq hi ht) e)
  · intro k hk hb
    obtain ⟨j, hj, ej⟩ := sur k hk hb
    refine ⟨rd_mvx i q j, rd_mvx_lt hi hq hj, ?_⟩
    rw [rd_mv_x, rd_mvx_inv]
    exact ej
theorem rd_plC {P n q i : Nat} {o : Nat → Nat} {a1 a2 a3 a4 a5 a6 : Nat → Int32} (hP : P < 32) (hV : rd_VO P n o) (h4 : rd_A4 n o a4) (hq : q < n) (hi : i < n) : ∃ b4 : Nat → Int32, rd_A4 n (rd_mv o q i) b4 ∧ ∀ post : Int32 → St1 → Prop, post 1 (nI P, nI n, a1, a2, a3, b4, a5, a6) → wpX_place post (nI P, nI n, a1, a2, a3, a4, a5, a6) (nI (o q)) (nI i) := by
  obtain ⟨hk, hb⟩ := hV.2.1 q hq
  have hn := hV.1
  have nb : ∀ j, j < n → vp_nar .byte (a4 j) = nI (o j) := by
    intro j hj
    have := (hV.2.1 j hj).1
    rw [h4 j hj]
    exact rd_nb _ (by omega)
  by_cases hqi : q ≤ i
  · refine ⟨upd (rd_sh (i - q) q a4) i (nI (o q)), ?_, ?_⟩
    · intro j hj
      unfold rd_mv
      by_cases e : j = i
      · rw [if_pos e, e, pk_us]
      · rw [if_neg e, pk_un e, rd_sh_at]
        by_cases h2 : q ≤ j ∧ j < i
        · rw [if_pos (by omega), if_pos h2]
          exact nb (j + 1) (by omega)
        · rw [if_neg (by omega), if_neg h2, if_neg (by omega)]
          exact h4 j hj
    · intro post hp
      unfold wpX_place
      try dsimp only
      exact rd_has hP hk (fun z => absurd (hb.symm.trans z) (by decide)) (fun _ => br_f (by decide) (br_f (nI_pos (by omega)) (pk_lt i n (fun _ => rd_pof hV h4 hq ⟨i - q + 1, rd_pl28 hk (by omega) (i - q) q a4 (by omega) hp⟩) (fun z => absurd z (by omega)))))
  · refine ⟨upd (rd_sd (q - i) i a4) i (nI (o q)), ?_, ?_⟩
    · intro j hj
      unfold rd_mv
      by_cases e : j = i
      · rw [if_pos e, e, pk_us]
      · rw [if_neg e, pk_un e, rd_sd_at, if_neg (show ¬ (q ≤ j ∧ j < i) by omega)]
        by_cases h2 : i < j ∧ j ≤ q
        · rw [if_pos (by omega), if_pos h2]
          exact nb (j - 1) (by omega)
        · rw [if_neg (by omega), if_neg h2]
          exact h4 j hj
    · intro post hp
      have h53 := rd_pl53 (post := post) (p := nI P) (c := nI n) (a1 := a1) (a2 := a2) (a3 := a3) (a5 := a5) (a6 := a6) (i := i) hk (q - i) a4 (by omega) hp
      rw [show i + (q - i) = q by omega] at h53
      unfold wpX_place
      try dsimp only
      exact rd_has hP hk (fun z => absurd (hb.symm.trans z) (by decide)) (fun _ => br_f (by decide) (br_f (nI_pos (by omega)) (pk_lt i n (fun _ => rd_pof hV h4 hq ⟨1, pk_le i q (fun _ => ⟨q - i + 1, h53⟩) (fun z => absurd z (by omega))⟩) (fun z => absurd z (by omega)))))
theorem rd_plw {P n : Nat} {o : Nat → Nat} {a1 a2 a3 a4 a5 a6 : Nat → Int32} (h : rd_ok P n o a1 a2 a3 a4) (x y : Int32) :
    (∀ post : Int32 → St1 → Prop, post 0 (nI P, nI n, a1, a2, a3, a4, a5, a6) → wpX_place post (nI P, nI n, a1, a2, a3, a4, a5, a6) x y) ∨
    (∃ (P' n' : Nat) (o' : Nat → Nat) (b4 : Nat → Int32), rd_ok P' n' o' a1 a2 a3 b4 ∧ ∀ post : Int32 → St1 → Prop, post 1 (nI P', nI n', a1, a2, a3, b4, a5, a6) → wpX_place post (nI P, nI n, a1, a2, a3, a4, a5, a6) x y) := by
  obtain ⟨hP, hpc, hV, h4, hb1, hb3, hd⟩ := h
  have hn := hV.1
  rcases rd_hasN hP x with ⟨k, hk, rfl, hb⟩ | hx
  · rcases pk_ix y (n := n) (by omega) with hy | hy | ⟨i, hi, rfl⟩
    · refine Or.inl (fun post hp => ?_)
      unfold wpX_place
      try dsimp only
      exact rd_has hP hk (fun z => absurd (hb.symm.trans z) (by decide)) (fun _ => br_f (by decide) (br_t hy hp))
    · by_cases hy0 : y < 0
      · refine Or.inl (fun post hp => ?_)
        unfold wpX_place
        try dsimp only
        exact rd_has hP hk (fun z => absurd (hb.symm.trans z) (by decide)) (fun _ => br_f (by decide) (br_t hy0 hp))
      · refine Or.inl (fun post hp => ?_)
        unfold wpX_place
        try dsimp only
        exact rd_has hP hk (fun z => absurd (hb.symm.trans z) (by decide)) (fun _ => br_f (by decide) (br_f hy0 (br_f (Int32.not_lt.mpr hy) hp)))
    · obtain ⟨q, hq, rfl⟩ := hV.2.2.2 k hk hb
      obtain ⟨b4, hb4, hw⟩ := rd_plC (a1 := a1) (a2 := a2) (a3 := a3) (a5 := a5) (a6 := a6) hP hV h4 hq hi
      exact Or.inr ⟨P, n, rd_mv o q i, b4, ⟨hP, hpc, rd_mvVO hq hi hV, hb4, hb1, hb3, hd⟩, hw⟩
  · refine Or.inl (fun post hp => ?_)
    unfold wpX_place
    try dsimp only
    exact hx _ _ _ _ _ _ _ _ (br_t rfl hp)
end
section
/-! the tables -/
theorem rd_f28 {post : St1 → Prop} {J : Int32 → (Nat → Int32) → (Nat → Int32) → (Nat → Int32) → (Nat → Int32) → (Nat → Int32) → (Nat → Int32) → Prop} {c : Int32} {a1 a2 a3 a4 a6 s0 : Nat → Int32} {P S b : Nat} (hP : P < 32) (hS : S < 32)
    (h0 : ∀ T, S < T → T < 32 → s0 T = nI (rd_B (rd_f a1 a2 a3) P T)) (hb : s0 S = nI b)
    (H : ∀ s, (∀ T, S < T → T < 32 → s T = nI (rd_B (rd_f a1 a2 a3) P T)) → s S = nI (b + rd_sum (rd_Bt (rd_f a1 a2 a3) P S) 5) → J (nI S + (-1)) a1 a2 a3 a4 s a6) :
    ∃ fu, wX_fill_28 post J (nI S) (nI P) c fu 0 a1 a2 a3 a4 s0 a6 := by
  have hl1 := rd_sub_lt P hP S hS
  have hl2 := rd_sub_lt S hS P hP
  refine pk_loop (fun fu k s => wX_fill_28 post J (nI S) (nI P) c fu (nI k) a1 a2 a3 a4 s a6) (fun k s => (∀ T, S < T → T < 32 → s T = nI (rd_B (rd_f a1 a2 a3) P T)) ∧ s S = nI (b + rd_sum (rd_Bt (rd_f a1 a2 a3) P S) k)) 5 0 s0 (by omega) ⟨h0, hb⟩ ?_ ?_
  · rintro fu s ⟨h1, h2⟩
    exact pk_le 5 5 (fun _ => nm_e (H s h1 h2)) (fun z => absurd z (by omega))
  · rintro fu k s hk ⟨h1, h2⟩ hw
    have skip : rd_Bt (rd_f a1 a2 a3) P S k = 0 → wX_fill_28 post J (nI S) (nI P) c fu (nI (k + 1)) a1 a2 a3 a4 s a6 := by
      intro e
      refine hw s ⟨h1, ?_⟩
      show s S = nI (b + (rd_sum (rd_Bt (rd_f a1 a2 a3) P S) k + rd_Bt (rd_f a1 a2 a3) P S k))
      rw [e, Nat.add_zero]
      exact h2
    refine pk_le 5 k (fun z => absurd z (by omega)) (fun _ => ?_)
    rw [rd_bsub P hP S hS]
    refine rd_in hl1 hk (fun hbk => br_t rfl (nm_r (nI_1 k) (skip ?_))) (fun hbk => br_f (by decide) ?_)
    · unfold rd_Bt
      rw [hbk, Bool.false_and]
      rfl
    · rw [rd_bsub S hS P hP]
      refine pk_eq (rd_sub S P) 0 (fun e0 => rd_fw hk (fun hf => br_t rfl (nm_r (nI_1 k) (skip ?_))) (fun hf => br_f (by decide) ⟨pk_in S 32 hS, ?_⟩)) (fun e0 => nm_r (nI_1 k) (skip ?_))
      · unfold rd_Bt
        rw [hf, Bool.and_false, Bool.and_false]
        rfl
      · have et : rd_Bt (rd_f a1 a2 a3) P S k = rd_B (rd_f a1 a2 a3) P (rd_add S k) := by
          unfold rd_Bt
          rw [hbk, hf, decide_eq_true e0]
          rfl
        have hgt := rd_add_gt P hP S hS k hk hbk
        have hlt := rd_add_lt S hS k hk
        rw [rd_bor S hS k hk]
        refine ⟨pk_in (rd_add S k) 32 hlt, pk_in S 32 hS, nm_r (e' := upd s S (nI (b + rd_sum (rd_Bt (rd_f a1 a2 a3) P S) (k + 1)))) ?_ (nm_r (nI_1 k) (hw _ ⟨?_, pk_us⟩))⟩
        · rw [nI_clamp (by omega), nI_clamp (by omega), h2, h1 _ hgt hlt, nI_add, ← et, Nat.add_assoc]
          rfl
        · intro T hT hT2
          rw [pk_un (by omega)]
          exact h1 T hT hT2
      · unfold rd_Bt
        rw [decide_eq_false e0, Bool.false_and, Bool.and_false]
        rfl
theorem rd_f3 {post : St1 → Prop} {c : Int32} {a1 a2 a3 a4 a6 : Nat → Int32} {P : Nat} (hP : P < 32)
    (H : ∀ s, (∀ T, T < 32 → s T = nI (rd_B (rd_f a1 a2 a3) P T)) → ∃ fu, wX_fill_101 post (nI P) c fu 0 a1 a2 a3 a4 s a6) :
    ∀ j, j ≤ 32 → ∀ s, (∀ T, j ≤ T → T < 32 → s T = nI (rd_B (rd_f a1 a2 a3) P T)) → wX_fill_3 post (nI P) c (j + 1) (nI j + (-1)) a1 a2 a3 a4 s a6 := by
  intro j
  induction j with
  | zero =>
    intro _ s h
    exact br_t (by decide) (H s (fun T hT => h T (Nat.zero_le T) hT))
  | succ j ih =>
    intro hj s h
    have hj32 : j < 32 := by omega
    have next : ∀ b, b = (if j = P then 1 else 0) → ∃ fu, wX_fill_28 post (wX_fill_3 post (nI P) c (j + 1)) (nI j) (nI P) c fu 0 a1 a2 a3 a4 (upd s j (nI b)) a6 := by
      intro b eb
      refine rd_f28 (b := b) hP hj32 ?_ pk_us ?_
      · intro T hT hT2
        rw [pk_un (by omega)]
        exact h T (by omega) hT2
      · intro s' h1 h2
        refine ih (by omega) s' (fun T hT hT2 => ?_)
        by_cases e : T = j
        · rw [e, h2, rd_B_eq (rd_f a1 a2 a3) hP hj32, eb]
        · exact h1 T (by omega) hT2
    rw [pk_m1]
    refine br_f (nI_pos (by omega)) (pk_eq j P (fun e => ⟨pk_in j 32 hj32, nm_r (e' := upd s j (nI 1)) ?_ (next 1 (by rw [if_pos e]))⟩) (fun e => ⟨pk_in j 32 hj32, nm_r (e' := upd s j (nI 0)) ?_ (next 0 (by rw [if_neg e]))⟩))
    · rw [nI_clamp (by omega)]
      rfl
    · rw [nI_clamp (by omega)]
      rfl
theorem rd_f124 {post : St1 → Prop} {J : Int32 → (Nat → Int32) → (Nat → Int32) → (Nat → Int32) → (Nat → Int32) → (Nat → Int32) → (Nat → Int32) → Prop} {c : Int32} {a1 a2 a3 a4 a5 s0 : Nat → Int32} {P S b : Nat} (hP : P < 32) (hS : S < 32)
    (h0 : ∀ T, T < S → s0 T = nI (rd_A (rd_f a1 a2 a3) P T)) (hb : s0 S = nI b)
    (H : ∀ s, (∀ T, T < S → s T = nI (rd_A (rd_f a1 a2 a3) P T)) → s S = nI (b + rd_sum (rd_At (rd_f a1 a2 a3) P S) 5) → J (nI (S + 1)) a1 a2 a3 a4 a5 s) :
    ∃ fu, wX_fill_124 post J (nI S) (nI P) c fu 0 a1 a2 a3 a4 a5 s0 := by
  refine pk_loop (fun fu k s => wX_fill_124 post J (nI S) (nI P) c fu (nI k) a1 a2 a3 a4 a5 s) (fun k s => (∀ T, T < S → s T = nI (rd_A (rd_f a1 a2 a3) P T)) ∧ s S = nI (b + rd_sum (rd_At (rd_f a1 a2 a3) P S) k)) 5 0 s0 (by omega) ⟨h0, hb⟩ ?_ ?_
  · rintro fu s ⟨h1, h2⟩
    exact pk_le 5 5 (fun _ => nm_r (nI_1 S) (H s h1 h2)) (fun z => absurd z (by omega))
  · rintro fu k s hk ⟨h1, h2⟩ hw
    have skip : rd_At (rd_f a1 a2 a3) P S k = 0 → wX_fill_124 post J (nI S) (nI P) c fu (nI (k + 1)) a1 a2 a3 a4 a5 s := by
      intro e
      refine hw s ⟨h1, ?_⟩
      show s S = nI (b + (rd_sum (rd_At (rd_f a1 a2 a3) P S) k + rd_At (rd_f a1 a2 a3) P S k))
      rw [e, Nat.add_zero]
      exact h2
    have hlt := rd_del_lt S hS k hk
    refine pk_le 5 k (fun z => absurd z (by omega)) (fun _ => nm_r (rd_bdel S hS k hk) ?_)
    rw [rd_band S hS P hP, rd_band (rd_del S k) hlt P hP]
    refine rd_in (rd_and_lt S hS P hP) hk (fun hbk => br_t rfl (nm_r (nI_1 k) (skip ?_))) (fun hbk => br_f (by decide) (rd_fw hk (fun hf => br_t rfl (nm_r (nI_1 k) (skip ?_))) (fun hf => br_f (by decide) ⟨pk_in S 32 hS, pk_in (rd_del S k) 32 hlt, pk_in S 32 hS, nm_r (e' := upd s S (nI (b + rd_sum (rd_At (rd_f a1 a2 a3) P S) (k + 1)))) ?_ (nm_r (nI_1 k) (hw _ ⟨?_, pk_us⟩))⟩)))
    · unfold rd_At
      rw [hbk, Bool.false_and]
      rfl
    · unfold rd_At
      rw [hf, Bool.and_false]
      rfl
    · have et : rd_At (rd_f a1 a2 a3) P S k = rd_A (rd_f a1 a2 a3) P (rd_del S k) := by
        unfold rd_At
        rw [hbk, hf]
        rfl
      have hbS : S.testBit k = true := by
        rw [rd_and_tb, Bool.and_eq_true] at hbk
        exact hbk.1
      rw [nI_clamp (by omega), nI_clamp (by omega), h2, h1 _ (rd_del_gt S hS k hk hbS), nI_add, ← et, Nat.add_assoc]
      rfl
    · intro T hT
      rw [pk_un (by omega)]
      exact h1 T hT
theorem rd_f101 {post : St1 → Prop} {c : Int32} {a1 a2 a3 a4 a5 a6 : Nat → Int32} {P : Nat} (hP : P < 32)
    (H : ∀ s, (∀ T, T < 32 → s T = nI (rd_A (rd_f a1 a2 a3) P T)) → post (nI P, c, a1, a2, a3, a4, a5, s)) : ∃ fu, wX_fill_101 post (nI P) c fu 0 a1 a2 a3 a4 a5 a6 := by
  refine pk_loop (fun fu j s => wX_fill_101 post (nI P) c fu (nI j) a1 a2 a3 a4 a5 s) (fun j s => ∀ T, T < j → s T = nI (rd_A (rd_f a1 a2 a3) P T)) 32 0 a6 (by omega) (fun T hT => absurd hT (Nat.not_lt_zero T)) ?_ ?_
  · intro fu s h
    exact pk_le 32 32 (fun _ => H s h) (fun z => absurd z (by omega))
  · intro fu j s hj h hw
    have next : ∀ b, b = (if j = 0 then 1 else 0) → ∃ fu', wX_fill_124 post (wX_fill_101 post (nI P) c fu) (nI j) (nI P) c fu' 0 a1 a2 a3 a4 a5 (upd s j (nI b)) := by
      intro b eb
      refine rd_f124 (b := b) hP hj ?_ pk_us ?_
      · intro T hT
        rw [pk_un (by omega)]
        exact h T hT
      · intro s' h1 h2
        refine hw s' (fun T hT => ?_)
        by_cases e : T = j
        · rw [e, h2, rd_A_eq (rd_f a1 a2 a3) hj, eb]
        · exact h1 T (by omega)
    refine pk_le 32 j (fun z => absurd z (by omega)) (fun _ => pk_eq j 0 (fun e => ⟨pk_in j 32 hj, nm_r (e' := upd s j (nI 1)) ?_ (next 1 (by rw [if_pos e]))⟩) (fun e => ⟨pk_in j 32 hj, nm_r (e' := upd s j (nI 0)) ?_ (next 0 (by rw [if_neg e]))⟩))
    · rw [nI_clamp (by omega)]
      rfl
    · rw [nI_clamp (by omega)]
      rfl
theorem rd_fill {post : St1 → Prop} {c : Int32} {a1 a2 a3 a4 a5 a6 : Nat → Int32} {P : Nat} (hP : P < 32)
    (H : ∀ s5 s6, (∀ T, T < 32 → s5 T = nI (rd_B (rd_f a1 a2 a3) P T)) → (∀ T, T < 32 → s6 T = nI (rd_A (rd_f a1 a2 a3) P T)) → post (nI P, c, a1, a2, a3, a4, s5, s6)) : wpX_fill post (nI P, c, a1, a2, a3, a4, a5, a6) := by
  have h := rd_f3 (post := post) (c := c) (a4 := a4) (a6 := a6) hP (fun s hs => rd_f101 hP (fun s6 h6 => H s s6 hs h6)) 32 (Nat.le_refl 32) a5 (fun T h1 h2 => absurd h2 (by omega))
  rw [show nI 32 + (-1) = 31 by decide] at h
  exact ⟨33, h⟩
theorem rd_go {post : Int32 → St1 → Prop} {c : Int32} {a1 a2 a3 a4 a5 a6 : Nat → Int32} {P : Nat} (hP : P < 32)
    (H : ∀ s5 s6, post (nI (rd_B (rd_f a1 a2 a3) P 0)) (nI P, c, a1, a2, a3, a4, s5, s6)) : wpX_goodOrders post (nI P, c, a1, a2, a3, a4, a5, a6) := by
  unfold wpX_goodOrders
  try dsimp only
  refine rd_fill hP (fun s5 s6 h5 _ => ?_)
  show post (s5 0) _
  rw [h5 0 (by omega)]
  exact H s5 s6
/-- may k be the last -/
def rd_lg (f : Nat → Nat → Bool) (P k : Nat) : Bool := P.testBit k && (decide (0 < rd_A f P (rd_del P k)) && f k (rd_del P k))
theorem rd_cbl {post : Int32 → St1 → Prop} {c : Int32} {a1 a2 a3 a4 a5 a6 : Nat → Int32} {P : Nat} (hP : P < 32)
    (H : ∀ s5 s6, post (nI (rd_mk (rd_lg (rd_f a1 a2 a3) P) 5)) (nI P, c, a1, a2, a3, a4, s5, s6)) : wpX_canBeLast post (nI P, c, a1, a2, a3, a4, a5, a6) := by
  unfold wpX_canBeLast
  try dsimp only
  refine rd_fill hP (fun s5 s6 _ h6 => ?_)
  refine pk_loop (σ := Unit) (fun fu k _ => wX_canBeLast_8 post (nI P) c a1 a2 a3 a4 s5 s6 fu (nI (rd_mk (rd_lg (rd_f a1 a2 a3) P) k)) (nI k)) (fun _ _ => True) 5 0 () (by omega) trivial ?_ ?_
  · intro fu _ _
    exact pk_le 5 5 (fun _ => H s5 s6) (fun z => absurd z (by omega))
  · intro fu k _ hk _ hw
    have hw' := hw () trivial
    have hm := rd_mk_lt (rd_lg (rd_f a1 a2 a3) P) k (by omega)
    have em : rd_mk (rd_lg (rd_f a1 a2 a3) P) (k + 1) = if rd_lg (rd_f a1 a2 a3) P k = true then rd_add (rd_mk (rd_lg (rd_f a1 a2 a3) P) k) k else rd_mk (rd_lg (rd_f a1 a2 a3) P) k := rfl
    try dsimp only at hw'
    rw [em] at hw'
    try dsimp only
    generalize rd_mk (rd_lg (rd_f a1 a2 a3) P) k = m at hm hw'
    have hlt := rd_del_lt P hP k hk
    have hA := rd_A_le (rd_f a1 a2 a3) (P := P) hlt
    have e6 : s6 (nI (rd_del P k)).toNatClampNeg = nI (rd_A (rd_f a1 a2 a3) P (rd_del P k)) := by rw [nI_clamp (by omega)]; exact h6 _ hlt
    refine pk_le 5 k (fun z => absurd z (by omega)) (fun _ => nm_r (rd_bdel P hP k hk) (rd_has hP hk (fun hb => br_t rfl (nm_r (rd_or0 m hm) (nm_r (nI_1 k) ?_))) (fun hb => br_f (by decide) ⟨pk_in (rd_del P k) 32 hlt, pk_le (rd_A (rd_f a1 a2 a3) P (rd_del P k)) 0 (fun z => nm_r (rd_or0 m hm) (nm_r (nI_1 k) ?_)) (fun z => rd_fw hk (fun hf => br_t rfl (nm_r (rd_or0 m hm) (nm_r (nI_1 k) ?_))) (fun hf => br_f (by decide) (nm_r (rd_bor m hm k hk) (nm_r (nI_1 k) ?_)))) e6⟩)))
    · have e : rd_lg (rd_f a1 a2 a3) P k = false := by unfold rd_lg; rw [hb, Bool.false_and]
      rw [e, if_neg (by decide)] at hw'
      exact hw'
    · have e : rd_lg (rd_f a1 a2 a3) P k = false := by unfold rd_lg; rw [decide_eq_false (by omega), Bool.false_and, Bool.and_false]
      rw [e, if_neg (by decide)] at hw'
      exact hw'
    · have e : rd_lg (rd_f a1 a2 a3) P k = false := by unfold rd_lg; rw [hf, Bool.and_false, Bool.and_false]
      rw [e, if_neg (by decide)] at hw'
      exact hw'
    · have e : rd_lg (rd_f a1 a2 a3) P k = true := by unfold rd_lg; rw [hb, hf, decide_eq_true z]; rfl
      rw [e, if_pos rfl] at hw'
      exact hw'
/-! arrange -/
theorem rd_gl {l r : List Nat} {j : Nat} (h : j < l.length) : (l ++ r).getD j 0 = l.getD j 0 := by
  rw [List.getD_eq_getElem?_getD, List.getD_eq_getElem?_getD, List.getElem?_append_left h]
theorem rd_gm {l r : List Nat} {k : Nat} : (l ++ k :: r).getD l.length 0 = k := by
  rw [List.getD_eq_getElem?_getD, List.getElem?_append_right (Nat.le_refl _), Nat.sub_self]
  rfl
theorem rd_cfw {post : Int32 → Prop} {c : Int32} {a1 a2 a3 a4 s5 s6 : Nat → Int32} {P S k m : Nat} (hP : P < 32) (hS : S < 32) (hk : k < 5) (h5 : ∀ T, T < 32 → s5 T = nI (rd_B (rd_f a1 a2 a3) P T)) (hSP : rd_sub S P = 0) (hm : rd_pc (rd_sub P S) = m + 1)
    (h0 : rd_cf (rd_f a1 a2 a3) m (rd_sub P S) S k = false → post 0) (h1 : rd_cf (rd_f a1 a2 a3) m (rd_sub P S) S k = true → post 1) : wpX_canFollow post (nI P, c, a1, a2, a3, a4, s5, s6) (nI S) (nI k) := by
  have hlt := rd_add_lt S hS k hk
  have hB := rd_B_le (rd_f a1 a2 a3) hP hlt
  unfold wpX_canFollow
  dsimp only
  rw [rd_bsub P hP S hS, rd_bor S hS k hk]
  refine rd_in (rd_sub_lt P hP S hS) hk (fun hb => br_t rfl (h0 ?_)) (fun hb => br_f (by decide) ?_)
  · unfold rd_cf
    rw [hb, Bool.false_and]
  · have eB := rd_B_step (rd_f a1 a2 a3) hP hS hk hSP hb
    rw [hm, Nat.add_sub_cancel] at eB
    have e5 : s5 (nI (rd_add S k)).toNatClampNeg = nI (rd_B (rd_f a1 a2 a3) P (rd_add S k)) := by rw [nI_clamp (by omega)]; exact h5 _ hlt
    refine ⟨pk_in (rd_add S k) 32 hlt, pk_le (rd_B (rd_f a1 a2 a3) P (rd_add S k)) 0 (fun z => h0 ?_) (fun z => rd_fw hk (fun hf => br_t rfl (h0 ?_)) (fun hf => br_f (by decide) (h1 ?_))) e5⟩
    · unfold rd_cf
      rw [← eB, decide_eq_false (by omega), Bool.false_and, Bool.and_false]
    · unfold rd_cf
      rw [hf, Bool.and_false, Bool.and_false]
    · unfold rd_cf
      rw [hb, hf, ← eB, decide_eq_true z]
      rfl
theorem rd_ar {post : Int32 → St1 → Prop} {a1 a2 a3 a4 s5 s6 : Nat → Int32} {P n : Nat} (hP : P < 32) (hn : rd_pc P = n) (h5 : ∀ T, T < 32 → s5 T = nI (rd_B (rd_f a1 a2 a3) P T)) (hpos : 0 < rd_bel (rd_f a1 a2 a3) n P 0)
    (H : ∀ s4, (∀ j, j < n → s4 j = nI ((rd_gr (rd_f a1 a2 a3) n P 0).getD j 0)) → post 1 (nI P, nI n, a1, a2, a3, s4, s5, s6)) : ∃ fu, wX_arrange_19 post (nI P) (nI n) fu 0 0 a1 a2 a3 a4 s5 s6 := by
  have hn5 : n ≤ 5 := by rw [← hn]; exact rd_pc_le P hP
  refine pk_loop (σ := Nat × (Nat → Int32)) (fun fu i s => wX_arrange_19 post (nI P) (nI n) fu (nI s.1) (nI i) a1 a2 a3 s.2 s5 s6) (fun i s => ∃ pre : List Nat, pre.length = i ∧ rd_gr (rd_f a1 a2 a3) n P 0 = pre ++ rd_gr (rd_f a1 a2 a3) (n - i) (rd_sub P s.1) s.1 ∧ (∀ j, j < i → s.2 j = nI (pre.getD j 0)) ∧ s.1 < 32 ∧ rd_sub s.1 P = 0 ∧ rd_pc (rd_sub P s.1) = n - i ∧ 0 < rd_bel (rd_f a1 a2 a3) (n - i) (rd_sub P s.1) s.1) n 0 (0, a4) (by omega) ?_ ?_ ?_
  · refine ⟨[], rfl, ?_, fun j hj => absurd hj (Nat.not_lt_zero j), (by decide : 0 < 32), rd_sub_0l P, ?_, ?_⟩
    · dsimp only
      rw [rd_sub_0 P hP]
      rfl
    · dsimp only
      rw [rd_sub_0 P hP, hn, Nat.sub_zero]
    · dsimp only
      rw [rd_sub_0 P hP, Nat.sub_zero]
      exact hpos
  · rintro fu ⟨S, s4⟩ ⟨pre, hlen, he, hj, _⟩
    dsimp only at he hj
    refine pk_le n n (fun _ => H s4 (fun j hjn => ?_)) (fun z => absurd z (by omega))
    rw [he, Nat.sub_self, hj j hjn]
    show nI (pre.getD j 0) = nI ((pre ++ []).getD j 0)
    rw [List.append_nil]
  · rintro fu i ⟨S, s4⟩ hi ⟨pre, hlen, he, hj, hS, hSP, hpc, hps⟩ hw
    dsimp only at he hj hS hSP hpc hps hw ⊢
    obtain ⟨m, hm⟩ : ∃ m, n - i = m + 1 := ⟨n - i - 1, by omega⟩
    have hm' : n - (i + 1) = m := by omega
    rw [hm] at he hpc hps
    obtain ⟨k5, kL, kp, kf⟩ := rd_gr_next (rd_f a1 a2 a3) hps
    have e1 : rd_gr (rd_f a1 a2 a3) (m + 1) (rd_sub P S) S = rd_pick (rd_cf (rd_f a1 a2 a3) m (rd_sub P S) S) :: rd_gr (rd_f a1 a2 a3) m (rd_del (rd_sub P S) (rd_pick (rd_cf (rd_f a1 a2 a3) m (rd_sub P S) S))) (rd_add S (rd_pick (rd_cf (rd_f a1 a2 a3) m (rd_sub P S) S))) := rfl
    rw [e1] at he
    have hmin := rd_pick_min (rd_cf (rd_f a1 a2 a3) m (rd_sub P S) S)
    have hlt := rd_pick_lt (rd_cf (rd_f a1 a2 a3) m (rd_sub P S) S)
    generalize rd_pick (rd_cf (rd_f a1 a2 a3) m (rd_sub P S) S) = k at k5 kL kp kf he hmin hlt
    have fin : wX_arrange_49 post (wX_arrange_19 post (nI P) (nI n) fu) (nI S) (nI i) (nI k) (nI P) (nI n) a1 a2 a3 s4 s5 s6 := by
      refine ⟨pk_in i 5 (by omega), nm_r (e' := upd s4 i (nI k)) ?_ (nm_r (rd_bor S hS k k5) (nm_r (nI_1 i) (hw (rd_add S k, upd s4 i (nI k)) ⟨pre ++ [k], ?_, ?_, ?_, rd_add_lt S hS k k5, rd_sub_grow P hP S hS hSP k k5 kL, ?_, ?_⟩)))⟩
      · rw [nI_clamp (by omega), rd_b8 k (by omega)]
      · rw [List.length_append, hlen]
        rfl
      · dsimp only
        rw [he, hm', rd_sub_add P hP S hS k k5, List.append_assoc]
        rfl
      · dsimp only
        intro j hji
        by_cases e : j = i
        · rw [e, pk_us, ← hlen]
          exact congrArg nI rd_gm.symm
        · rw [pk_un e, rd_gl (by omega)]
          exact hj j (by omega)
      · dsimp only
        rw [hm', rd_sub_add P hP S hS k k5]
        have := rd_pc_del _ (rd_sub_lt P hP S hS) k k5 kL
        omega
      · dsimp only
        rw [hm', rd_sub_add P hP S hS k k5]
        exact kp
    refine pk_le n i (fun z => absurd z (by omega)) (fun _ => ?_)
    refine pk_loop (σ := Unit) (fun fu' j _ => wX_arrange_29 post (wX_arrange_19 post (nI P) (nI n) fu) (nI S) (nI i) (nI P) (nI n) a1 a2 a3 s4 s5 s6 fu' (nI j)) (fun _ _ => True) k 0 () (by omega) trivial ?_ ?_
    · intro fu' _ _
      refine pk_le 4 k (fun _ => fin) (fun z => rd_cfw hP hS k5 h5 hSP hpc (fun hc => ?_) (fun _ => br_f (by decide) fin))
      rw [hlt z] at hc
      exact absurd hc (by decide)
    · intro fu' j _ hjk _ hw'
      refine pk_le 4 j (fun z => absurd z (by omega)) (fun z => rd_cfw hP hS (by omega) h5 hSP hpc (fun _ => br_t rfl (nm_r (nI_1 j) (hw' () trivial))) (fun hc => ?_))
      rw [hmin j hjk] at hc
      exact absurd hc (by decide)
theorem rd_B0 (f : Nat → Nat → Bool) {P : Nat} (hP : P < 32) : rd_B f P 0 = rd_bel f (rd_pc P) P 0 := by
  unfold rd_B
  rw [if_pos (rd_sub_0l P), rd_sub_0 P hP]
theorem rd_arr {post : Int32 → St1 → Prop} {a1 a2 a3 a4 a5 a6 : Nat → Int32} {P n : Nat} (hP : P < 32) (hn : n = rd_pc P)
    (H0 : rd_B (rd_f a1 a2 a3) P 0 = 0 → ∀ s5 s6, post 0 (nI P, nI n, a1, a2, a3, a4, s5, s6))
    (H1 : 0 < rd_B (rd_f a1 a2 a3) P 0 → ∀ s4 s5 s6, (∀ j, j < n → s4 j = nI ((rd_gr (rd_f a1 a2 a3) n P 0).getD j 0)) → post 1 (nI P, nI n, a1, a2, a3, s4, s5, s6)) : wpX_arrange post (nI P, nI n, a1, a2, a3, a4, a5, a6) := by
  unfold wpX_arrange
  try dsimp only
  refine rd_fill hP (fun s5 s6 h5 _ => ?_)
  have hB := rd_B_le (rd_f a1 a2 a3) hP (show 0 < 32 by omega)
  refine pk_eq (rd_B (rd_f a1 a2 a3) P 0) 0 (fun e => H0 e s5 s6) (fun e => ?_) (h5 0 (by omega))
  have hpos : 0 < rd_B (rd_f a1 a2 a3) P 0 := by omega
  refine rd_ar hP hn.symm h5 ?_ (fun s4 h4 => H1 hpos s4 s5 s6 h4)
  rw [rd_B0 _ hP, ← hn] at hpos
  exact hpos
end
section
/-! put: the code's order, task by task -/
def rd_st (Lm t : Nat) (v : Int32 × Int32) : Int32 × Int32 := if Lm.testBit t = true then (v.1 - 1, if v.1 = 0 then (if 0 ≤ v.2 then v.2 else nI t) else v.2) else (v.1 - 0, v.2)
def rd_it (Lm s : Nat) : Nat → Int32 × Int32
  | 0 => (nI s, -1)
  | t + 1 => rd_st Lm t (rd_it Lm s t)
theorem rd_it_5 : ∀ Lm, Lm < 32 → ∀ s, s < rd_pc Lm → (rd_it Lm s 5).2 = nI (rd_sel Lm s) := by decide +kernel
theorem rd_put44 {post : Int32 → St1 → Prop} {J : Int32 → Int32 → Int32 → Int32 → Int32 → Int32 → (Nat → Int32) → (Nat → Int32) → (Nat → Int32) → (Nat → Int32) → (Nat → Int32) → (Nat → Int32) → Prop} {x4 x5 : Int32} {a1 a2 a3 a4 a5 a6 : Nat → Int32} {P n i Lm s : Nat} {o : Nat → Nat}
    (hP : P < 32) (hV : rd_VO P n o) (h4 : rd_A4 n o a4) (hL : Lm < 32) (hs : s < rd_pc Lm) (hi : i < n) (hsub : ∀ k, k < 5 → Lm.testBit k = true → P.testBit k = true) (hpre : ∀ j, j < i → Lm.testBit (o j) = false)
    (H : ∀ o' b4, rd_VO P n o' → rd_A4 n o' b4 → (∀ j, j < i → o' j = o j) → o' i = rd_sel Lm s → J (nI (rd_del Lm (rd_sel Lm s))) x4 (x5 * 5 + nI (rd_sel Lm s)) (nI (i + 1)) (nI P) (nI n) a1 a2 a3 b4 a5 a6) :
    ∃ fu, wL_put_44 post J (nI n) (nI Lm) x4 x5 (nI i) (nI P) (nI n) a1 a2 a3 a4 a5 a6 fu (nI s) (-1) 0 := by
  refine pk_loop (σ := Unit) (fun fu t _ => wL_put_44 post J (nI n) (nI Lm) x4 x5 (nI i) (nI P) (nI n) a1 a2 a3 a4 a5 a6 fu (rd_it Lm s t).1 (rd_it Lm s t).2 (nI t)) (fun _ _ => True) 5 0 () (by omega) trivial ?_ ?_
  · intro fu _ _
    obtain ⟨k5, kL⟩ := rd_sel_in Lm hL s hs
    obtain ⟨q, hq, eq⟩ := hV.2.2.2 _ k5 (hsub _ k5 kL)
    have hqi : i ≤ q := by
      rcases Nat.lt_or_ge q i with z | z
      · have := hpre q z
        rw [eq, kL] at this
        exact absurd this (by decide)
      · exact z
    obtain ⟨b4, hb4, hw⟩ := rd_plC (a1 := a1) (a2 := a2) (a3 := a3) (a5 := a5) (a6 := a6) hP hV h4 hq hi
    rw [eq] at hw
    try dsimp only
    rw [rd_it_5 Lm hL s hs]
    refine pk_le 5 5 (fun _ => nm_r (rd_bdel Lm hL _ k5) (hw _ (nm_e (nm_r (nI_1 i) (H (rd_mv o q i) b4 (rd_mvVO hq hi hV) hb4 ?_ ?_))))) (fun z => absurd z (by omega))
    · intro j hj
      unfold rd_mv
      rw [if_neg (by omega), if_neg (by omega), if_neg (by omega)]
    · unfold rd_mv
      rw [if_pos rfl]
      exact eq
  · intro fu t _ ht _ hw
    have hw' := hw () trivial
    have e1 : rd_it Lm s (t + 1) = rd_st Lm t (rd_it Lm s t) := rfl
    try dsimp only at hw'
    rw [e1] at hw'
    try dsimp only
    generalize rd_it Lm s t = v at hw'
    obtain ⟨x7, x8⟩ := v
    unfold rd_st at hw'
    try dsimp only at hw'
    try dsimp only
    refine pk_le 5 t (fun z => absurd z (by omega)) (fun _ => ?_)
    rw [rd_b0 Lm hL t ht]
    cases hb : Lm.testBit t
    · rw [hb, if_neg (by decide)] at hw'
      exact br_f (by decide) (br_t rfl (br_t rfl (nm_e (nm_r (nI_1 t) hw'))))
    · rw [hb, if_pos rfl] at hw'
      try dsimp only at hw'
      refine br_t (by decide) (br_f (by decide) ?_)
      by_cases h7 : x7 = 0
      · rw [if_pos h7] at hw'
        by_cases h8 : 0 ≤ x8
        · rw [if_pos h8] at hw'
          exact br_t h7 (br_t h8 (br_f (by decide) (nm_e (nm_r (nI_1 t) hw'))))
        · rw [if_neg h8] at hw'
          exact br_t h7 (br_f h8 (br_f (by decide) (nm_e (nm_r (nI_1 t) hw'))))
      · rw [if_neg h7] at hw'
        exact br_f h7 (br_f (by decide) (nm_e (nm_r (nI_1 t) hw')))
theorem rd_put {post : Int32 → St1 → Prop} {a1 a2 a3 a4 a5 a6 : Nat → Int32} {P n c : Nat} {o : Nat → Nat} (hP : P < 32) (hn : rd_pc P = n) (hV : rd_VO P n o) (h4 : rd_A4 n o a4) (hc : c < 2 ^ 31)
    (H : ∀ o' b4, rd_VO P n o' → rd_A4 n o' b4 → (∀ j, j < n → o' j = (rd_dec n P c).getD j 0) → post (nI (rd_val (rd_dec n P c))) (nI P, nI n, a1, a2, a3, b4, a5, a6)) : wpL_put post (nI P, nI n, a1, a2, a3, a4, a5, a6) (nI n) (nI c) := by
  have hn5 := hV.1
  show ∃ fu, wL_put_14 post (nI n) fu (nI P) (nI c) 0 0 (nI P) (nI n) a1 a2 a3 a4 a5 a6
  refine pk_loop (σ := Nat × Nat × Nat × (Nat → Int32)) (fun fu i s => wL_put_14 post (nI n) fu (nI s.1) (nI s.2.1) (nI s.2.2.1) (nI i) (nI P) (nI n) a1 a2 a3 s.2.2.2 a5 a6)
    (fun i s => ∃ (pre : List Nat) (o : Nat → Nat), pre.length = i ∧ rd_dec n P c = pre ++ rd_dec (n - i) s.1 s.2.1 ∧ s.2.2.1 = rd_val pre ∧ rd_VO P n o ∧ rd_A4 n o s.2.2.2 ∧ (∀ j, j < i → o j = pre.getD j 0) ∧ s.1 < 32 ∧ rd_pc s.1 = n - i ∧ (∀ k, k < 5 → s.1.testBit k = true → P.testBit k = true) ∧ (∀ j, j < i → s.1.testBit (o j) = false) ∧ s.2.1 < 2 ^ 31) n 0 (P, c, 0, a4) (by omega) ?_ ?_ ?_
  · exact ⟨[], o, rfl, rfl, rfl, hV, h4, fun j hj => absurd hj (Nat.not_lt_zero j), hP, hn, fun _ _ h => h, fun j hj => absurd hj (Nat.not_lt_zero j), hc⟩
  · rintro fu ⟨Lm, rest, row, b4⟩ ⟨pre, o', hlen, he, hrow, hV', h4', ho, _⟩
    dsimp only at he hrow h4' ho ⊢
    rw [Nat.sub_self] at he
    have he' : rd_dec n P c = pre := by rw [he]; exact List.append_nil pre
    have h := H o' b4 hV' h4' (fun j hj => by rw [he']; exact ho j hj)
    rw [he', ← hrow] at h
    exact pk_le n n (fun _ => h) (fun z => absurd z (by omega))
  · rintro fu i ⟨Lm, rest, row, b4⟩ hi ⟨pre, o', hlen, he, hrow, hV', h4', ho, hL, hpc, hsub, hpre, hr⟩ hw
    dsimp only at he hrow h4' ho hL hpc hsub hpre hr hw ⊢
    obtain ⟨m, hm⟩ : ∃ m, n - i = m + 1 := ⟨n - i - 1, by omega⟩
    have hm' : n - (i + 1) = m := by omega
    have hs : rest % (m + 1) < rd_pc Lm := by rw [hpc, hm]; exact Nat.mod_lt _ (by omega)
    rw [hm] at he hpc
    obtain ⟨k5, kL⟩ := rd_sel_in Lm hL _ hs
    have e1 : rd_dec (m + 1) Lm rest = rd_sel Lm (rest % (m + 1)) :: rd_dec m (rd_del Lm (rd_sel Lm (rest % (m + 1)))) (rest / (m + 1)) := rfl
    rw [e1] at he
    have es : nI n - nI i = nI (m + 1) := by rw [pk_sub (by omega), hm]
    refine pk_le n i (fun z => absurd z (by omega)) (fun _ => ?_)
    rw [es]
    refine ⟨nI_ne0 (by omega) (by omega), nm_r (pk_rem hr (by omega) (by omega)) ⟨nI_ne0 (by omega) (by omega), nm_r (pk_div hr (by omega) (by omega)) ?_⟩⟩
    refine rd_put44 hP hV' h4' hL hs hi hsub hpre (fun o2 b2 hV2 h42 hl2 hk2 => ?_)
    generalize rd_sel Lm (rest % (m + 1)) = k at k5 kL he hk2
    have ev : nI row * 5 + nI k = nI (rd_val (pre ++ [k])) := by
      rw [rd_val_snoc, ← hrow]
      show nI row * nI 5 + nI k = _
      rw [pk_mul, nI_add]
    rw [ev]
    refine hw (rd_del Lm k, rest / (m + 1), rd_val (pre ++ [k]), b2) ⟨pre ++ [k], o2, ?_, ?_, rfl, hV2, h42, ?_, rd_del_lt Lm hL k k5, ?_, ?_, ?_, ?_⟩
    · rw [List.length_append, hlen]
      rfl
    · dsimp only
      rw [he, hm', List.append_assoc]
      rfl
    · intro j hj
      by_cases e : j = i
      · rw [e, hk2, ← hlen]
        exact rd_gm.symm
      · rw [hl2 j (by omega), rd_gl (by omega)]
        exact ho j (by omega)
    · dsimp only
      have := rd_pc_del Lm hL k k5 kL
      omega
    · dsimp only
      intro t ht hb
      rw [rd_del_tb Lm hL k k5 t ht, Bool.and_eq_true] at hb
      exact hsub t ht hb.1
    · dsimp only
      intro j hj
      have h5 := (hV2.2.1 j (by omega)).1
      rw [rd_del_tb Lm hL k k5 _ h5]
      by_cases e : j = i
      · rw [e, hk2, decide_eq_true rfl]
        exact Bool.and_false _
      · rw [hl2 j (by omega), hpre j (by omega)]
        exact Bool.false_and _
    · dsimp only
      exact Nat.lt_of_le_of_lt (Nat.div_le_self _ _) hr
end
section
/-! what the law's loop over the codes gathers -/
def rd_okc (f : Nat → Nat → Bool) (n P c : Nat) : Bool := rd_good f 0 (rd_dec n P c)
def rd_ct (f : Nat → Nat → Bool) (n P c : Nat) : Nat := rd_sum (fun c => if rd_good f 0 (rd_dec n P c) = true then 1 else 0) c
def rd_lm (f : Nat → Nat → Bool) (n P : Nat) : Nat → Nat
  | 0 => 0
  | c + 1 => if (rd_okc f n P c && decide (0 < n)) = true then rd_add (rd_lm f n P c) ((rd_dec n P c).getD (n - 1) 0) else rd_lm f n P c
def rd_bs (f : Nat → Nat → Bool) (n P : Nat) : Nat → Int32
  | 0 => -1
  | c + 1 => if rd_okc f n P c = true then (if rd_bs f n P c < 0 then nI (rd_val (rd_dec n P c)) else if rd_bs f n P c ≤ nI (rd_val (rd_dec n P c)) then rd_bs f n P c else nI (rd_val (rd_dec n P c))) else rd_bs f n P c
theorem rd_ct_eq (f : Nat → Nat → Bool) {n P : Nat} (hP : P < 32) (hn : rd_pc P = n) : rd_ct f n P (rd_fact n) = rd_B f P 0 := by
  rw [rd_B0 f hP, hn]
  exact rd_count f n P 0 hP hn
theorem rd_pm_5 : ∀ l L, L < 32 → rd_pm L l → ∀ i, i < l.length → l.getD i 0 < 5 := by
  intro l
  induction l with
  | nil => intro L _ _ i hi; exact absurd hi (Nat.not_lt_zero i)
  | cons k l ih =>
    intro L hL h i hi
    obtain ⟨k5, kL, h'⟩ := h
    cases i with
    | zero => exact k5
    | succ i =>
      rw [List.getD_cons_succ]
      rw [List.length_cons] at hi
      exact ih _ (rd_del_lt L hL k k5) h' i (by omega)
theorem rd_dec_5 {n P c i : Nat} (hP : P < 32) (hn : rd_pc P = n) (hi : i < n) : (rd_dec n P c).getD i 0 < 5 :=
  rd_pm_5 _ P hP (rd_dec_pm n P c hP hn) i (by rw [rd_dec_len]; exact hi)
theorem rd_lm_ok (f : Nat → Nat → Bool) {n P : Nat} (hP : P < 32) (hn : rd_pc P = n) : ∀ c, rd_lm f n P c < 32 ∧ ∀ j, j < 5 → ((rd_lm f n P c).testBit j = true ↔ ∃ c', c' < c ∧ rd_okc f n P c' = true ∧ 0 < n ∧ (rd_dec n P c').getD (n - 1) 0 = j) := by
  intro c
  induction c with
  | zero =>
    refine ⟨(by decide : 0 < 32), fun j hj => ⟨fun h => ?_, ?_⟩⟩
    · have h' : (0 : Nat).testBit j = true := h
      rw [Nat.zero_testBit] at h'
      exact absurd h' (by decide)
    · rintro ⟨c', hc', _⟩
      exact absurd hc' (Nat.not_lt_zero c')
  | succ c ih =>
    obtain ⟨i1, i2⟩ := ih
    have e : rd_lm f n P (c + 1) = if (rd_okc f n P c && decide (0 < n)) = true then rd_add (rd_lm f n P c) ((rd_dec n P c).getD (n - 1) 0) else rd_lm f n P c := rfl
    rw [e]
    by_cases h : (rd_okc f n P c && decide (0 < n)) = true
    · rw [if_pos h]
      rw [Bool.and_eq_true, decide_eq_true_iff] at h
      have k5 := rd_dec_5 (c := c) hP hn (show n - 1 < n by omega)
      refine ⟨rd_add_lt _ i1 _ k5, fun j hj => ?_⟩
      rw [rd_add_tb _ i1 _ k5 j hj, Bool.or_eq_true, decide_eq_true_iff, i2 j hj]
      constructor
      · rintro (⟨c', h1, h2⟩ | h1)
        · exact ⟨c', by omega, h2⟩
        · exact ⟨c, by omega, h.1, h.2, h1.symm⟩
      · rintro ⟨c', h1, h2, h3, h4⟩
        by_cases ec : c' = c
        · rw [ec] at h4
          exact Or.inr h4.symm
        · exact Or.inl ⟨c', by omega, h2, h3, h4⟩
    · rw [if_neg h]
      refine ⟨i1, fun j hj => ?_⟩
      rw [i2 j hj]
      constructor
      · rintro ⟨c', h1, h2⟩
        exact ⟨c', by omega, h2⟩
      · rintro ⟨c', h1, h2, h3, h4⟩
        by_cases ec : c' = c
        · rw [ec] at h2
          rw [h2, decide_eq_true h3] at h
          exact absurd rfl h
        · exact ⟨c', by omega, h2, h3, h4⟩
theorem rd_lm_eq (f : Nat → Nat → Bool) {n P : Nat} (hP : P < 32) (hn : rd_pc P = n) : rd_mk (rd_lg f P) 5 = rd_lm f n P (rd_fact n) := by
  obtain ⟨hlt, htb⟩ := rd_lm_ok f hP hn (rd_fact n)
  refine (rd_mk_eq (rd_lg f P) hlt).mpr (fun j hj => ?_)
  rw [Bool.eq_iff_iff, htb j hj]
  have hd := rd_del_lt P hP j hj
  have hap := rd_am_pos f hP (rd_pc (rd_del P j)) (rd_del P j) hd rfl (rd_and_del P hP P hP (Nat.and_self P) j hj)
  have hA : rd_A f P (rd_del P j) = rd_am f P (rd_pc (rd_del P j)) (rd_del P j) := rfl
  unfold rd_lg
  rw [Bool.and_eq_true, Bool.and_eq_true, decide_eq_true_iff, hA, hap]
  constructor
  · rintro ⟨hb, ⟨l, hl, hg⟩, hf⟩
    have hpm := (rd_pm_snoc j l P hP).mpr ⟨hj, hb, hl⟩
    have hlen := rd_pm_len _ P hP hpm
    rw [List.length_append, hn] at hlen
    have hlen' : l.length + 1 = n := hlen
    obtain ⟨c, hc, ec⟩ := rd_pm_dec _ P hP hpm
    rw [hn] at hc ec
    refine ⟨c, hc, ?_, by omega, ?_⟩
    · unfold rd_okc
      rw [ec, rd_good_snoc f j l _ 0 hd (by decide) hl, hg, Nat.zero_or, hf]
      rfl
    · rw [ec, show n - 1 = l.length by omega]
      exact rd_gm
  · rintro ⟨c, hc, hg, hn0, he⟩
    have hpm := rd_dec_pm n P c hP hn
    have hlen := rd_dec_len n P c
    unfold rd_okc at hg
    generalize rd_dec n P c = l at hpm hlen hg he
    rcases rd_snoc l with rfl | ⟨l', k, rfl⟩
    · have : 0 = n := hlen
      omega
    · rw [List.length_append] at hlen
      have hlen' : l'.length + 1 = n := hlen
      rw [show n - 1 = l'.length by omega] at he
      have ek : k = j := rd_gm.symm.trans he
      subst ek
      obtain ⟨_, hb, hl⟩ := (rd_pm_snoc k l' P hP).mp hpm
      rw [rd_good_snoc f k l' _ 0 hd (by decide) hl, Nat.zero_or, Bool.and_eq_true] at hg
      exact ⟨hb, ⟨l', hl, hg.1⟩, hg.2⟩
theorem rd_val_3 {l : List Nat} {L : Nat} (hL : L < 32) (h : rd_pm L l) : rd_val l < 3125 := by
  have h1 := rd_val_lt l L h
  have h2 := rd_pow5 _ (rd_pc_le L hL)
  rw [rd_pm_len l L hL h] at h1
  omega
theorem rd_bs_ok (f : Nat → Nat → Bool) {n P : Nat} (hP : P < 32) (hn : rd_pc P = n) : ∀ c, ((∀ c', c' < c → rd_okc f n P c' = false) ∧ rd_bs f n P c = -1) ∨ (∃ c0, c0 < c ∧ rd_okc f n P c0 = true ∧ rd_bs f n P c = nI (rd_val (rd_dec n P c0)) ∧ ∀ c', c' < c → rd_okc f n P c' = true → rd_val (rd_dec n P c0) ≤ rd_val (rd_dec n P c')) := by
  intro c
  induction c with
  | zero => exact Or.inl ⟨fun c' hc' => absurd hc' (Nat.not_lt_zero c'), rfl⟩
  | succ c ih =>
    have e : rd_bs f n P (c + 1) = if rd_okc f n P c = true then (if rd_bs f n P c < 0 then nI (rd_val (rd_dec n P c)) else if rd_bs f n P c ≤ nI (rd_val (rd_dec n P c)) then rd_bs f n P c else nI (rd_val (rd_dec n P c))) else rd_bs f n P c := rfl
    rw [e]
    have hv := rd_val_3 hP (rd_dec_pm n P c hP hn)
    cases hc : rd_okc f n P c
    · rw [if_neg (by decide)]
      rcases ih with ⟨h1, h2⟩ | ⟨c0, h1, h2, h3, h4⟩
      · refine Or.inl ⟨fun c' hc' => ?_, h2⟩
        by_cases ec : c' = c
        · rw [ec]
          exact hc
        · exact h1 c' (by omega)
      · refine Or.inr ⟨c0, by omega, h2, h3, fun c' hc' ho => ?_⟩
        by_cases ec : c' = c
        · rw [ec, hc] at ho
          exact absurd ho (by decide)
        · exact h4 c' (by omega) ho
    · rw [if_pos rfl]
      rcases ih with ⟨h1, h2⟩ | ⟨c0, h1, h2, h3, h4⟩
      · rw [h2, if_pos (by decide)]
        refine Or.inr ⟨c, by omega, hc, rfl, fun c' hc' ho => ?_⟩
        by_cases ec : c' = c
        · rw [ec]
          exact Nat.le_refl _
        · rw [h1 c' (by omega)] at ho
          exact absurd ho (by decide)
      · have hv0 := rd_val_3 hP (rd_dec_pm n P c0 hP hn)
        rw [h3, if_neg (nI_pos (by omega))]
        by_cases hle : rd_val (rd_dec n P c0) ≤ rd_val (rd_dec n P c)
        · rw [if_pos (nI_le hle (by omega))]
          refine Or.inr ⟨c0, by omega, h2, rfl, fun c' hc' ho => ?_⟩
          by_cases ec : c' = c
          · rw [ec]
            exact hle
          · exact h4 c' (by omega) ho
        · rw [if_neg (nI_ge (by omega) (by omega))]
          refine Or.inr ⟨c, by omega, hc, rfl, fun c' hc' ho => ?_⟩
          by_cases ec : c' = c
          · rw [ec]
            exact Nat.le_refl _
          · have := h4 c' (by omega) ho
            omega
theorem rd_bs_eq (f : Nat → Nat → Bool) {n P : Nat} (hP : P < 32) (hn : rd_pc P = n) (hpos : 0 < rd_B f P 0) : rd_bs f n P (rd_fact n) = nI (rd_val (rd_gr f n P 0)) := by
  rw [rd_B0 f hP, hn] at hpos
  obtain ⟨g1, g2, g3⟩ := rd_gr_ok f n P 0 hP hn hpos
  obtain ⟨cg, hcg, ecg⟩ := rd_pm_dec _ P hP g1
  rw [hn] at hcg ecg
  have hok : rd_okc f n P cg = true := by
    unfold rd_okc
    rw [ecg]
    exact g2
  rcases rd_bs_ok f hP hn (rd_fact n) with ⟨h1, _⟩ | ⟨c0, h1, h2, h3, h4⟩
  · rw [h1 cg hcg] at hok
    exact absurd hok (by decide)
  · have k1 := h4 cg hcg hok
    rw [ecg] at k1
    have k2 := g3 _ (rd_dec_pm n P c0 hP hn) h2
    rw [h3]
    congr 1
    omega
/-- a row out of a function -/
def rd_vf (g : Nat → Nat) : Nat → Nat
  | 0 => 0
  | i + 1 => rd_vf g i * 5 + g i
theorem rd_vf_congr {g h : Nat → Nat} : ∀ i, (∀ j, j < i → g j = h j) → rd_vf g i = rd_vf h i := by
  intro i
  induction i with
  | zero => intro _; rfl
  | succ i ih =>
    intro H
    show rd_vf g i * 5 + g i = rd_vf h i * 5 + h i
    rw [ih (fun j hj => H j (by omega)), H i (by omega)]
theorem rd_vf_eq : ∀ n (l : List Nat), l.length = n → rd_vf (fun j => l.getD j 0) n = rd_val l := by
  intro n
  induction n with
  | zero =>
    intro l h
    rw [List.length_eq_zero_iff] at h
    rw [h]
    rfl
  | succ n ih =>
    intro l h
    rcases rd_snoc l with rfl | ⟨l', k, rfl⟩
    · exact absurd h (by simp)
    · rw [List.length_append] at h
      have h' : l'.length = n := by
        have h2 : l'.length + 1 = n + 1 := h
        omega
      show rd_vf (fun j => (l' ++ [k]).getD j 0) n * 5 + (l' ++ [k]).getD n 0 = _
      have e1 : rd_vf (fun j => (l' ++ [k]).getD j 0) n = rd_val l' := by
        rw [← ih l' h']
        exact rd_vf_congr n (fun j hj => rd_gl (by omega))
      have e2 : (l' ++ [k]).getD n 0 = k := by
        rw [← h']
        exact rd_gm
      rw [e1, e2, rd_val_snoc]
end
section
/-! the law's loops, from the last to the first -/
theorem rd_544 {post : Int32 → Prop} {L : Nat} {xs : Nat → Int32} {n kc ks : Nat} {x5 x7 p : Int32} {b1 b2 b3 b4 b5 b6 : Nat → Int32} {g : Nat → Nat} (hn : n ≤ 5) (h4 : ∀ j, j < n → b4 j = nI (g j)) (hp : post 1) (hx : x5 = 0 ∨ nI (rd_vf g n) = x7) :
    ∃ fu, wL_law_544 post L xs (nI n) x5 x7 kc ks p (nI n) b1 b2 b3 b4 b5 b6 fu 0 0 := by
  refine pk_loop (σ := Unit) (fun fu i _ => wL_law_544 post L xs (nI n) x5 x7 kc ks p (nI n) b1 b2 b3 b4 b5 b6 fu (nI (rd_vf g i)) (nI i)) (fun _ _ => True) n 0 () (by omega) trivial ?_ ?_
  · intro fu _ _
    refine pk_le n n (fun _ => ?_) (fun z => absurd z (by omega))
    by_cases h5 : x5 = 0
    · exact br_t h5 hp
    · rcases hx with hx | hx
      · exact absurd hx h5
      · exact br_f h5 (br_t hx hp)
  · intro fu i _ hi _ hw
    refine pk_le n i (fun z => absurd z (by omega)) (fun _ => rd_at hn hi (nm_r ?_ (nm_r (nI_1 i) (hw () trivial))))
    rw [h4 i hi]
    show nI (rd_vf g i) * nI 5 + nI (g i) = nI (rd_vf g i * 5 + g i)
    rw [pk_mul, nI_add]
theorem rd_fact_le : ∀ n, n ≤ 5 → rd_fact n ≤ 120 := by decide +kernel
theorem rd_hg (f : Nat → Nat → Bool) {n P c : Nat} {o : Nat → Nat} (ho : ∀ j, j < n → o j = (rd_dec n P c).getD j 0) : (∀ i, i < n → f (o i) (rd_M o i) = true) ↔ rd_okc f n P c = true := by
  unfold rd_okc
  rw [rd_good_ix, rd_dec_len]
  constructor
  · intro h i hi
    rw [Nat.zero_or, ← ho i hi, ← rd_M_congr i (fun j hj => ho j (by omega))]
    exact h i hi
  · intro h i hi
    have := h i hi
    rw [Nat.zero_or, ← ho i hi, ← rd_M_congr i (fun j hj => ho j (by omega))] at this
    exact this
theorem rd_405 {post : Int32 → Prop} {L : Nat} {xs : Nat → Int32} {kc ks P n : Nat} {o : Nat → Nat} {a1 a2 a3 a4 a5 a6 : Nat → Int32} (h : rd_ok P n o a1 a2 a3 a4) (hp : post 1) :
    ∃ fu, wL_law_405 post L xs (nI n) (nI (rd_fact n)) kc ks fu 0 0 (-1) 0 (nI P) (nI n) a1 a2 a3 a4 a5 a6 (nI P) (nI n) a1 a2 a3 a4 a5 a6 := by
  obtain ⟨hP, hpc, hV, h4, _⟩ := h
  have hn5 := hV.1
  have hf := rd_fact_le n hn5
  refine pk_loop (fun fu c s => wL_law_405 post L xs (nI n) (nI (rd_fact n)) kc ks fu (nI (rd_ct (rd_f a1 a2 a3) n P c)) (nI (rd_lm (rd_f a1 a2 a3) n P c)) (rd_bs (rd_f a1 a2 a3) n P c) (nI c) (nI P) (nI n) a1 a2 a3 a4 a5 a6 (nI P) (nI n) a1 a2 a3 s a5 a6) (fun _ s => ∃ o', rd_VO P n o' ∧ rd_A4 n o' s) (rd_fact n) 0 a4 (by omega) ⟨o, hV, h4⟩ ?_ ?_
  · intro fu s _
    have ec := rd_ct_eq (rd_f a1 a2 a3) hP hpc.symm
    have el := rd_lm_eq (rd_f a1 a2 a3) hP hpc.symm
    have hB := rd_B_le (rd_f a1 a2 a3) hP (show 0 < 32 by omega)
    try dsimp only
    rw [ec, ← el]
    refine pk_le (rd_fact n) (rd_fact n) (fun _ => rd_go hP (fun s5 s6 => br_t rfl (rd_cbl hP (fun t5 t6 => br_t rfl (rd_arr hP hpc (fun e u5 u6 => ?_) (fun e s4 u5 u6 hs4 => ?_)))))) (fun z => absurd z (by omega))
    · refine br_t ?_ (br_t rfl (rd_544 hn5 h4 hp (Or.inl ?_)))
      · rw [e]
        decide
      · rw [e]
        rfl
    · refine br_f (nI_nle e (by omega)) (br_t rfl (rd_544 (g := fun j => (rd_gr (rd_f a1 a2 a3) n P 0).getD j 0) hn5 hs4 hp (Or.inr ?_)))
      rw [rd_vf_eq n _ (rd_gr_len _ n P 0), rd_bs_eq (rd_f a1 a2 a3) hP hpc.symm e]
  · rintro fu c s hc ⟨o', hV', h4'⟩ hw
    try dsimp only at hw
    try dsimp only
    refine pk_le (rd_fact n) c (fun z => absurd z (by omega)) (fun _ => rd_put hP hpc.symm hV' h4' (by omega) (fun o2 b4 hV2 h42 ho2 => ?_))
    have hw' := hw b4 ⟨o2, hV2, h42⟩
    have hiff := rd_hg (rd_f a1 a2 a3) ho2
    obtain ⟨hm, _⟩ := rd_lm_ok (rd_f a1 a2 a3) hP hpc.symm c
    have e1 : rd_ct (rd_f a1 a2 a3) n P (c + 1) = rd_ct (rd_f a1 a2 a3) n P c + (if rd_okc (rd_f a1 a2 a3) n P c = true then 1 else 0) := rfl
    have e2 : rd_lm (rd_f a1 a2 a3) n P (c + 1) = if (rd_okc (rd_f a1 a2 a3) n P c && decide (0 < n)) = true then rd_add (rd_lm (rd_f a1 a2 a3) n P c) ((rd_dec n P c).getD (n - 1) 0) else rd_lm (rd_f a1 a2 a3) n P c := rfl
    have e3 : rd_bs (rd_f a1 a2 a3) n P (c + 1) = if rd_okc (rd_f a1 a2 a3) n P c = true then (if rd_bs (rd_f a1 a2 a3) n P c < 0 then nI (rd_val (rd_dec n P c)) else if rd_bs (rd_f a1 a2 a3) n P c ≤ nI (rd_val (rd_dec n P c)) then rd_bs (rd_f a1 a2 a3) n P c else nI (rd_val (rd_dec n P c))) else rd_bs (rd_f a1 a2 a3) n P c := rfl
    refine rd_goodw hP hV2 h42 (fun hg => br_f (by decide) ?_) (fun hg => br_t rfl ?_)
    · have hok := hiff.mp hg
      rw [hok, if_pos rfl] at e1 e3
      rw [hok, Bool.true_and] at e2
      have tail : ∀ z0, nI (rd_lm (rd_f a1 a2 a3) n P c) ||| z0 = nI (rd_lm (rd_f a1 a2 a3) n P (c + 1)) → wL_law_466 post L xs (wL_law_405 post L xs (nI n) (nI (rd_fact n)) kc ks fu) (nI n) (nI (rd_fact n)) (nI (rd_ct (rd_f a1 a2 a3) n P (c + 1))) (rd_bs (rd_f a1 a2 a3) n P c) (nI c) (nI (rd_val (rd_dec n P c))) 1 z0 (nI (rd_lm (rd_f a1 a2 a3) n P c)) kc ks (nI P) (nI n) a1 a2 a3 a4 a5 a6 (nI P) (nI n) a1 a2 a3 b4 a5 a6 := by
        intro z0 ez
        rw [e3] at hw'
        refine nm_r ez (br_f (by decide) ?_)
        by_cases h7 : rd_bs (rd_f a1 a2 a3) n P c < 0
        · rw [if_pos h7] at hw'
          exact br_t h7 (nm_r (nI_1 c) hw')
        · rw [if_neg h7] at hw'
          by_cases h8 : rd_bs (rd_f a1 a2 a3) n P c ≤ nI (rd_val (rd_dec n P c))
          · rw [if_pos h8] at hw'
            exact br_f h7 (br_t h8 (nm_r (nI_1 c) hw'))
          · rw [if_neg h8] at hw'
            exact br_f h7 (br_f h8 (nm_r (nI_1 c) hw'))
      have ec : nI (rd_ct (rd_f a1 a2 a3) n P c) + 1 = nI (rd_ct (rd_f a1 a2 a3) n P (c + 1)) := by rw [nI_1, e1]
      refine nm_r ec (br_f (by decide) (pk_le n 0 (fun z => tail 0 ?_) (fun z => ?_)))
      · rw [e2, decide_eq_false (by omega), if_neg (by decide)]
        exact rd_or0 _ hm
      · rw [rd_m1 z]
        refine rd_at hn5 (by omega) (tail _ ?_)
        rw [h42 (n - 1) (by omega), e2, decide_eq_true z, if_pos rfl, ← ho2 (n - 1) (by omega)]
        exact rd_bor _ hm _ (hV2.2.1 (n - 1) (by omega)).1
    · have hok : rd_okc (rd_f a1 a2 a3) n P c = false := Bool.eq_false_iff.mpr (fun z => hg (hiff.mpr z))
      rw [hok, if_neg (by decide)] at e1 e3
      rw [hok, Bool.false_and, if_neg (by decide)] at e2
      have ec : nI (rd_ct (rd_f a1 a2 a3) n P c) + 0 = nI (rd_ct (rd_f a1 a2 a3) n P (c + 1)) := by
        rw [e1]
        exact nI_add _ 0
      rw [e2, e3] at hw'
      exact nm_r ec (br_t rfl (nm_r (rd_or0 _ hm) (br_t rfl (nm_r (nI_1 c) hw'))))
theorem rd_265 {post : Int32 → Prop} {L : Nat} {xs : Nat → Int32} {kc ks P n : Nat} {o : Nat → Nat} {a1 a2 a3 a4 a5 a6 : Nat → Int32} (h : rd_ok P n o a1 a2 a3 a4) (hp : post 1) :
    ∃ fu, wL_law_265 post L xs kc ks fu 0 0 (nI P) (nI n) a1 a2 a3 a4 a5 a6 (nI P) (nI n) a1 a2 a3 a4 a5 a6 := by
  have hP := h.1
  have hpc := h.2.1
  have hn5 := h.2.2.1.1
  refine pk_loop (σ := Unit) (fun fu k _ => wL_law_265 post L xs kc ks fu (nI (rd_pcu P k)) (nI k) (nI P) (nI n) a1 a2 a3 a4 a5 a6 (nI P) (nI n) a1 a2 a3 a4 a5 a6) (fun _ _ => True) 5 0 () (by omega) trivial ?_ ?_
  · intro fu _ _
    have h391 : ∀ z0, z0 = nI (rd_fact n) → wL_law_391 post L xs (nI n) z0 kc ks (nI P) (nI n) a1 a2 a3 a4 a5 a6 (nI P) (nI n) a1 a2 a3 a4 a5 a6 := by
      intro z0 e
      rw [e]
      exact rd_405 h hp
    have en : rd_pcu P 5 = n := hpc.symm
    try dsimp only
    rw [en]
    refine pk_le 5 5 (fun _ => pk_le 2 n (fun h2 => pk_eq n 2 (fun e => h391 2 ?_) (fun n2 => pk_eq n 3 (fun e => h391 6 ?_) (fun n3 => pk_eq n 4 (fun e => h391 24 ?_) (fun n4 => h391 120 ?_)))) (fun h2 => h391 1 ?_)) (fun z => absurd z (by omega))
    · rw [e]
      decide
    · rw [e]
      decide
    · rw [e]
      decide
    · have e : n = 5 := by omega
      rw [e]
      decide
    · have e : n = 0 ∨ n = 1 := by omega
      rcases e with e | e
      · rw [e]
        decide
      · rw [e]
        decide
  · intro fu k _ hk _ hw
    obtain ⟨r1, h1⟩ := rd_response (a5 := a5) (a6 := a6) h hk
    obtain ⟨r2, h2⟩ := rd_atD (p := nI P) (a1 := a1) (a2 := a2) (a3 := a3) (a4 := a4) (a5 := a5) (a6 := a6) hn5 hk
    obtain ⟨r3, h3⟩ := rd_gc (a5 := a5) (a6 := a6) h hk
    obtain ⟨r4, h4⟩ := rd_lpd (a5 := a5) (a6 := a6) h hk
    have e : nI (rd_pcu P k) + ((nI P >>> (nI k &&& 31)) &&& 1) = nI (rd_pcu P (k + 1)) := by
      rw [rd_b0 P hP k hk, nI_add]
      rfl
    refine pk_le 5 k (fun z => absurd z (by omega)) (fun _ => ?_)
    unfold wpX_tasks
    try dsimp only
    refine nm_r e ?_
    exact h1 _ (h1 _ (br_t rfl (h2 _ (h2 _ (br_t rfl (h3 _ (h3 _ (br_t rfl (h4 _ (h4 _ (br_t rfl (nm_r (nI_1 k) (hw () trivial)))))))))))))
theorem rd_120 {post : Int32 → Prop} {L : Nat} {xs : Nat → Int32} {J : Int32 → Int32 → Int32 → (Nat → Int32) → (Nat → Int32) → (Nat → Int32) → (Nat → Int32) → (Nat → Int32) → (Nat → Int32) → Int32 → Int32 → (Nat → Int32) → (Nat → Int32) → (Nat → Int32) → (Nat → Int32) → (Nat → Int32) → (Nat → Int32) → Prop} {x3 x4 x5 x6 x7 : Int32} {kc ks P n : Nat} {o : Nat → Nat} {a1 a2 a3 a4 a5 a6 : Nat → Int32} (h : rd_ok P n o a1 a2 a3 a4)
    (H : ∀ (P' n' : Nat) (o' : Nat → Nat) (b1 b2 b3 b4 : Nat → Int32), rd_ok P' n' o' b1 b2 b3 b4 → J (x3 + 4) (nI P') (nI n') b1 b2 b3 b4 a5 a6 (nI P') (nI n') b1 b2 b3 b4 a5 a6) :
    wL_law_120 post L xs J x3 x4 x5 x6 x7 kc ks (nI P) (nI n) a1 a2 a3 a4 a5 a6 (nI P) (nI n) a1 a2 a3 a4 a5 a6 := by
  have hadd : (x4 = 0 ∨ (¬ x4 = 0 ∧ ¬ x4 ≤ 2 ∧ ¬ 7 ≤ x4)) → wL_law_138 post L xs J x3 x4 x5 x6 x7 kc ks (nI P) (nI n) a1 a2 a3 a4 a5 a6 (nI P) (nI n) a1 a2 a3 a4 a5 a6 := by
    intro hc
    unfold wL_law_138
    rcases rd_addw (a5 := a5) (a6 := a6) h x5 x6 x7 with ⟨r, hr, hw⟩ | ⟨r, P', n', o', b1, b2, b3, b4, hr, hok, hw⟩
    · exact hw _ (br_t hr (br_t rfl (nm_e (H P n o a1 a2 a3 a4 h))))
    · have h207 : wL_law_207 post L xs J x3 x5 x6 x7 kc ks (nI P') (nI n') b1 b2 b3 b4 a5 a6 (nI P) (nI n) a1 a2 a3 a4 a5 a6 := by
        unfold wL_law_207
        exact hw _ (br_f hr (nm_e (H P' n' o' b1 b2 b3 b4 hok)))
      refine hw _ (br_f hr (br_f (by decide) ?_))
      rcases hc with e | ⟨e1, e2, e3⟩
      · exact br_t e h207
      · exact br_f e1 (br_f e2 (br_f e3 h207))
  have hoth : (¬ x4 = 0 ∧ (x4 ≤ 2 ∨ (¬ x4 ≤ 2 ∧ 7 ≤ x4))) → wL_law_159 post L xs J x3 x4 x5 x6 x7 kc ks (nI P) (nI n) a1 a2 a3 a4 a5 a6 (nI P) (nI n) a1 a2 a3 a4 a5 a6 := by
    intro hc
    have pick : ∀ {A B : Prop}, A → ((x4 = 0 → B) ∧ (¬ x4 = 0 → ((x4 ≤ 2 → A) ∧ (¬ x4 ≤ 2 → ((7 ≤ x4 → A) ∧ (¬ 7 ≤ x4 → B)))))) := by
      intro A B a
      rcases hc with ⟨e1, e2 | ⟨e2, e3⟩⟩
      · exact br_f e1 (br_t e2 a)
      · exact br_f e1 (br_f e2 (br_t e3 a))
    unfold wL_law_159
    by_cases e1 : x4 = 1
    · refine br_t e1 ?_
      rcases rd_rmw (a5 := a5) (a6 := a6) h x5 with hw | ⟨P', n', o', b4, hok, hw⟩
      · exact hw _ (br_t rfl (nm_e (H P n o a1 a2 a3 a4 h)))
      · refine hw _ (br_f (by decide) (pick (br_t e1 (hw _ (br_f (by decide) (nm_e (H P' n' o' a1 a2 a3 b4 hok)))))))
    · refine br_f e1 ?_
      rcases rd_plw (a5 := a5) (a6 := a6) h x5 x6 with hw | ⟨P', n', o', b4, hok, hw⟩
      · exact hw _ (br_t rfl (nm_e (H P n o a1 a2 a3 a4 h)))
      · refine hw _ (br_f (by decide) (pick (br_f e1 (hw _ (br_f (by decide) (nm_e (H P' n' o' a1 a2 a3 b4 hok)))))))
  unfold wL_law_120
  by_cases e0 : x4 = 0
  · exact br_t e0 (hadd (Or.inl e0))
  · by_cases e2 : x4 ≤ 2
    · exact br_f e0 (br_t e2 (hoth ⟨e0, Or.inl e2⟩))
    · by_cases e7 : 7 ≤ x4
      · exact br_f e0 (br_f e2 (br_t e7 (hoth ⟨e0, Or.inr ⟨e2, e7⟩⟩)))
      · exact br_f e0 (br_f e2 (br_f e7 (hadd (Or.inr ⟨e0, e2, e7⟩))))
theorem rd_18 {post : Int32 → Prop} {L : Nat} {xs : Nat → Int32} {kc ks : Nat} {a5 a6 : Nat → Int32} (hL : L ≤ 260) (hp : post 1) : ∀ (fu i P n : Nat) (o : Nat → Nat) (a1 a2 a3 a4 : Nat → Int32), rd_ok P n o a1 a2 a3 a4 → i ≤ 260 → L ≤ i + 4 * fu → wL_law_18 post L xs kc ks (fu + 1) (nI i) (nI P) (nI n) a1 a2 a3 a4 a5 a6 (nI P) (nI n) a1 a2 a3 a4 a5 a6 := by
  intro fu
  induction fu with
  | zero =>
    intro i P n o a1 a2 a3 a4 h hi hf
    exact pk_le L (i + 3) (fun _ => rd_265 h hp) (fun z => absurd z (by omega)) rfl (nI_add i 3)
  | succ fu ih =>
    intro i P n o a1 a2 a3 a4 h hi hf
    refine pk_le L (i + 3) (fun _ => rd_265 h hp) (fun z => ?_) rfl (nI_add i 3)
    have H : ∀ (P' n' : Nat) (o' : Nat → Nat) (b1 b2 b3 b4 : Nat → Int32), rd_ok P' n' o' b1 b2 b3 b4 → wL_law_18 post L xs kc ks (fu + 1) (nI i + 4) (nI P') (nI n') b1 b2 b3 b4 a5 a6 (nI P') (nI n') b1 b2 b3 b4 a5 a6 := by
      intro P' n' o' b1 b2 b3 b4 hok
      have e : nI i + 4 = nI (i + 4) := nI_add i 4
      rw [e]
      exact ih (i + 4) P' n' o' b1 b2 b3 b4 hok (by omega) (by omega)
    obtain ⟨q, hq, eq⟩ := pk_andE (xs (nI i).toNatClampNeg) (m := 7) 3 (by decide)
    refine ⟨pk_in i L (by omega), nm_r eq ⟨pk_in (i + 1) L (by omega) (nI_1 i), nm_e ⟨pk_in (i + 2) L (by omega) (nI_add i 2), nm_e ⟨pk_in (i + 3) L (by omega) (nI_add i 3), nm_e ?_⟩⟩⟩⟩
    generalize xs (nI i + 1).toNatClampNeg = u
    generalize xs (nI i + 2).toNatClampNeg = v
    generalize xs (nI i + 3).toNatClampNeg = w
    have hq8 : q < 8 := hq
    obtain ⟨t, ht, et⟩ := pk_andE w (m := 7) 3 (by decide)
    obtain ⟨t', ht', et'⟩ := pk_andE v (m := 7) 3 (by decide)
    have ht8 : t < 8 := ht
    have ht8' : t' < 8 := ht'
    have e15 : 15 - (w &&& 7) = nI (15 - t) := by
      rw [et]
      exact pk_sub (a := 15) (by omega)
    refine pk_lt q 3 (fun _ => rd_120 h H) (fun _ => nm_r e15 (pk_eq q 7 (fun e7 => ?_) (fun e7 => ?_)))
    · unfold wL_law_93
      refine pk_eq q 7 (fun _ => ?_) (fun n7 => absurd e7 n7)
      unfold wL_law_118
      exact rd_120 h H
    · unfold wL_law_93
      refine pk_eq q 7 (fun z7 => absurd z7 e7) (fun _ => ⟨?_, ?_⟩)
      · rw [et', pk_sub (by omega)]
        exact nI_ne0 (by omega) (by omega)
      · unfold wL_law_118
        exact rd_120 h H
theorem i_vc (xs : Nat → Int32) (L : Nat) (hL : L ≤ 260) : wpL_law (fun r => r = 1) L xs := by
  refine ⟨6, 84, by omega, by omega, ?_⟩
  refine ⟨by omega, by omega, by omega, by omega, by omega, by omega, by omega, by omega, by omega, by omega, by omega, by omega, ?_⟩
  refine ⟨by omega, by omega, 6, 84, by omega, by omega, ?_⟩
  refine ⟨by omega, by omega, by omega, by omega, by omega, by omega, by omega, by omega, by omega, by omega, by omega, by omega, ?_⟩
  exact ⟨66, rd_18 (post := fun r => r = 1) hL rfl 65 0 0 0 (fun _ => 0) (fun _ => 0) (fun _ => 0) (fun _ => 0) (fun _ => 0) rd_ok0 (by omega) (by omega)⟩
end
