section
/-! pure laws: counting words of an automaton, ranks, beginnings -/
def sr_sum (f : Nat → Nat) : Nat → Nat
  | 0 => 0
  | n + 1 => sr_sum f n + f n
theorem sr_sum_le {f g : Nat → Nat} : ∀ n, (∀ i, i < n → f i ≤ g i) → sr_sum f n ≤ sr_sum g n
  | 0, _ => Nat.le_refl 0
  | n + 1, h => Nat.add_le_add (sr_sum_le n (fun i hi => h i (by omega))) (h n (by omega))
theorem sr_sum_eq {f g : Nat → Nat} : ∀ n, (∀ i, i < n → f i = g i) → sr_sum f n = sr_sum g n
  | 0, _ => rfl
  | n + 1, h => by
    show sr_sum f n + f n = sr_sum g n + g n
    rw [sr_sum_eq n (fun i hi => h i (by omega)), h n (by omega)]
theorem sr_sum_mono {f : Nat → Nat} {m n : Nat} (h : m ≤ n) : sr_sum f m ≤ sr_sum f n := by
  induction n with
  | zero =>
    have : m = 0 := by omega
    rw [this]
    exact Nat.le_refl _
  | succ n ih =>
    by_cases e : m = n + 1
    · rw [e]
      exact Nat.le_refl _
    · have := ih (by omega)
      show sr_sum f m ≤ sr_sum f n + f n
      omega
theorem sr_sum_shift (f : Nat → Nat) (m : Nat) : ∀ n, sr_sum (fun k => f (k + m)) n + sr_sum f m = sr_sum f (n + m)
  | 0 => by
    show 0 + sr_sum f m = sr_sum f (0 + m)
    rw [Nat.zero_add, Nat.zero_add]
  | n + 1 => by
    have ih := sr_sum_shift f m n
    rw [show n + 1 + m = (n + m) + 1 by omega]
    show (sr_sum (fun k => f (k + m)) n + f (n + m)) + sr_sum f m = sr_sum f (n + m) + f (n + m)
    omega
theorem sr_sum_ge {f : Nat → Nat} {n i : Nat} (h : i < n) : f i ≤ sr_sum f n := by
  have h1 : sr_sum f (i + 1) ≤ sr_sum f n := sr_sum_mono h
  have h2 : sr_sum f (i + 1) = sr_sum f i + f i := rfl
  omega
/-- the number of accepted words of k letters out of a state -/
def sr_W (nx : Nat → Nat → Nat) (ac : Nat → Bool) : Nat → Nat → Nat
  | 0 => fun st => if ac st = true then 1 else 0
  | k + 1 => fun st => sr_sum (fun x => sr_W nx ac k (nx st x)) 4
/-- those whose first letter is below t, with k letters behind it -/
def sr_S (nx : Nat → Nat → Nat) (ac : Nat → Bool) (k st t : Nat) : Nat := sr_sum (fun x => sr_W nx ac k (nx st x)) t
theorem sr_S4 (nx : Nat → Nat → Nat) (ac : Nat → Bool) (k st : Nat) : sr_S nx ac k st 4 = sr_W nx ac (k + 1) st := rfl
theorem sr_Ss (nx : Nat → Nat → Nat) (ac : Nat → Bool) (k st t : Nat) : sr_S nx ac k st (t + 1) = sr_S nx ac k st t + sr_W nx ac k (nx st t) := rfl
theorem sr_W_le (nx : Nat → Nat → Nat) (ac : Nat → Bool) : ∀ k st, sr_W nx ac k st ≤ 4 ^ k
  | 0, st => by
    show (if ac st = true then 1 else 0) ≤ 1
    split <;> omega
  | k + 1, st => by
    have h : ∀ x, sr_W nx ac k (nx st x) ≤ 4 ^ k := fun x => sr_W_le nx ac k (nx st x)
    have h0 := h 0
    have h1 := h 1
    have h2 := h 2
    have h3 := h 3
    show (((0 + sr_W nx ac k (nx st 0)) + sr_W nx ac k (nx st 1)) + sr_W nx ac k (nx st 2)) + sr_W nx ac k (nx st 3) ≤ 4 ^ (k + 1)
    have e : 4 ^ (k + 1) = 4 * 4 ^ k := by rw [Nat.pow_succ, Nat.mul_comm]
    omega
theorem sr_W_mono {nx nx' : Nat → Nat → Nat} {ac ac' : Nat → Bool} (R : Nat → Nat → Prop) (hR : ∀ s t x, x < 4 → R s t → R (nx s x) (nx' t x)) (ha : ∀ s t, R s t → ac s = true → ac' t = true) : ∀ k s t, R s t → sr_W nx ac k s ≤ sr_W nx' ac' k t
  | 0, s, t, h => by
    show (if ac s = true then 1 else 0) ≤ (if ac' t = true then 1 else 0)
    by_cases e : ac s = true
    · rw [if_pos e, if_pos (ha s t h e)]
      exact Nat.le_refl _
    · rw [if_neg e]
      exact Nat.zero_le _
  | k + 1, s, t, h => sr_sum_le 4 (fun x hx => sr_W_mono R hR ha k (nx s x) (nx' t x) (hR s t x hx h))
theorem sr_S_step (nx : Nat → Nat → Nat) (ac : Nat → Bool) (k st : Nat) {x : Nat} (hx : x < 4) : sr_S nx ac k st x + sr_W nx ac k (nx st x) ≤ sr_W nx ac (k + 1) st := by
  rw [← sr_Ss, ← sr_S4]
  exact sr_sum_mono hx
theorem sr_S_le (nx : Nat → Nat → Nat) (ac : Nat → Bool) {k : Nat} (hk : k < 6) (st : Nat) {x : Nat} (hx : x ≤ 4) : sr_S nx ac k st x ≤ 4096 := by
  have h1 : sr_S nx ac k st x ≤ sr_S nx ac k st 4 := sr_sum_mono hx
  rw [sr_S4] at h1
  have h2 := sr_W_le nx ac (k + 1) st
  have h3 : 4 ^ (k + 1) ≤ 4 ^ 6 := Nat.pow_le_pow_right (by omega) (by omega)
  have h4 : 4 ^ 6 = 4096 := by decide
  omega
theorem sr_W_bd (nx : Nat → Nat → Nat) (ac : Nat → Bool) {k : Nat} (hk : k < 7) (st : Nat) : sr_W nx ac k st ≤ 4096 := by
  have h2 := sr_W_le nx ac k st
  have h3 : 4 ^ k ≤ 4 ^ 6 := Nat.pow_le_pow_right (by omega) (by omega)
  have h4 : 4 ^ 6 = 4096 := by decide
  omega
/-- the state behind the first i letters -/
def sr_run (nx : Nat → Nat → Nat) (l : Nat → Nat) : Nat → Nat
  | 0 => 256
  | i + 1 => nx (sr_run nx l i) (l i)
theorem sr_run_eq {nx : Nat → Nat → Nat} {l l' : Nat → Nat} : ∀ i, (∀ j, j < i → l j = l' j) → sr_run nx l i = sr_run nx l' i
  | 0, _ => rfl
  | i + 1, h => by
    show nx (sr_run nx l i) (l i) = nx (sr_run nx l' i) (l' i)
    rw [sr_run_eq i (fun j hj => h j (by omega)), h i (by omega)]
/-- accepted words of m letters that fall below l's at one of the first i letters -/
def sr_rk (nx : Nat → Nat → Nat) (ac : Nat → Bool) (l : Nat → Nat) (m i : Nat) : Nat := sr_sum (fun j => sr_S nx ac (m - j - 1) (sr_run nx l j) (l j)) i
theorem sr_rk_s (nx : Nat → Nat → Nat) (ac : Nat → Bool) (l : Nat → Nat) (m i : Nat) : sr_rk nx ac l m (i + 1) = sr_rk nx ac l m i + sr_S nx ac (m - i - 1) (sr_run nx l i) (l i) := rfl
theorem sr_rk_eq {nx : Nat → Nat → Nat} {ac : Nat → Bool} {l l' : Nat → Nat} {m i : Nat} (h : ∀ j, j < i → l j = l' j) : sr_rk nx ac l m i = sr_rk nx ac l' m i :=
  sr_sum_eq i (fun j hj => by
    show sr_S nx ac (m - j - 1) (sr_run nx l j) (l j) = sr_S nx ac (m - j - 1) (sr_run nx l' j) (l' j)
    rw [sr_run_eq j (fun q hq => h q (by omega)), h j hj])
theorem sr_rk_le (nx : Nat → Nat → Nat) (ac : Nat → Bool) {l : Nat → Nat} {m : Nat} (hl : ∀ j, j < m → l j < 4) : ∀ i, i ≤ m → sr_rk nx ac l m i + sr_W nx ac (m - i) (sr_run nx l i) ≤ sr_W nx ac m 256
  | 0, _ => by
    show 0 + sr_W nx ac m 256 ≤ sr_W nx ac m 256
    omega
  | i + 1, h => by
    have ih := sr_rk_le nx ac hl i (by omega)
    have st := sr_S_step nx ac (m - i - 1) (sr_run nx l i) (hl i (by omega))
    rw [show m - i - 1 + 1 = m - i by omega] at st
    rw [sr_rk_s, show m - (i + 1) = m - i - 1 by omega]
    show sr_rk nx ac l m i + sr_S nx ac (m - i - 1) (sr_run nx l i) (l i) + sr_W nx ac (m - i - 1) (nx (sr_run nx l i) (l i)) ≤ sr_W nx ac m 256
    omega
theorem sr_run_W (nx : Nat → Nat → Nat) (ac : Nat → Bool) {l : Nat → Nat} : ∀ m k, (∀ j, j < m → l j < 4) → sr_W nx ac k (sr_run nx l m) ≤ sr_W nx ac (k + m) 256
  | 0, _, _ => Nat.le_refl _
  | m + 1, k, h => by
    have ih := sr_run_W nx ac m (k + 1) (fun j hj => h j (by omega))
    have st := sr_S_step nx ac k (sr_run nx l m) (h m (by omega))
    rw [show k + (m + 1) = k + 1 + m by omega]
    show sr_W nx ac k (nx (sr_run nx l m) (l m)) ≤ sr_W nx ac (k + 1 + m) 256
    omega
/-- the accepted words of fewer than n letters -/
def sr_T (nx : Nat → Nat → Nat) (ac : Nat → Bool) (n : Nat) : Nat := sr_sum (fun k => sr_W nx ac k 256) n
theorem sr_T_s (nx : Nat → Nat → Nat) (ac : Nat → Bool) (n : Nat) : sr_T nx ac (n + 1) = sr_T nx ac n + sr_W nx ac n 256 := rfl
theorem sr_T_mono (nx : Nat → Nat → Nat) (ac : Nat → Bool) {m n : Nat} (h : m ≤ n) : sr_T nx ac m ≤ sr_T nx ac n := sr_sum_mono h
theorem sr_T_bd (nx : Nat → Nat → Nat) (ac : Nat → Bool) {n : Nat} (h : n ≤ 7) : sr_T nx ac n ≤ 5461 := by
  have h1 : sr_T nx ac n ≤ sr_T nx ac 7 := sr_T_mono nx ac h
  have h2 : sr_T nx ac 7 ≤ sr_sum (fun k => 4 ^ k) 7 := sr_sum_le 7 (fun k _ => sr_W_le nx ac k 256)
  have h3 : sr_sum (fun k => 4 ^ k) 7 = 5461 := by decide
  omega
/-- the rank of a word, and what the law says of it -/
def sr_rank (nx : Nat → Nat → Nat) (ac : Nat → Bool) (l : Nat → Nat) (m : Nat) : Nat := sr_T nx ac m + sr_rk nx ac l m m
theorem sr_rank_le (nx : Nat → Nat → Nat) (ac : Nat → Bool) {l : Nat → Nat} {m : Nat} (hm : m ≤ 6) (hl : ∀ j, j < m → l j < 4) : sr_rank nx ac l m + sr_W nx ac 0 (sr_run nx l m) ≤ sr_T nx ac 7 := by
  have h1 := sr_rk_le nx ac hl m (Nat.le_refl m)
  rw [Nat.sub_self] at h1
  have h2 : sr_T nx ac (m + 1) ≤ sr_T nx ac 7 := sr_T_mono nx ac (by omega)
  rw [sr_T_s] at h2
  unfold sr_rank
  omega
/-- the accepted words of at most six letters that begin with l's first m -/
def sr_ext (nx : Nat → Nat → Nat) (ac : Nat → Bool) (l : Nat → Nat) (m n : Nat) : Nat := sr_sum (fun k => sr_W nx ac k (sr_run nx l m)) n
theorem sr_ext_le (nx : Nat → Nat → Nat) (ac : Nat → Bool) {l : Nat → Nat} {m : Nat} (hm : m ≤ 6) (hl : ∀ j, j < m → l j < 4) : sr_ext nx ac l m (7 - m) ≤ sr_T nx ac 7 := by
  have h1 : sr_ext nx ac l m (7 - m) ≤ sr_sum (fun k => sr_W nx ac (k + m) 256) (7 - m) := sr_sum_le (7 - m) (fun k _ => sr_run_W nx ac m k hl)
  have h2 := sr_sum_shift (fun k => sr_W nx ac k 256) m (7 - m)
  rw [show 7 - m + m = 7 by omega] at h2
  have h3 : sr_sum (fun k => sr_W nx ac k 256) 7 = sr_T nx ac 7 := rfl
  have h4 : sr_sum (fun k => (fun k => sr_W nx ac k 256) (k + m)) (7 - m) = sr_sum (fun k => sr_W nx ac (k + m) 256) (7 - m) := rfl
  omega
theorem sr_ext_ge (nx : Nat → Nat → Nat) (ac : Nat → Bool) {l : Nat → Nat} {m : Nat} (hm : m ≤ 6) : sr_W nx ac 0 (sr_run nx l m) ≤ sr_ext nx ac l m (7 - m) :=
  sr_sum_ge (f := fun k => sr_W nx ac k (sr_run nx l m)) (by omega)
end
section
/-! the automata: pure forms, and the walks of goOn, accepts, next, accepting, sumOver -/
theorem sr_ite {α : Sort _} {c : Prop} {d : Decidable c} {P : α → Prop} {x y : α} {A B : Prop} (h : P (@ite α c d x y)) (f : c → P x → A) (g : ¬ c → P y → B) : (c → A) ∧ (¬ c → B) := by
  constructor
  · intro e
    rw [if_pos e] at h
    exact f e h
  · intro e
    rw [if_neg e] at h
    exact g e h
theorem sr_iteP {α : Sort _} {c : Prop} {d : Decidable c} {P : α → Prop} {x y : α} (f : c → P x) (g : ¬ c → P y) : P (@ite α c d x y) := by
  by_cases e : c
  · rw [if_pos e]
    exact f e
  · rw [if_neg e]
    exact g e
def sr_go (k a b s l x : Int32) : Int32 :=
  if k < 0 then (if x = a then s ^^^ 1 else s) else
  if 8 < k then (if x = a then s ^^^ 1 else s) else
  if k = 0 then (if a ≤ 0 then (s + x) - (s + x) / 1 * 1 else (s + x) - (s + x) / a * a) else
  if k = 1 then (if x = a then (if b ≤ s then s else s + 1) else s) else
  if k = 2 then (if x = a then (if b < s then s else s + 1) else s) else
  if k = 3 then (if l = a then (if x = b then 1 else s) else s) else
  if k = 4 then (if l = a then (if x = b then 1 else s) else s) else
  if k = 5 then (if l = 4 then (if x < a then 2 else 1) else s) else
  if k = 6 then 0 else
  if k = 7 then (if a ≤ s then s else s + 1) else
  if k = 8 then (if x ≤ l then s else 1) else 0
def sr_ac (k a b s l : Int32) : Int32 :=
  if k < 0 then (if s = b then 1 else 0) else
  if 8 < k then (if s = b then 1 else 0) else
  if k = 0 then (if s = b then 1 else 0) else
  if k = 1 then (if s = b then 1 else 0) else
  if k = 2 then (if b < s then 0 else 1) else
  if k = 3 then (if s = 1 then 1 else 0) else
  if k = 4 then (if s = 0 then 1 else 0) else
  if k = 5 then (if s = 1 then 1 else 0) else
  if k = 6 then (if l = 4 then 0 else (if l < a then 0 else 1)) else
  if k = 7 then (if s = a then 1 else 0) else
  if k = 8 then (if s = 1 then 1 else 0) else 0
theorem sr_goOn {post : Int32 → Prop} {f0 f1 f2 f3 : Int32} {a1 a2 a3 a4 a5 a6 : Nat → Int32} {i : Nat} {s l x : Int32} (hi : i < 3) (hp : post (sr_go (a1 i) (a2 i) (a3 i) s l x)) :
    wpX_goOn post (f0, f1, f2, f3, a1, a2, a3, a4, a5, a6) (nI i) s l x := by
  have hv : vp_in (nI i) 3 := vp_in_nI hi (by decide)
  have hcl : (nI i).toNatClampNeg = i := nI_clamp (by omega)
  refine ⟨hv, fun x5 e5 => ⟨hv, fun x6 e6 => ⟨hv, fun k ek => ?_⟩⟩⟩
  rw [hcl] at e5 e6 ek
  subst e5 e6 ek
  unfold sr_go at hp
  refine sr_ite (P := post) hp (fun _ hp => sr_ite (P := post) hp (fun _ h => h) (fun _ h => h)) (fun _ hp => ?_)
  refine sr_ite (P := post) hp (fun _ hp => sr_ite (P := post) hp (fun _ h => h) (fun _ h => h)) (fun _ hp => ?_)
  refine sr_ite (P := post) hp (fun _ hp => sr_ite (P := post) hp (fun _ h => ⟨by decide, h⟩) (fun g h => ⟨fun e => g (by rw [e]; decide), h⟩)) (fun _ hp => ?_)
  refine sr_ite (P := post) hp (fun _ hp => sr_ite (P := post) hp (fun _ hp => sr_ite (P := post) hp (fun _ h => h) (fun _ h => h)) (fun _ h => h)) (fun _ hp => ?_)
  refine sr_ite (P := post) hp (fun _ hp => sr_ite (P := post) hp (fun _ hp => sr_ite (P := post) hp (fun _ h => h) (fun _ h => h)) (fun _ h => h)) (fun _ hp => ?_)
  refine sr_ite (P := post) hp (fun _ hp => sr_ite (P := post) hp (fun _ hp => sr_ite (P := post) hp (fun _ h => h) (fun _ h => h)) (fun _ h => h)) (fun _ hp => ?_)
  refine sr_ite (P := post) hp (fun _ hp => sr_ite (P := post) hp (fun _ hp => sr_ite (P := post) hp (fun _ h => h) (fun _ h => h)) (fun _ h => h)) (fun _ hp => ?_)
  refine sr_ite (P := post) hp (fun _ hp => sr_ite (P := post) hp (fun _ hp => sr_ite (P := post) hp (fun _ h => h) (fun _ h => h)) (fun _ h => h)) (fun _ hp => ?_)
  refine sr_ite (P := post) hp (fun _ h => h) (fun _ hp => ?_)
  refine sr_ite (P := post) hp (fun _ hp => sr_ite (P := post) hp (fun _ h => h) (fun _ h => h)) (fun _ hp => ?_)
  exact sr_ite (P := post) hp (fun _ hp => sr_ite (P := post) hp (fun _ h => h) (fun _ h => h)) (fun _ _ => trivial)
theorem sr_accepts {post : Int32 → Prop} {f0 f1 f2 f3 : Int32} {a1 a2 a3 a4 a5 a6 : Nat → Int32} {i : Nat} {s l : Int32} (hi : i < 3) (hp : post (sr_ac (a1 i) (a2 i) (a3 i) s l)) :
    wpX_accepts post (f0, f1, f2, f3, a1, a2, a3, a4, a5, a6) (nI i) s l := by
  have hv : vp_in (nI i) 3 := vp_in_nI hi (by decide)
  have hcl : (nI i).toNatClampNeg = i := nI_clamp (by omega)
  refine ⟨hv, fun x5 e5 => ⟨hv, fun x6 e6 => ⟨hv, fun k ek => ?_⟩⟩⟩
  rw [hcl] at e5 e6 ek
  subst e5 e6 ek
  unfold sr_ac at hp
  refine sr_ite (P := post) hp (fun _ hp => sr_ite (P := post) hp (fun _ h => h) (fun _ h => h)) (fun _ hp => ?_)
  refine sr_ite (P := post) hp (fun _ hp => sr_ite (P := post) hp (fun _ h => h) (fun _ h => h)) (fun _ hp => ?_)
  refine sr_ite (P := post) hp (fun _ hp => sr_ite (P := post) hp (fun _ h => h) (fun _ h => h)) (fun _ hp => ?_)
  refine sr_ite (P := post) hp (fun _ hp => sr_ite (P := post) hp (fun _ h => h) (fun _ h => h)) (fun _ hp => ?_)
  refine sr_ite (P := post) hp (fun _ hp => sr_ite (P := post) hp (fun _ h => h) (fun _ h => h)) (fun _ hp => ?_)
  refine sr_ite (P := post) hp (fun _ hp => sr_ite (P := post) hp (fun _ h => h) (fun _ h => h)) (fun _ hp => ?_)
  refine sr_ite (P := post) hp (fun _ hp => sr_ite (P := post) hp (fun _ h => h) (fun _ h => h)) (fun _ hp => ?_)
  refine sr_ite (P := post) hp (fun _ hp => sr_ite (P := post) hp (fun _ h => h) (fun _ h => h)) (fun _ hp => ?_)
  refine sr_ite (P := post) hp (fun _ hp => sr_ite (P := post) hp (fun _ h => h) (fun _ hp => sr_ite (P := post) hp (fun _ h => h) (fun _ h => h))) (fun _ hp => ?_)
  refine sr_ite (P := post) hp (fun _ hp => sr_ite (P := post) hp (fun _ h => h) (fun _ h => h)) (fun _ hp => ?_)
  exact sr_ite (P := post) hp (fun _ hp => sr_ite (P := post) hp (fun _ h => h) (fun _ h => h)) (fun _ _ => trivial)
/-- what a condition's numbers must be for its automaton to stay in two bits -/
def sr_good (k a b : Int32) : Prop := (k = 0 → ∃ n : Nat, 2 ≤ n ∧ n ≤ 4 ∧ a = nI n) ∧ (k = 1 → ∃ n : Nat, n ≤ 3 ∧ b = nI n) ∧ (k = 2 → ∃ n : Nat, n ≤ 2 ∧ b = nI n) ∧ (k = 7 → ∃ n : Nat, n ≤ 3 ∧ a = nI n)
def sr_B (r : Int32) : Prop := ∃ n : Nat, n < 4 ∧ r = nI n
theorem sr_x1 : ∀ s, s < 4 → nI s ^^^ 1 = nI (s ^^^ 1) ∧ s ^^^ 1 < 4 := by decide +kernel
theorem sr_go_B {k a b : Int32} (hg : sr_good k a b) {s l x : Nat} (hs : s < 4) (hx : x < 4) : sr_B (sr_go k a b (nI s) (nI l) (nI x)) := by
  obtain ⟨g0, g1, g2, g7⟩ := hg
  have S0 : sr_B (nI s) := ⟨s, hs, rfl⟩
  have X1 : sr_B (nI s ^^^ 1) := ⟨s ^^^ 1, (sr_x1 s hs).2, (sr_x1 s hs).1⟩
  have N1 : sr_B 1 := ⟨1, by decide, rfl⟩
  unfold sr_go
  refine sr_iteP (P := sr_B) (fun _ => sr_iteP (P := sr_B) (fun _ => X1) (fun _ => S0)) (fun _ => ?_)
  refine sr_iteP (P := sr_B) (fun _ => sr_iteP (P := sr_B) (fun _ => X1) (fun _ => S0)) (fun _ => ?_)
  refine sr_iteP (P := sr_B) (fun h => ?_) (fun _ => ?_)
  · obtain ⟨n, n2, n4, rfl⟩ := g0 h
    refine sr_iteP (P := sr_B) (fun e => absurd e (nI_nle (by omega) (by omega))) (fun _ => ?_)
    rw [nI_add, pk_rem (by omega) (by omega) (by omega)]
    have := Nat.mod_lt (s + x) (show n > 0 by omega)
    exact ⟨(s + x) % n, by omega, rfl⟩
  refine sr_iteP (P := sr_B) (fun h => sr_iteP (P := sr_B) (fun _ => sr_iteP (P := sr_B) (fun _ => S0) (fun e => ?_)) (fun _ => S0)) (fun _ => ?_)
  · obtain ⟨n, n3, rfl⟩ := g1 h
    rw [nI_leI (by omega) (by omega)] at e
    exact ⟨s + 1, by omega, nI_1 s⟩
  refine sr_iteP (P := sr_B) (fun h => sr_iteP (P := sr_B) (fun _ => sr_iteP (P := sr_B) (fun _ => S0) (fun e => ?_)) (fun _ => S0)) (fun _ => ?_)
  · obtain ⟨n, n3, rfl⟩ := g2 h
    rw [nI_ltI (by omega) (by omega)] at e
    exact ⟨s + 1, by omega, nI_1 s⟩
  refine sr_iteP (P := sr_B) (fun _ => sr_iteP (P := sr_B) (fun _ => sr_iteP (P := sr_B) (fun _ => N1) (fun _ => S0)) (fun _ => S0)) (fun _ => ?_)
  refine sr_iteP (P := sr_B) (fun _ => sr_iteP (P := sr_B) (fun _ => sr_iteP (P := sr_B) (fun _ => N1) (fun _ => S0)) (fun _ => S0)) (fun _ => ?_)
  refine sr_iteP (P := sr_B) (fun _ => sr_iteP (P := sr_B) (fun _ => sr_iteP (P := sr_B) (fun _ => ⟨2, by decide, rfl⟩) (fun _ => N1)) (fun _ => S0)) (fun _ => ?_)
  refine sr_iteP (P := sr_B) (fun _ => ⟨0, by decide, rfl⟩) (fun _ => ?_)
  refine sr_iteP (P := sr_B) (fun h => sr_iteP (P := sr_B) (fun _ => S0) (fun e => ?_)) (fun _ => ?_)
  · obtain ⟨n, n3, rfl⟩ := g7 h
    rw [nI_leI (by omega) (by omega)] at e
    exact ⟨s + 1, by omega, nI_1 s⟩
  exact sr_iteP (P := sr_B) (fun _ => sr_iteP (P := sr_B) (fun _ => S0) (fun _ => N1)) (fun _ => ⟨0, by decide, rfl⟩)
/-- the same over naturals; two bits always -/
def sr_g (k a b : Int32) (s l x : Nat) : Nat := (sr_go k a b (nI s) (nI l) (nI x)).toNatClampNeg % 4
theorem sr_g_lt (k a b : Int32) (s l x : Nat) : sr_g k a b s l x < 4 := Nat.mod_lt _ (by decide)
theorem sr_go_g {k a b : Int32} (hg : sr_good k a b) {s l x : Nat} (hs : s < 4) (hx : x < 4) : sr_go k a b (nI s) (nI l) (nI x) = nI (sr_g k a b s l x) := by
  obtain ⟨n, hn, e⟩ := sr_go_B (l := l) hg hs hx
  unfold sr_g
  rw [e, nI_clamp (by omega), Nat.mod_eq_of_lt hn]
def sr_a (k a b : Int32) (s l : Nat) : Bool := decide (¬ sr_ac k a b (nI s) (nI l) = 0)
/-- the product's step and its acceptance, c conditions -/
def sr_nx (K A B : Nat → Int32) : Nat → Nat → Nat → Nat
  | 0, _, x => 64 * x
  | c + 1, st, x => sr_nx K A B c st x + sr_g (K c) (A c) (B c) (st / 4 ^ c % 4) (st / 64) x * 4 ^ c
def sr_acc (K A B : Nat → Int32) : Nat → Nat → Bool
  | 0, _ => true
  | c + 1, st => sr_acc K A B c st && sr_a (K c) (A c) (B c) (st / 4 ^ c % 4) (st / 64)
theorem sr_nx_in (K A B : Nat → Int32) (st x : Nat) : ∀ c, ∃ lo, lo < 4 ^ c ∧ sr_nx K A B c st x = 64 * x + lo
  | 0 => ⟨0, by decide, rfl⟩
  | c + 1 => by
    obtain ⟨lo, h1, h2⟩ := sr_nx_in K A B st x c
    have h3 := sr_g_lt (K c) (A c) (B c) (st / 4 ^ c % 4) (st / 64) x
    have e : sr_nx K A B (c + 1) st x = sr_nx K A B c st x + sr_g (K c) (A c) (B c) (st / 4 ^ c % 4) (st / 64) x * 4 ^ c := rfl
    refine ⟨lo + sr_g (K c) (A c) (B c) (st / 4 ^ c % 4) (st / 64) x * 4 ^ c, ?_, by omega⟩
    have h4 : sr_g (K c) (A c) (B c) (st / 4 ^ c % 4) (st / 64) x * 4 ^ c ≤ 3 * 4 ^ c := Nat.mul_le_mul_right _ (by omega)
    rw [Nat.pow_succ]
    omega
theorem sr_pw3 {c : Nat} (h : c ≤ 3) : 4 ^ c ≤ 64 := Nat.pow_le_pow_right (show 0 < 4 by decide) h
theorem sr_nx_lt (K A B : Nat → Int32) (st : Nat) {c x : Nat} (hc : c ≤ 3) (hx : x < 4) : sr_nx K A B c st x < 256 := by
  obtain ⟨lo, h1, h2⟩ := sr_nx_in K A B st x c
  have := sr_pw3 hc
  omega
theorem sr_run_lt (K A B : Nat → Int32) {c : Nat} (hc : c ≤ 3) {l : Nat → Nat} : ∀ i, (∀ j, j < i → l j < 4) → sr_run (sr_nx K A B c) l i < 320
  | 0, _ => by
    show 256 < 320
    decide
  | i + 1, h => by
    have := sr_nx_lt K A B (sr_run (sr_nx K A B c) l i) hc (h i (by omega))
    show sr_nx K A B c (sr_run (sr_nx K A B c) l i) (l i) < 320
    omega
theorem sr_part : ∀ i, i < 3 → ∀ st, st < 320 → (nI st >>> ((2 * nI i) &&& 31)) &&& 3 = nI (st / 4 ^ i % 4) := by decide +kernel
theorem sr_sh6 : ∀ st, st < 320 → nI st >>> ((6 : Int32) &&& 31) = nI (st / 64) := by decide +kernel
theorem sr_sl6 : ∀ x, x < 4 → nI x <<< ((6 : Int32) &&& 31) = nI (64 * x) := by decide +kernel
theorem sr_or : ∀ i, i < 3 → ∀ x, x < 4 → ∀ lo, lo < 4 ^ i → ∀ s, s < 4 → nI (64 * x + lo) ||| (nI s <<< ((2 * nI i) &&& 31)) = nI (64 * x + lo + s * 4 ^ i) := by decide +kernel
def sr_C (c : Nat) (K A B : Nat → Int32) : Prop := c ≤ 3 ∧ ∀ i, i < c → sr_good (K i) (A i) (B i)
theorem sr_next {post : Int32 → Prop} {f1 f2 f3 : Int32} {a1 a2 a3 a4 a5 a6 : Nat → Int32} {c st x : Nat} {p q : Int32} (hC : sr_C c a1 a2 a3) (hs : st < 320) (hx : x < 4) (hp : post (nI (sr_nx a1 a2 a3 c st x))) (ep : p = nI st := by rfl) (eq : q = nI x := by rfl) :
    wpX_next post (nI c, f1, f2, f3, a1, a2, a3, a4, a5, a6) p q := by
  obtain ⟨hc, hg⟩ := hC
  subst ep eq
  refine nm_r (sr_sh6 st hs) (nm_r (sr_sl6 x hx) ?_)
  refine pk_loop (σ := Unit) (fun n i _ => wX_next_14 post (nI st) (nI x) (nI (st / 64)) (nI c) f1 f2 f3 a1 a2 a3 a4 a5 a6 n (nI (sr_nx a1 a2 a3 i st x)) (nI i)) (fun _ _ => True) c 0 () (Nat.zero_le _) trivial
    (fun n _ _ => pk_le c c (fun _ => hp) (fun z => absurd z (by omega)))
    (fun n i _ hi _ hw => pk_le c i (fun z => absurd z (by omega)) (fun _ => ?_))
  rw [sr_part i (by omega) st hs]
  refine sr_goOn (by omega) ?_
  rw [sr_go_g (hg i hi) (Nat.mod_lt _ (by decide)) hx]
  obtain ⟨lo, h1, h2⟩ := sr_nx_in a1 a2 a3 st x i
  refine nm_r ?_ (nm_r (nI_1 i) (hw () trivial))
  rw [h2, sr_or i (by omega) x hx lo h1 _ (sr_g_lt _ _ _ _ _ _), ← h2]
  rfl
theorem sr_acc_false {K A B : Nat → Int32} {st i : Nat} (hf : sr_acc K A B i st = false) : ∀ c, i ≤ c → sr_acc K A B c st = false
  | 0, h => by
    have e : i = 0 := by omega
    rw [e] at hf
    exact hf
  | c + 1, h => by
    by_cases e : i = c + 1
    · rw [← e]
      exact hf
    · show (sr_acc K A B c st && sr_a (K c) (A c) (B c) (st / 4 ^ c % 4) (st / 64)) = false
      rw [sr_acc_false hf c (by omega)]
      rfl
theorem sr_accepting {post : Int32 → Prop} {f1 f2 f3 : Int32} {a1 a2 a3 a4 a5 a6 : Nat → Int32} {c st : Nat} {p : Int32} (hc : c ≤ 3) (hs : st < 320) (hp : post (nI (if sr_acc a1 a2 a3 c st = true then 1 else 0))) (ep : p = nI st := by rfl) :
    wpX_accepting post (nI c, f1, f2, f3, a1, a2, a3, a4, a5, a6) p := by
  subst ep
  refine pk_loop (σ := Unit) (fun n i _ => wX_accepting_2 post (nI st) (nI c) f1 f2 f3 a1 a2 a3 a4 a5 a6 n (nI i)) (fun i _ => sr_acc a1 a2 a3 i st = true) c 0 () (Nat.zero_le _) rfl
    (fun n _ h => pk_le c c (fun _ => ?_) (fun z => absurd z (by omega)))
    (fun n i _ hi h hw => pk_le c i (fun z => absurd z (by omega)) (fun _ => ?_))
  · rw [if_pos h] at hp
    exact hp
  · rw [sr_part i (by omega) st hs, sr_sh6 st hs]
    refine sr_accepts (by omega) ?_
    have e : sr_acc a1 a2 a3 (i + 1) st = (sr_acc a1 a2 a3 i st && sr_a (a1 i) (a2 i) (a3 i) (st / 4 ^ i % 4) (st / 64)) := rfl
    rw [h, Bool.true_and] at e
    refine br_c (fun z => ?_) (fun z => ?_)
    · have e2 : sr_a (a1 i) (a2 i) (a3 i) (st / 4 ^ i % 4) (st / 64) = false := decide_eq_false (fun t => t z)
      rw [e2] at e
      rw [sr_acc_false e c (by omega), if_neg (by decide)] at hp
      exact hp
    · have e2 : sr_a (a1 i) (a2 i) (a3 i) (st / 4 ^ i % 4) (st / 64) = true := decide_eq_true z
      rw [e2] at e
      exact nm_r (nI_1 i) (hw () e)
/-- the counts of the claim's own automaton -/
abbrev sr_w (K A B : Nat → Int32) (c : Nat) : Nat → Nat → Nat := sr_W (sr_nx K A B c) (sr_acc K A B c)
theorem sr_ix (k s : Nat) : (nI k * 320) + nI s = nI (k * 320 + s) := by
  rw [show (320 : Int32) = nI 320 from rfl, pk_mul, nI_add]
theorem sr_sumOver {post : Int32 → Prop} {f1 f2 f3 : Int32} {a1 a2 a3 a4 a5 a6 : Nat → Int32} {c k st t : Nat} {p q r : Int32} (hC : sr_C c a1 a2 a3) (hk : k < 7) (hs : st < 320) (ht : t ≤ 4)
    (hw : ∀ s, s < 256 → a6 (k * 320 + s) = nI (sr_w a1 a2 a3 c k s)) (hp : post (nI (sr_S (sr_nx a1 a2 a3 c) (sr_acc a1 a2 a3 c) k st t))) (ep : p = nI k := by rfl) (eq : q = nI st := by rfl) (er : r = nI t := by rfl) :
    wpX_sumOver post (nI c, f1, f2, f3, a1, a2, a3, a4, a5, a6) p q r := by
  subst ep eq er
  refine pk_loop (σ := Unit) (fun n i _ => wX_sumOver_6 post (nI k) (nI st) (nI t) (nI c) f1 f2 f3 a1 a2 a3 a4 a5 a6 n (nI (sr_S (sr_nx a1 a2 a3 c) (sr_acc a1 a2 a3 c) k st i)) (nI i)) (fun _ _ => True) t 0 () (Nat.zero_le _) trivial
    (fun n _ _ => pk_le t t (fun _ => hp) (fun z => absurd z (by omega)))
    (fun n i _ hi _ hW => pk_le t i (fun z => absurd z (by omega)) (fun _ => sr_next (x := i) hC hs (by omega) ?_))
  have hb := sr_nx_lt a1 a2 a3 st (x := i) hC.1 (by omega)
  refine ⟨pk_in (k * 320 + sr_nx a1 a2 a3 c st i) 2240 (by omega) (sr_ix _ _), nm_r ?_ (nm_r (nI_1 i) (hW () trivial))⟩
  rw [sr_ix, nI_clamp (by omega), hw _ hb, nI_add]
  rfl
/-- one condition more: no more words -/
theorem sr_dig {c i s t : Nat} (hc : c ≤ 3) (hi : i < c) (h : s % 4 ^ c = t % 4 ^ c) : s / 4 ^ i % 4 = t / 4 ^ i % 4 := by
  have k1 : c = 1 ∨ c = 2 ∨ c = 3 := by omega
  rcases k1 with e | e | e
  · subst e
    have : i = 0 := by omega
    subst this
    simp only [Nat.reducePow] at h ⊢
    omega
  · subst e
    have : i = 0 ∨ i = 1 := by omega
    rcases this with e | e <;> subst e <;> simp only [Nat.reducePow] at h ⊢ <;> omega
  · subst e
    have : i = 0 ∨ i = 1 ∨ i = 2 := by omega
    rcases this with e | e | e <;> subst e <;> simp only [Nat.reducePow] at h ⊢ <;> omega
theorem sr_nx_eq {K A B K' A' B' : Nat → Int32} {s t x : Nat} (h64 : s / 64 = t / 64) : ∀ c, (∀ i, i < c → K i = K' i ∧ A i = A' i ∧ B i = B' i ∧ s / 4 ^ i % 4 = t / 4 ^ i % 4) → sr_nx K A B c s x = sr_nx K' A' B' c t x
  | 0, _ => rfl
  | c + 1, h => by
    obtain ⟨e1, e2, e3, e4⟩ := h c (by omega)
    show sr_nx K A B c s x + sr_g (K c) (A c) (B c) (s / 4 ^ c % 4) (s / 64) x * 4 ^ c = sr_nx K' A' B' c t x + sr_g (K' c) (A' c) (B' c) (t / 4 ^ c % 4) (t / 64) x * 4 ^ c
    rw [e1, e2, e3, e4, h64, sr_nx_eq h64 c (fun i hi => h i (by omega))]
theorem sr_acc_eq {K A B K' A' B' : Nat → Int32} {s t : Nat} (h64 : s / 64 = t / 64) : ∀ c, (∀ i, i < c → K i = K' i ∧ A i = A' i ∧ B i = B' i ∧ s / 4 ^ i % 4 = t / 4 ^ i % 4) → sr_acc K A B c s = sr_acc K' A' B' c t
  | 0, _ => rfl
  | c + 1, h => by
    obtain ⟨e1, e2, e3, e4⟩ := h c (by omega)
    show (sr_acc K A B c s && sr_a (K c) (A c) (B c) (s / 4 ^ c % 4) (s / 64)) = (sr_acc K' A' B' c t && sr_a (K' c) (A' c) (B' c) (t / 4 ^ c % 4) (t / 64))
    rw [e1, e2, e3, e4, h64, sr_acc_eq h64 c (fun i hi => h i (by omega))]
theorem sr_more {K A B K' A' B' : Nat → Int32} {c : Nat} (hc : c < 3) (he : ∀ i, i < c → K' i = K i ∧ A' i = A i ∧ B' i = B i) (k : Nat) : sr_w K' A' B' (c + 1) k 256 ≤ sr_w K A B c k 256 := by
  refine sr_W_mono (fun s t => s / 64 = t / 64 ∧ s % 4 ^ c = t % 4 ^ c) (fun s t x hx h => ?_) (fun s t h ha => ?_) k 256 256 ⟨rfl, rfl⟩
  · obtain ⟨h1, h2⟩ := h
    have e : sr_nx K' A' B' c s x = sr_nx K A B c t x := sr_nx_eq h1 c (fun i hi => ⟨(he i hi).1, (he i hi).2.1, (he i hi).2.2, sr_dig (by omega) hi h2⟩)
    have e2 : sr_nx K' A' B' (c + 1) s x = sr_nx K' A' B' c s x + sr_g (K' c) (A' c) (B' c) (s / 4 ^ c % 4) (s / 64) x * 4 ^ c := rfl
    obtain ⟨lo, l1, l2⟩ := sr_nx_in K A B t x c
    obtain ⟨lo', l1', l2'⟩ := sr_nx_in K' A' B' s x (c + 1)
    have p1 := sr_pw3 (c := c) (by omega)
    have p2 := sr_pw3 (c := c + 1) (by omega)
    constructor
    · omega
    · rw [e2, e, Nat.add_mul_mod_self_right]
  · obtain ⟨h1, h2⟩ := h
    have e : sr_acc K' A' B' c s = sr_acc K A B c t := sr_acc_eq h1 c (fun i hi => ⟨(he i hi).1, (he i hi).2.1, (he i hi).2.2, sr_dig (by omega) hi h2⟩)
    have e2 : (sr_acc K' A' B' c s && sr_a (K' c) (A' c) (B' c) (s / 4 ^ c % 4) (s / 64)) = true := ha
    rw [Bool.and_eq_true] at e2
    rw [← e]
    exact e2.1
theorem sr_moreT {K A B K' A' B' : Nat → Int32} {c : Nat} (hc : c < 3) (he : ∀ i, i < c → K' i = K i ∧ A' i = A i ∧ B' i = B i) (n : Nat) : sr_T (sr_nx K' A' B' (c + 1)) (sr_acc K' A' B' (c + 1)) n ≤ sr_T (sr_nx K A B c) (sr_acc K A B c) n :=
  sr_sum_le n (fun k _ => sr_more hc he k)
end
section
/-! prepare: the table of ways is the count; total, failing, failingOf -/
def sr_R (c : Nat) (K A B a6 : Nat → Int32) : Prop := ∀ k, k < 7 → ∀ s, s < 320 → a6 (k * 320 + s) = nI (sr_w K A B c k s)
abbrev sr_t (K A B : Nat → Int32) (c : Nat) : Nat → Nat := sr_T (sr_nx K A B c) (sr_acc K A B c)
theorem sr_p59 {post : St1 → Prop} {J : Int32 → (Nat → Int32) → (Nat → Int32) → (Nat → Int32) → (Nat → Int32) → (Nat → Int32) → (Nat → Int32) → Prop} {f1 f2 f3 : Int32} {a1 a2 a3 a4 a5 a6 : Nat → Int32} {c k : Nat} (hC : sr_C c a1 a2 a3) (hk : k + 1 < 7)
    (hb : ∀ k', k' < k + 1 → ∀ s, s < 320 → a6 (k' * 320 + s) = nI (sr_w a1 a2 a3 c k' s))
    (H : ∀ a6' : Nat → Int32, (∀ k', k' < k + 2 → ∀ s, s < 320 → a6' (k' * 320 + s) = nI (sr_w a1 a2 a3 c k' s)) → J (nI (k + 2)) a1 a2 a3 a4 a5 a6') :
    ∃ n, wX_prepare_59 post J (nI (k + 1)) (nI c) f1 f2 f3 n 0 a1 a2 a3 a4 a5 a6 := by
  refine pk_loop (fun n i a => wX_prepare_59 post J (nI (k + 1)) (nI c) f1 f2 f3 n (nI i) a1 a2 a3 a4 a5 a)
    (fun i a => (∀ k', k' < k + 1 → ∀ s, s < 320 → a (k' * 320 + s) = nI (sr_w a1 a2 a3 c k' s)) ∧ ∀ s, s < i → a ((k + 1) * 320 + s) = nI (sr_w a1 a2 a3 c (k + 1) s)) 320 0 a6 (by omega) ⟨hb, fun s hs => absurd hs (by omega)⟩ ?_ ?_
  · intro n a h
    refine pk_le 320 320 (fun _ => nm_r (nI_1 (k + 1)) (H a (fun k' hk' s hs => ?_))) (fun z => absurd z (by omega))
    by_cases e : k' = k + 1
    · rw [e]
      exact h.2 s hs
    · exact h.1 k' (by omega) s hs
  · intro n i a hi h hw
    refine pk_le 320 i (fun z => absurd z (by omega)) (fun _ => sr_sumOver (k := k) (st := i) (t := 4) hC (by omega) hi (by omega) (fun s hs => h.1 k (by omega) s (by omega)) ?_ (nI_pred k) rfl rfl)
    refine ⟨pk_in ((k + 1) * 320 + i) 2240 (by omega) (sr_ix (k + 1) i), nm_r (e' := upd a ((k + 1) * 320 + i) (nI (sr_w a1 a2 a3 c (k + 1) i))) ?_ (nm_r (nI_1 i) (hw _ ⟨fun k' hk' s hs => ?_, fun s hs => ?_⟩))⟩
    · rw [sr_ix, nI_clamp (by omega), sr_S4]
    · rw [pk_un (by omega)]
      exact h.1 k' hk' s hs
    · by_cases e : s = i
      · rw [e, pk_us]
      · rw [pk_un (by omega)]
        exact h.2 s (by omega)
theorem sr_p51 {post : St1 → Prop} {f1 f2 f3 : Int32} {a1 a2 a3 a4 a5 a6 : Nat → Int32} {c : Nat} (hC : sr_C c a1 a2 a3)
    (hb : ∀ k', k' < 1 → ∀ s, s < 320 → a6 (k' * 320 + s) = nI (sr_w a1 a2 a3 c k' s))
    (H : ∀ a6' : Nat → Int32, sr_R c a1 a2 a3 a6' → post (nI c, f1, f2, f3, a1, a2, a3, a4, a5, a6')) :
    ∃ n, wX_prepare_51 post (nI c) f1 f2 f3 n 1 a1 a2 a3 a4 a5 a6 := by
  refine pk_loop (fun n i a => wX_prepare_51 post (nI c) f1 f2 f3 n (nI i) a1 a2 a3 a4 a5 a)
    (fun i a => 1 ≤ i ∧ ∀ k', k' < i → ∀ s, s < 320 → a (k' * 320 + s) = nI (sr_w a1 a2 a3 c k' s)) 7 1 a6 (by omega) ⟨by omega, hb⟩ ?_ ?_
  · intro n a h
    exact pk_lt 6 7 (fun _ => H a h.2) (fun z => absurd z (by omega))
  · intro n i a hi h hw
    obtain ⟨h1, h2⟩ := h
    cases i with
    | zero => exact absurd h1 (by omega)
    | succ k => exact pk_lt 6 (k + 1) (fun z => absurd z (by omega)) (fun _ => sr_p59 hC hi h2 (fun a' h' => hw a' ⟨by omega, h'⟩))
theorem sr_p15 {post : St1 → Prop} {f1 f2 f3 : Int32} {a1 a2 a3 a4 a5 a6 : Nat → Int32} {c : Nat} (hC : sr_C c a1 a2 a3)
    (H : ∀ a6' : Nat → Int32, sr_R c a1 a2 a3 a6' → post (nI c, f1, f2, f3, a1, a2, a3, a4, a5, a6')) :
    ∃ n, wX_prepare_15 post (nI c) f1 f2 f3 n 0 a1 a2 a3 a4 a5 a6 := by
  refine pk_loop (fun n i a => wX_prepare_15 post (nI c) f1 f2 f3 n (nI i) a1 a2 a3 a4 a5 a)
    (fun i a => ∀ s, s < i → a s = nI (sr_w a1 a2 a3 c 0 s)) 320 0 a6 (by omega) (fun s hs => absurd hs (by omega)) ?_ ?_
  · intro n a h
    refine pk_le 320 320 (fun _ => sr_p51 hC (fun k' hk' s hs => ?_) H) (fun z => absurd z (by omega))
    have e : k' = 0 := by omega
    rw [e, Nat.zero_mul, Nat.zero_add]
    exact h s hs
  · intro n i a hi h hw
    have key : ∀ v : Nat, v = sr_w a1 a2 a3 c 0 i → ∀ s, s < i + 1 → upd a i (nI v) s = nI (sr_w a1 a2 a3 c 0 s) := by
      intro v hv s hs
      by_cases e : s = i
      · rw [e, pk_us, hv]
      · rw [pk_un e]
        exact h s (by omega)
    refine pk_le 320 i (fun z => absurd z (by omega)) (fun _ => sr_accepting hC.1 hi ?_)
    by_cases e : sr_acc a1 a2 a3 c i = true
    · rw [if_pos e]
      refine br_f (nI_ne0 (by omega) (by omega)) ⟨pk_in i 2240 (by omega), nm_r (e' := upd a i (nI 1)) ?_ (nm_r (nI_1 i) (hw _ (key 1 (if_pos e).symm)))⟩
      rw [nI_clamp (by omega)]
      rfl
    · rw [if_neg e]
      refine br_t nI_0 ⟨pk_in i 2240 (by omega), nm_r (e' := upd a i (nI 0)) ?_ (nm_r (nI_1 i) (hw _ (key 0 (if_neg e).symm)))⟩
      rw [nI_clamp (by omega)]
      rfl
theorem sr_prep {post : St1 → Prop} {f1 f2 f3 : Int32} {a1 a2 a3 a4 a5 a6 : Nat → Int32} {c : Nat} (hC : sr_C c a1 a2 a3) (hr : ¬ f3 = 0 → sr_R c a1 a2 a3 a6)
    (H : ∀ (f3' : Int32) (a6' : Nat → Int32), ¬ f3' = 0 → sr_R c a1 a2 a3 a6' → post (nI c, f1, f2, f3', a1, a2, a3, a4, a5, a6')) :
    wpX_prepare post (nI c, f1, f2, f3, a1, a2, a3, a4, a5, a6) :=
  br_c (fun _ => sr_p15 hC (fun a' h' => H 1 a' (by decide) h')) (fun h => H f3 a6 h (hr h))
theorem sr_prepR {post : St1 → Prop} {f0 f1 f2 f3 : Int32} {a1 a2 a3 a4 a5 a6 : Nat → Int32} (h3 : ¬ f3 = 0) (hp : post (f0, f1, f2, f3, a1, a2, a3, a4, a5, a6)) :
    wpX_prepare post (f0, f1, f2, f3, a1, a2, a3, a4, a5, a6) := br_f h3 hp
theorem sr_at256 {c : Nat} {a1 a2 a3 a6 : Nat → Int32} (hR : sr_R c a1 a2 a3 a6) {k : Nat} (hk : k < 7) : vp_in (nI k * 320 + 256) 2240 ∧ a6 (nI k * 320 + 256).toNatClampNeg = nI (sr_w a1 a2 a3 c k 256) := by
  have e : nI k * 320 + 256 = nI (k * 320 + 256) := sr_ix k 256
  rw [e, nI_clamp (by omega)]
  exact ⟨pk_in (k * 320 + 256) 2240 (by omega), hR k hk 256 (by omega)⟩
theorem sr_t8 {post : Int32 → St1 → Prop} {f1 f2 f3 : Int32} {a1 a2 a3 a4 a5 a6 : Nat → Int32} {c : Nat} (hR : sr_R c a1 a2 a3 a6) (hp : post (nI (sr_t a1 a2 a3 c 7)) (nI c, f1, f2, f3, a1, a2, a3, a4, a5, a6)) :
    ∃ n, wX_total_8 post (nI c) f1 f2 f3 a1 a2 a3 a4 a5 a6 n 0 0 :=
  pk_loop (σ := Unit) (fun n i _ => wX_total_8 post (nI c) f1 f2 f3 a1 a2 a3 a4 a5 a6 n (nI (sr_t a1 a2 a3 c i)) (nI i)) (fun _ _ => True) 7 0 () (by omega) trivial
    (fun n _ _ => pk_lt 6 7 (fun _ => hp) (fun z => absurd z (by omega)))
    (fun n i _ hi _ hw => pk_lt 6 i (fun z => absurd z (by omega)) (fun _ => ⟨(sr_at256 hR hi).1, nm_r (by rw [(sr_at256 hR hi).2, nI_add]; rfl) (nm_r (nI_1 i) (hw () trivial))⟩))
theorem sr_total {post : Int32 → St1 → Prop} {f1 f2 f3 : Int32} {a1 a2 a3 a4 a5 a6 : Nat → Int32} {c : Nat} (hC : sr_C c a1 a2 a3) (hr : ¬ f3 = 0 → sr_R c a1 a2 a3 a6)
    (H : ∀ (f3' : Int32) (a6' : Nat → Int32), ¬ f3' = 0 → sr_R c a1 a2 a3 a6' → post (nI (sr_t a1 a2 a3 c 7)) (nI c, f1, f2, f3', a1, a2, a3, a4, a5, a6')) :
    wpX_total post (nI c, f1, f2, f3, a1, a2, a3, a4, a5, a6) := by
  unfold wpX_total
  exact sr_prep hC hr (fun f3' a6' h1 h2 => sr_t8 h2 (H f3' a6' h1 h2))
theorem sr_totalR {post : Int32 → St1 → Prop} {f1 f2 f3 : Int32} {a1 a2 a3 a4 a5 a6 : Nat → Int32} {c : Nat} (h3 : ¬ f3 = 0) (hR : sr_R c a1 a2 a3 a6) (hp : post (nI (sr_t a1 a2 a3 c 7)) (nI c, f1, f2, f3, a1, a2, a3, a4, a5, a6)) :
    wpX_total post (nI c, f1, f2, f3, a1, a2, a3, a4, a5, a6) := by
  unfold wpX_total
  exact sr_prepR h3 (sr_t8 hR hp)
theorem sr_failing {post : Int32 → St1 → Prop} {f1 f2 f3 : Int32} {a1 a2 a3 a4 a5 a6 : Nat → Int32} {c : Nat} (hC : sr_C c a1 a2 a3) (hr : ¬ f3 = 0 → sr_R c a1 a2 a3 a6)
    (H : ∀ (f3' : Int32) (a6' : Nat → Int32), ¬ f3' = 0 → sr_R c a1 a2 a3 a6' → post (nI (sr_t a1 a2 a3 c 7)) (nI c, f1, f2, f3', a1, a2, a3, a4, a5, a6')) :
    wpX_failing post (nI c, f1, f2, f3, a1, a2, a3, a4, a5, a6) := by
  unfold wpX_failing
  exact sr_total hC hr H
theorem sr_failOf {post : Int32 → St1 → Prop} {f1 f2 f3 : Int32} {a1 a2 a3 a4 a5 a6 : Nat → Int32} {c k : Nat} {p : Int32} (h3 : ¬ f3 = 0) (hR : sr_R c a1 a2 a3 a6) (hk : k < 7) (hp : post (nI (sr_w a1 a2 a3 c k 256)) (nI c, f1, f2, f3, a1, a2, a3, a4, a5, a6)) (ep : p = nI k := by rfl) :
    wpX_failingOf post (nI c, f1, f2, f3, a1, a2, a3, a4, a5, a6) p := by
  subst ep
  refine br_f (nI_pos (by omega)) (br_t (nI_le (b := 6) (by omega) (by decide)) (sr_prepR h3 ⟨(sr_at256 hR hk).1, ?_⟩))
  rw [(sr_at256 hR hk).2]
  exact hp
end
section
/-! find: the word of a number; load, leastLength, least -/
theorem sr_idx {m i : Nat} (h : i < m) : nI m - nI i - 1 = nI (m - i - 1) := by
  rw [pk_sub (by omega)]
  exact pk_sub (b := 1) (by omega)
theorem sr_f131 {post : Int32 → St1 → Prop} {J : Int32 → Int32 → Int32 → (Nat → Int32) → (Nat → Int32) → (Nat → Int32) → (Nat → Int32) → (Nat → Int32) → (Nat → Int32) → Prop} {f1 f2 f3 : Int32} {a1 a2 a3 a4 a5 a6 : Nat → Int32} {c lf len st i x : Nat}
    (hC : sr_C c a1 a2 a3) (hR : sr_R c a1 a2 a3 a6) (hst : st < 320) (hi : i < len) (hlen : len ≤ 6) (hx : x < 4) (hle : sr_S (sr_nx a1 a2 a3 c) (sr_acc a1 a2 a3 c) (len - i - 1) st x ≤ lf)
    (H : J (nI (lf - sr_S (sr_nx a1 a2 a3 c) (sr_acc a1 a2 a3 c) (len - i - 1) st x)) (nI (sr_nx a1 a2 a3 c st x)) (nI (i + 1)) a1 a2 a3 a4 (upd a5 i (nI x)) a6) :
    wX_find_131 post J (nI lf) (nI len) (nI st) (nI i) (nI x) (nI c) f1 f2 f3 a1 a2 a3 a4 a5 a6 := by
  unfold wX_find_131
  refine sr_sumOver (k := len - i - 1) (st := st) (t := x) hC (by omega) hst (by omega) (fun s hs => hR _ (by omega) s (by omega)) ?_ (sr_idx hi) rfl rfl
  refine nm_r (pk_sub hle) ⟨pk_in i 6 (by omega), nm_r (e' := upd a5 i (nI x)) (by rw [nI_clamp (by omega)]) (sr_next hC hst hx (nm_r (nI_1 i) H))⟩
theorem sr_f98 {post : Int32 → St1 → Prop} {J : Int32 → Int32 → Int32 → (Nat → Int32) → (Nat → Int32) → (Nat → Int32) → (Nat → Int32) → (Nat → Int32) → (Nat → Int32) → Prop} {f1 f2 f3 : Int32} {a1 a2 a3 a4 a5 a6 : Nat → Int32} {c lf len st i : Nat}
    (hC : sr_C c a1 a2 a3) (hR : sr_R c a1 a2 a3 a6) (hst : st < 320) (hi : i < len) (hlen : len ≤ 6) (hlf : lf < sr_S (sr_nx a1 a2 a3 c) (sr_acc a1 a2 a3 c) (len - i - 1) st 4)
    (H : ∀ x, x < 4 → sr_S (sr_nx a1 a2 a3 c) (sr_acc a1 a2 a3 c) (len - i - 1) st x ≤ lf → lf < sr_S (sr_nx a1 a2 a3 c) (sr_acc a1 a2 a3 c) (len - i - 1) st (x + 1) → J (nI (lf - sr_S (sr_nx a1 a2 a3 c) (sr_acc a1 a2 a3 c) (len - i - 1) st x)) (nI (sr_nx a1 a2 a3 c st x)) (nI (i + 1)) a1 a2 a3 a4 (upd a5 i (nI x)) a6) :
    ∃ n, wX_find_98 post J (nI lf) (nI len) (nI st) (nI i) (nI c) f1 f2 f3 a1 a2 a3 a4 a5 a6 n 0 := by
  have hbd : ∀ x, x ≤ 4 → sr_S (sr_nx a1 a2 a3 c) (sr_acc a1 a2 a3 c) (len - i - 1) st x ≤ 4096 := fun x hx => sr_S_le _ _ (by omega) st hx
  have hb4 := hbd 4 (by omega)
  refine pk_loop (σ := Unit) (fun n x _ => wX_find_98 post J (nI lf) (nI len) (nI st) (nI i) (nI c) f1 f2 f3 a1 a2 a3 a4 a5 a6 n (nI x)) (fun x _ => sr_S (sr_nx a1 a2 a3 c) (sr_acc a1 a2 a3 c) (len - i - 1) st x ≤ lf) 3 0 () (by omega) (Nat.zero_le _)
    (fun n _ h => pk_le 3 3 (fun _ => sr_f131 hC hR hst hi hlen (by omega) h (H 3 (by omega) h hlf)) (fun z => absurd z (by omega)))
    (fun n x _ hx h hw => pk_le 3 x (fun z => absurd z (by omega)) (fun _ => ?_))
  have hbx := hbd (x + 1) (by omega)
  refine sr_sumOver (k := len - i - 1) (st := st) (t := x + 1) hC (by omega) hst (by omega) (fun s hs => hR _ (by omega) s (by omega)) ?_ (sr_idx hi) rfl (nI_1 x)
  exact pk_lt lf (sr_S (sr_nx a1 a2 a3 c) (sr_acc a1 a2 a3 c) (len - i - 1) st (x + 1)) (fun z => sr_f131 hC hR hst hi hlen (by omega) h (H x (by omega) h z)) (fun z => nm_r (nI_1 x) (hw () z)) rfl rfl (by omega) (by omega)
theorem sr_f85 {post : Int32 → St1 → Prop} {f1 f2 f3 : Int32} {a1 a2 a3 a4 a5 a6 : Nat → Int32} {c len q : Nat}
    (hC : sr_C c a1 a2 a3) (hR : sr_R c a1 a2 a3 a6) (hlen : len ≤ 6) (hq : q < sr_w a1 a2 a3 c len 256)
    (H : ∀ (l : Nat → Nat) (a5' : Nat → Int32), (∀ j, j < len → l j < 4 ∧ a5' j = nI (l j)) → sr_rk (sr_nx a1 a2 a3 c) (sr_acc a1 a2 a3 c) l len len = q → sr_acc a1 a2 a3 c (sr_run (sr_nx a1 a2 a3 c) l len) = true → post 1 (nI c, f1, f2, f3, a1, a2, a3, a4, a5', a6)) :
    ∃ n, wX_find_85 post (nI len) (nI c) f1 f2 f3 n (nI q) 256 0 a1 a2 a3 a4 a5 a6 := by
  refine pk_loop (σ := Nat × (Nat → Nat) × (Nat → Int32)) (fun n i s => wX_find_85 post (nI len) (nI c) f1 f2 f3 n (nI s.1) (nI (sr_run (sr_nx a1 a2 a3 c) s.2.1 i)) (nI i) a1 a2 a3 a4 s.2.2 a6)
    (fun i s => (∀ j, j < i → s.2.1 j < 4 ∧ s.2.2 j = nI (s.2.1 j)) ∧ s.1 + sr_rk (sr_nx a1 a2 a3 c) (sr_acc a1 a2 a3 c) s.2.1 len i = q ∧ s.1 < sr_w a1 a2 a3 c (len - i) (sr_run (sr_nx a1 a2 a3 c) s.2.1 i)) len 0 (q, (fun _ => 0), a5) (Nat.zero_le _) ⟨fun j hj => absurd hj (by omega), rfl, hq⟩ ?_ ?_
  · intro n s h
    obtain ⟨lf, l, a⟩ := s
    obtain ⟨h1, h2, h3⟩ := h
    dsimp only at h1 h2 h3
    rw [Nat.sub_self] at h3
    have h4 : lf < if sr_acc a1 a2 a3 c (sr_run (sr_nx a1 a2 a3 c) l len) = true then 1 else 0 := h3
    by_cases e : sr_acc a1 a2 a3 c (sr_run (sr_nx a1 a2 a3 c) l len) = true
    · rw [if_pos e] at h4
      exact pk_le len len (fun _ => H l a h1 (by omega) e) (fun z => absurd z (by omega))
    · rw [if_neg e] at h4
      exact absurd h4 (by omega)
  · intro n i s hi h hw
    obtain ⟨lf, l, a⟩ := s
    obtain ⟨h1, h2, h3⟩ := h
    dsimp only at h1 h2 h3
    show wX_find_85 post (nI len) (nI c) f1 f2 f3 (n + 1) (nI lf) (nI (sr_run (sr_nx a1 a2 a3 c) l i)) (nI i) a1 a2 a3 a4 a a6
    have hrun := sr_run_lt a1 a2 a3 hC.1 i (fun j hj => (h1 j hj).1)
    refine pk_le len i (fun z => absurd z (by omega)) (fun _ => sr_f98 hC hR hrun hi hlen ?_ (fun x hx hle hlt => ?_))
    · rw [sr_S4, show len - i - 1 + 1 = len - i by omega]
      exact h3
    · have hl : ∀ j, j < i → (fun j => if j = i then x else l j) j = l j := by
        intro j hj
        show (if j = i then x else l j) = l j
        rw [if_neg (by omega)]
      have hli : (fun j => if j = i then x else l j) i = x := by
        show (if i = i then x else l i) = x
        rw [if_pos rfl]
      have er : sr_run (sr_nx a1 a2 a3 c) (fun j => if j = i then x else l j) i = sr_run (sr_nx a1 a2 a3 c) l i := sr_run_eq i hl
      have er1 : sr_run (sr_nx a1 a2 a3 c) (fun j => if j = i then x else l j) (i + 1) = sr_nx a1 a2 a3 c (sr_run (sr_nx a1 a2 a3 c) l i) x := by
        show sr_nx a1 a2 a3 c (sr_run (sr_nx a1 a2 a3 c) (fun j => if j = i then x else l j) i) ((fun j => if j = i then x else l j) i) = _
        rw [er, hli]
      have ek : sr_rk (sr_nx a1 a2 a3 c) (sr_acc a1 a2 a3 c) (fun j => if j = i then x else l j) len (i + 1) = sr_rk (sr_nx a1 a2 a3 c) (sr_acc a1 a2 a3 c) l len i + sr_S (sr_nx a1 a2 a3 c) (sr_acc a1 a2 a3 c) (len - i - 1) (sr_run (sr_nx a1 a2 a3 c) l i) x := by
        rw [sr_rk_s, er, if_pos rfl, sr_rk_eq hl]
      have t := hw (lf - sr_S (sr_nx a1 a2 a3 c) (sr_acc a1 a2 a3 c) (len - i - 1) (sr_run (sr_nx a1 a2 a3 c) l i) x, (fun j => if j = i then x else l j), upd a i (nI x)) ⟨fun j hj => ?_, ?_, ?_⟩
      · have t' : wX_find_85 post (nI len) (nI c) f1 f2 f3 n (nI (lf - sr_S (sr_nx a1 a2 a3 c) (sr_acc a1 a2 a3 c) (len - i - 1) (sr_run (sr_nx a1 a2 a3 c) l i) x)) (nI (sr_run (sr_nx a1 a2 a3 c) (fun j => if j = i then x else l j) (i + 1))) (nI (i + 1)) a1 a2 a3 a4 (upd a i (nI x)) a6 := t
        rw [er1] at t'
        exact t'
      · dsimp only
        by_cases e : j = i
        · rw [if_pos e, e, pk_us]
          exact ⟨hx, rfl⟩
        · rw [if_neg e, pk_un e]
          exact h1 j (by omega)
      · dsimp only
        rw [ek]
        omega
      · dsimp only
        rw [er1, show len - (i + 1) = len - i - 1 by omega]
        rw [sr_Ss] at hlt
        show lf - _ < sr_W _ _ _ _
        omega
/-- the found word: number n, length len -/
def sr_F (K A B : Nat → Int32) (c n len : Nat) (l : Nat → Nat) (a5 : Nat → Int32) : Prop := len ≤ 6 ∧ (∀ j, j < len → l j < 4 ∧ a5 j = nI (l j)) ∧ sr_rank (sr_nx K A B c) (sr_acc K A B c) l len = n ∧ sr_acc K A B c (sr_run (sr_nx K A B c) l len) = true ∧ sr_t K A B c len ≤ n ∧ 0 < sr_w K A B c len 256
theorem sr_f21 {post : Int32 → St1 → Prop} {f1 f2 f3 : Int32} {a1 a2 a3 a4 a5 a6 : Nat → Int32} {c n : Nat}
    (hC : sr_C c a1 a2 a3) (hR : sr_R c a1 a2 a3 a6) (hn : n < sr_t a1 a2 a3 c 7)
    (H : ∀ (len : Nat) (l : Nat → Nat) (a5' : Nat → Int32), sr_F a1 a2 a3 c n len l a5' → post 1 (nI c, f1, nI len, f3, a1, a2, a3, a4, a5', a6)) :
    ∃ fu, wX_find_21 post (nI c) f1 f2 f3 a1 a2 a3 a4 a5 a6 fu (nI n) 0 := by
  have hT : sr_t a1 a2 a3 c 7 ≤ 5461 := sr_T_bd _ _ (by omega)
  have key : ∀ len lf, len ≤ 6 → lf + sr_t a1 a2 a3 c len = n → lf < sr_w a1 a2 a3 c len 256 → ∃ fu, wX_find_85 post (nI len) (nI c) f1 (nI len) f3 fu (nI lf) 256 0 a1 a2 a3 a4 a5 a6 := by
    intro len lf h1 h2 h3
    exact sr_f85 hC hR h1 h3 (fun l a5' p1 p2 p3 => H len l a5' ⟨h1, p1, by show sr_t a1 a2 a3 c len + sr_rk _ _ l len len = n; omega, p3, by omega, by omega⟩)
  refine pk_loop (σ := Nat) (fun fu len lf => wX_find_21 post (nI c) f1 f2 f3 a1 a2 a3 a4 a5 a6 fu (nI lf) (nI len)) (fun len lf => lf + sr_t a1 a2 a3 c len = n) 6 0 n (by omega) rfl ?_ ?_
  · intro fu lf h
    refine pk_le 6 6 (fun _ => key 6 lf (by omega) h ?_) (fun z => absurd z (by omega))
    have e : sr_t a1 a2 a3 c 7 = sr_t a1 a2 a3 c 6 + sr_w a1 a2 a3 c 6 256 := rfl
    omega
  · intro fu len lf hlen h hw
    have hb : sr_w a1 a2 a3 c len 256 ≤ 4096 := sr_W_bd _ _ (by omega) 256
    obtain ⟨v1, v2⟩ := sr_at256 hR (show len < 7 by omega)
    refine pk_le 6 len (fun z => absurd z (by omega)) (fun _ => ⟨v1, ?_⟩)
    rw [v2]
    refine pk_lt lf (sr_w a1 a2 a3 c len 256) (fun z => key len lf (by omega) h z) (fun z => ⟨v1, nm_r (pk_sub z) (nm_r (nI_1 len) (hw _ ?_))⟩) rfl rfl (by omega) (by omega)
    have e : sr_t a1 a2 a3 c (len + 1) = sr_t a1 a2 a3 c len + sr_w a1 a2 a3 c len 256 := rfl
    omega
theorem sr_nlt {x y : Int32} (h : y ≤ x) : ¬ x < y := by
  rw [Int32.le_iff_toInt_le] at h
  rw [Int32.lt_iff_toInt_lt]
  omega
theorem sr_nlt0 {x : Int32} {n : Nat} (hn : n < 2 ^ 31) (h : nI n ≤ x) : ¬ x < 0 := by
  rw [Int32.le_iff_toInt_le, nI_toInt hn] at h
  rw [Int32.lt_iff_toInt_lt, Int32.toInt_zero]
  omega
theorem sr_find {post : Int32 → St1 → Prop} {f1 f2 f3 : Int32} {a1 a2 a3 a4 a5 a6 : Nat → Int32} {c : Nat} {p : Int32}
    (hC : sr_C c a1 a2 a3) (h3 : ¬ f3 = 0) (hR : sr_R c a1 a2 a3 a6)
    (H0 : (p < 0 ∨ nI (sr_t a1 a2 a3 c 7) ≤ p) → post 0 (nI c, f1, f2, f3, a1, a2, a3, a4, a5, a6))
    (H1 : ∀ n, n < sr_t a1 a2 a3 c 7 → p = nI n → ∀ (len : Nat) (l : Nat → Nat) (a5' : Nat → Int32), sr_F a1 a2 a3 c n len l a5' → post 1 (nI c, f1, nI len, f3, a1, a2, a3, a4, a5', a6)) :
    wpX_find post (nI c, f1, f2, f3, a1, a2, a3, a4, a5, a6) p := by
  have hT : sr_t a1 a2 a3 c 7 ≤ 5461 := sr_T_bd _ _ (by omega)
  unfold wpX_find
  refine sr_totalR h3 hR ?_
  rcases pk_ix p (n := sr_t a1 a2 a3 c 7) (by omega) with h | h | ⟨j, hj, e⟩
  · exact br_t h (H0 (Or.inl h))
  · exact br_f (sr_nlt0 (by omega) h) (br_f (sr_nlt h) (H0 (Or.inr h)))
  · subst e
    exact br_f (nI_pos (by omega)) (br_t (nI_lt hj (by omega)) (sr_f21 hC hR hj (H1 j hj rfl)))
theorem sr_load {post : Int32 → St1 → Prop} {f1 f2 f3 : Int32} {a1 a2 a3 a4 a5 a6 : Nat → Int32} {c : Nat} {p : Int32}
    (hC : sr_C c a1 a2 a3) (h3 : ¬ f3 = 0) (hR : sr_R c a1 a2 a3 a6)
    (H0 : (p < 0 ∨ nI (sr_t a1 a2 a3 c 7) ≤ p) → post (-4) (nI c, f1, f2, f3, a1, a2, a3, a4, a5, a6))
    (H1 : ∀ n, n < sr_t a1 a2 a3 c 7 → p = nI n → ∀ (len : Nat) (l : Nat → Nat) (a4' a5' : Nat → Int32), sr_F a1 a2 a3 c n len l a4' → post (nI len) (nI c, nI len, nI len, f3, a1, a2, a3, a4', a5', a6)) :
    wpX_load post (nI c, f1, f2, f3, a1, a2, a3, a4, a5, a6) p := by
  unfold wpX_load
  refine sr_find hC h3 hR (fun h => br_t rfl (H0 h)) (fun n hn e len l a5' hF => br_f (by decide) ?_)
  obtain ⟨g1, g2, g3⟩ := hF
  refine pk_loop (fun n i s => wX_load_23 post (nI c) (nI len) (nI len) f3 n (nI i) a1 a2 a3 s a5' a6) (fun i s => ∀ j, j < i → s j = a5' j) len 0 a4 (Nat.zero_le _) (fun j hj => absurd hj (by omega)) ?_ ?_
  · intro fu a h
    exact pk_le len len (fun _ => H1 n hn e len l a a5' ⟨g1, fun j hj => by rw [h j hj]; exact g2 j hj, g3⟩) (fun z => absurd z (by omega))
  · intro fu i a hi h hw
    refine pk_le len i (fun z => absurd z (by omega)) (fun _ => ⟨pk_in i 6 (by omega), pk_in i 6 (by omega), nm_r (e' := upd a i (a5' i)) (by rw [nI_clamp (by omega)]) (nm_r (nI_1 i) (hw _ (fun j hj => ?_)))⟩)
    by_cases e : j = i
    · rw [e, pk_us]
    · rw [pk_un e]
      exact h j (by omega)
/-- the least length of an accepted word -/
def sr_L (K A B : Nat → Int32) (c len : Nat) : Prop := len ≤ 6 ∧ sr_t K A B c len = 0 ∧ 0 < sr_w K A B c len 256
theorem sr_L_le {K A B : Nat → Int32} {c len len' : Nat} (h : sr_L K A B c len) (h' : sr_L K A B c len') : len' ≤ len := by
  rcases Nat.lt_or_ge len len' with z | z
  · have h1 : sr_t K A B c (len + 1) ≤ sr_t K A B c len' := sr_T_mono _ _ z
    have h2 : sr_t K A B c (len + 1) = sr_t K A B c len + sr_w K A B c len 256 := rfl
    have h3 := h.2.2
    have h4 := h'.2.1
    exact absurd h3 (by omega)
  · exact z
theorem sr_L_T {K A B : Nat → Int32} {c len : Nat} (h : sr_L K A B c len) : ¬ sr_t K A B c 7 = 0 := by
  have h1 : sr_t K A B c (len + 1) ≤ sr_t K A B c 7 := sr_T_mono _ _ (by have := h.1; omega)
  have h2 : sr_t K A B c (len + 1) = sr_t K A B c len + sr_w K A B c len 256 := rfl
  have h3 := h.2.2
  omega
theorem sr_z7 {n : Nat} (hn : n ≤ 5461) (h : (0 : Int32) < 0 ∨ nI n ≤ 0) : n = 0 := by
  rcases h with h | h
  · exact absurd h (by decide)
  · rcases Nat.eq_zero_or_pos n with z | z
    · exact z
    · exact absurd h (nI_nle z (by omega))
theorem sr_leastLen {post : Int32 → St1 → Prop} {f1 f2 f3 : Int32} {a1 a2 a3 a4 a5 a6 : Nat → Int32} {c : Nat}
    (hC : sr_C c a1 a2 a3) (h3 : ¬ f3 = 0) (hR : sr_R c a1 a2 a3 a6)
    (H0 : sr_t a1 a2 a3 c 7 = 0 → post (-4) (nI c, f1, f2, f3, a1, a2, a3, a4, a5, a6))
    (H1 : ∀ (len : Nat) (a5' : Nat → Int32), sr_L a1 a2 a3 c len → post (nI len) (nI c, f1, nI len, f3, a1, a2, a3, a4, a5', a6)) :
    wpX_leastLength post (nI c, f1, f2, f3, a1, a2, a3, a4, a5, a6) := by
  unfold wpX_leastLength
  refine sr_find hC h3 hR (fun h => br_t rfl (H0 (sr_z7 (sr_T_bd _ _ (by omega)) h))) (fun n hn e len l a5' hF => br_f (by decide) (H1 len a5' ?_))
  have hT : sr_t a1 a2 a3 c 7 ≤ 5461 := sr_T_bd _ _ (by omega)
  have e0 : 0 = n := (nI_eq (a := 0) (by omega) (by omega)).mp e
  obtain ⟨g1, g2, g3, g4, g5, g6⟩ := hF
  exact ⟨g1, by omega, g6⟩
theorem sr_least {post : Int32 → St1 → Prop} {f1 f2 f3 : Int32} {a1 a2 a3 a4 a5 a6 : Nat → Int32} {c i : Nat} {p : Int32}
    (hC : sr_C c a1 a2 a3) (h3 : ¬ f3 = 0) (hR : sr_R c a1 a2 a3 a6) (hi : i < 7)
    (H0 : sr_t a1 a2 a3 c 7 = 0 → post (-4) (nI c, f1, f2, f3, a1, a2, a3, a4, a5, a6))
    (H1 : ∀ (len v : Nat) (a5' : Nat → Int32), sr_L a1 a2 a3 c len → i < len → v < 4 → post (nI v) (nI c, f1, nI len, f3, a1, a2, a3, a4, a5', a6))
    (H2 : ∀ (len : Nat) (a5' : Nat → Int32), sr_L a1 a2 a3 c len → len ≤ i → post (-4) (nI c, f1, nI len, f3, a1, a2, a3, a4, a5', a6)) (ep : p = nI i := by rfl) :
    wpX_least post (nI c, f1, f2, f3, a1, a2, a3, a4, a5, a6) p := by
  subst ep
  unfold wpX_least
  refine sr_find hC h3 hR (fun h => br_t rfl (H0 (sr_z7 (sr_T_bd _ _ (by omega)) h))) (fun n hn e len l a5' hF => br_f (by decide) (br_f (nI_pos (by omega)) ?_))
  have hT : sr_t a1 a2 a3 c 7 ≤ 5461 := sr_T_bd _ _ (by omega)
  have e0 : 0 = n := (nI_eq (a := 0) (by omega) (by omega)).mp e
  obtain ⟨g1, g2, g3, g4, g5, g6⟩ := hF
  have hL : sr_L a1 a2 a3 c len := ⟨g1, by omega, g6⟩
  refine pk_lt i len (fun z => ⟨pk_in i 6 (by omega), ?_⟩) (fun z => H2 len a5' hL z)
  rw [nI_clamp (by omega), (g2 i z).2]
  exact H1 len (l i) a5' hL z (g2 i z).1
end
section
/-! the staged word: stageState, fails, rank, extending, element -/
def sr_G (m : Nat) (a4 : Nat → Int32) (l : Nat → Nat) : Prop := m ≤ 6 ∧ ∀ j, j < m → l j < 4 ∧ a4 j = nI (l j)
theorem sr_stage {post : Int32 → Prop} {f1 f2 f3 : Int32} {a1 a2 a3 a4 a5 a6 : Nat → Int32} {c m : Nat} {l : Nat → Nat} (hC : sr_C c a1 a2 a3) (hG : sr_G m a4 l) (hp : post (nI (sr_run (sr_nx a1 a2 a3 c) l m))) :
    wpX_stageState post (nI c, f1, f2, f3, a1, a2, a3, a4, a5, a6) (nI m) := by
  obtain ⟨hm, hl⟩ := hG
  refine pk_loop (σ := Unit) (fun n i _ => wX_stageState_6 post (nI m) (nI c) f1 f2 f3 a1 a2 a3 a4 a5 a6 n (nI (sr_run (sr_nx a1 a2 a3 c) l i)) (nI i)) (fun _ _ => True) m 0 () (Nat.zero_le _) trivial
    (fun n _ _ => pk_le m m (fun _ => hp) (fun z => absurd z (by omega)))
    (fun n i _ hi _ hw => pk_le m i (fun z => absurd z (by omega)) (fun _ => ⟨pk_in i 6 (by omega), sr_next (x := l i) hC (sr_run_lt a1 a2 a3 hC.1 i (fun j hj => (hl j (by omega)).1)) (hl i hi).1 (nm_r (nI_1 i) (hw () trivial)) rfl ?_⟩))
  rw [nI_clamp (by omega)]
  exact (hl i hi).2
theorem sr_nb (b : Bool) : narrow .boolean (.int (nI (if b = true then 1 else 0))) = .int (nI (if b = true then 1 else 0)) := by
  cases b <;> rfl
theorem sr_fails {post : Int32 → Prop} {f2 f3 : Int32} {a1 a2 a3 a4 a5 a6 : Nat → Int32} {c m : Nat} {l : Nat → Nat} (hC : sr_C c a1 a2 a3) (hG : sr_G m a4 l) (hp : post (nI (sr_w a1 a2 a3 c 0 (sr_run (sr_nx a1 a2 a3 c) l m)))) :
    wpX_fails post (nI c, nI m, f2, f3, a1, a2, a3, a4, a5, a6) := by
  unfold wpX_fails
  refine sr_stage hC hG (sr_accepting hC.1 (sr_run_lt a1 a2 a3 hC.1 m (fun j hj => (hG.2 j hj).1)) ⟨sr_nb _, hp⟩)
theorem sr_rankW {post : Int32 → St1 → Prop} {f2 f3 : Int32} {a1 a2 a3 a4 a5 a6 : Nat → Int32} {c m : Nat} {l : Nat → Nat} (hC : sr_C c a1 a2 a3) (h3 : ¬ f3 = 0) (hR : sr_R c a1 a2 a3 a6) (hG : sr_G m a4 l)
    (hp : post (nI (sr_rank (sr_nx a1 a2 a3 c) (sr_acc a1 a2 a3 c) l m)) (nI c, nI m, f2, f3, a1, a2, a3, a4, a5, a6)) :
    wpX_rank post (nI c, nI m, f2, f3, a1, a2, a3, a4, a5, a6) := by
  obtain ⟨hm, hl⟩ := hG
  unfold wpX_rank
  refine sr_prepR h3 ?_
  refine pk_loop (σ := Unit) (fun n i _ => wX_rank_8 post (nI c) (nI m) f2 f3 a1 a2 a3 a4 a5 a6 n (nI (sr_t a1 a2 a3 c i)) (nI i)) (fun _ _ => True) m 0 () (Nat.zero_le _) trivial
    (fun n _ _ => pk_le m m (fun _ => ?_) (fun z => absurd z (by omega)))
    (fun n i _ hi _ hw => pk_le m i (fun z => absurd z (by omega)) (fun _ => ⟨(sr_at256 hR (show i < 7 by omega)).1, nm_r (by rw [(sr_at256 hR (show i < 7 by omega)).2, nI_add]; rfl) (nm_r (nI_1 i) (hw () trivial))⟩))
  refine pk_loop (σ := Unit) (fun n i _ => wX_rank_45 post (nI c) (nI m) f2 f3 a1 a2 a3 a4 a5 a6 n (nI (sr_t a1 a2 a3 c m + sr_rk (sr_nx a1 a2 a3 c) (sr_acc a1 a2 a3 c) l m i)) (nI (sr_run (sr_nx a1 a2 a3 c) l i)) (nI i)) (fun _ _ => True) m 0 () (Nat.zero_le _) trivial
    (fun n _ _ => pk_le m m (fun _ => hp) (fun z => absurd z (by omega)))
    (fun n i _ hi _ hw => pk_le m i (fun z => absurd z (by omega)) (fun _ => ⟨pk_in i 6 (by omega), ?_⟩))
  have hrun := sr_run_lt a1 a2 a3 hC.1 i (fun j hj => (hl j (by omega)).1)
  have e4 : a4 (nI i).toNatClampNeg = nI (l i) := by
    rw [nI_clamp (by omega)]
    exact (hl i hi).2
  have h4 := (hl i hi).1
  refine sr_sumOver (k := m - i - 1) (t := l i) hC (by omega) hrun (by omega) (fun s hs => hR _ (by omega) s (by omega)) ?_ (sr_idx hi) rfl e4
  refine nm_r (e' := nI (sr_t a1 a2 a3 c m + sr_rk (sr_nx a1 a2 a3 c) (sr_acc a1 a2 a3 c) l m (i + 1))) ?_ ⟨pk_in i 6 (by omega), sr_next (x := l i) hC hrun h4 (nm_r (nI_1 i) (hw () trivial)) rfl e4⟩
  rw [nI_add, sr_rk_s, Nat.add_assoc]
theorem sr_extW {post : Int32 → St1 → Prop} {f2 f3 : Int32} {a1 a2 a3 a4 a5 a6 : Nat → Int32} {c m : Nat} {l : Nat → Nat} (hC : sr_C c a1 a2 a3) (h3 : ¬ f3 = 0) (hR : sr_R c a1 a2 a3 a6) (hG : sr_G m a4 l)
    (hp : post (nI (sr_ext (sr_nx a1 a2 a3 c) (sr_acc a1 a2 a3 c) l m (7 - m))) (nI c, nI m, f2, f3, a1, a2, a3, a4, a5, a6)) :
    wpX_extending post (nI c, nI m, f2, f3, a1, a2, a3, a4, a5, a6) := by
  have hm := hG.1
  have hrun := sr_run_lt a1 a2 a3 hC.1 m (fun j hj => (hG.2 j hj).1)
  have e6 : (6 : Int32) - nI m = nI (6 - m) := pk_sub (a := 6) hm
  unfold wpX_extending
  refine sr_prepR h3 (sr_stage hC hG ?_)
  refine pk_loop (σ := Unit) (fun n i _ => wX_extending_17 post (nI (sr_run (sr_nx a1 a2 a3 c) l m)) (nI c) (nI m) f2 f3 a1 a2 a3 a4 a5 a6 n (nI (sr_ext (sr_nx a1 a2 a3 c) (sr_acc a1 a2 a3 c) l m i)) (nI i)) (fun _ _ => True) (7 - m) 0 () (Nat.zero_le _) trivial
    (fun n _ _ => pk_lt (6 - m) (7 - m) (fun _ => hp) (fun z => absurd z (by omega)) e6 rfl)
    (fun n i _ hi _ hw => pk_lt (6 - m) i (fun z => absurd z (by omega)) (fun _ => ⟨pk_in (i * 320 + sr_run (sr_nx a1 a2 a3 c) l m) 2240 (by omega) (sr_ix _ _), nm_r (e' := nI (sr_ext (sr_nx a1 a2 a3 c) (sr_acc a1 a2 a3 c) l m (i + 1))) ?_ (nm_r (nI_1 i) (hw () trivial))⟩) e6 rfl)
  rw [sr_ix, nI_clamp (by omega), hR i (by omega) _ hrun, nI_add]
  rfl
theorem sr_elem {post : Int32 → Prop} {f0 f2 f3 : Int32} {a1 a2 a3 a4 a5 a6 : Nat → Int32} {m i : Nat} {l : Nat → Nat} {p : Int32} (hG : sr_G m a4 l) (hi : i < 7)
    (H0 : m ≤ i → post (-4)) (H1 : ∀ v, i < m → v < 4 → post (nI v)) (ep : p = nI i := by rfl) :
    wpX_element post (f0, nI m, f2, f3, a1, a2, a3, a4, a5, a6) p := by
  obtain ⟨hm, hl⟩ := hG
  subst ep
  refine br_f (nI_pos (by omega)) (pk_lt i m (fun z => ⟨pk_in i 6 (by omega), ?_⟩) (fun z => H0 z))
  rw [nI_clamp (by omega), (hl i z).2]
  exact H1 (l i) z (hl i z).1
end
section
/-! the changes: condition, drop, push -/
theorem sr_in {post : Int32 → Prop} {x lo hi : Int32} (H0 : post 0) (H1 : ¬ x < lo → ¬ hi < x → post 1) : wpX_in post () x lo hi :=
  br_c (fun _ => H0) (fun h => br_c (fun _ => H0) (fun g => H1 h g))
theorem sr_rng {x : Int32} {lo hi : Nat} (hb : lo ≤ 100) (hb2 : hi ≤ 100) (h : ¬ x < nI lo) (g : ¬ nI hi < x) : ∃ n : Nat, lo ≤ n ∧ n ≤ hi ∧ x = nI n := by
  have h0 : ¬ x < 0 := by
    rw [Int32.lt_iff_toInt_lt, nI_toInt (by omega)] at h
    rw [Int32.lt_iff_toInt_lt, Int32.toInt_zero]
    omega
  obtain ⟨j, hj, rfl⟩ := nI_of h0
  rw [nI_ltI hj (by omega)] at h
  rw [nI_ltI (by omega) hj] at g
  exact ⟨j, by omega, by omega, rfl⟩
theorem sr_two {post : Int32 → Prop} {x lo hi y lo' hi' : Int32} (H0 : post 0) (H1 : ¬ x < lo → ¬ hi < x → ¬ y < lo' → ¬ hi' < y → post 1) :
    wpX_in (fun r => (r = 0 → post 0) ∧ (¬ r = 0 → wpX_in (fun r => (r = 0 → post 0) ∧ (¬ r = 0 → post 1)) () y lo' hi')) () x lo hi :=
  sr_in (br_t rfl H0) (fun h g => br_f (by decide) (sr_in (br_t rfl H0) (fun h' g' => br_f (by decide) (H1 h g h' g'))))
theorem sr_good_of {k a b : Int32} (n0 : ¬ k = 0) (n1 : ¬ k = 1) (n2 : ¬ k = 2) (n7 : ¬ k = 7) : sr_good k a b :=
  ⟨fun e => absurd e n0, fun e => absurd e n1, fun e => absurd e n2, fun e => absurd e n7⟩
theorem sr_g150 {post : Int32 → Prop} {a : Int32} (H0 : post 0) (H1 : ¬ a < 0 → ¬ 3 < a → post 1) : wX_goodNumbers_150 post a :=
  sr_in ⟨rfl, H0⟩ (fun h g => ⟨rfl, H1 h g⟩)
theorem sr_goodN {post : Int32 → Prop} {k a b : Int32} (h0 : ¬ k < 0) (H0 : post 0) (H1 : sr_good k a b → post 1) : wpX_goodNumbers post () k a b := by
  refine br_f h0 (br_c (fun z => sr_two H0 (fun _ _ _ _ => H1 ?_)) (fun z8 => ?_))
  · refine sr_good_of ?_ ?_ ?_ ?_ <;> (intro e; rw [e] at z; exact absurd z (by decide))
  refine br_c (fun z => sr_two H0 (fun h g _ _ => H1 ?_)) (fun z0 => ?_)
  · subst z
    exact ⟨fun _ => sr_rng (lo := 2) (hi := 4) (by decide) (by decide) h g, fun e => absurd e (by decide), fun e => absurd e (by decide), fun e => absurd e (by decide)⟩
  refine br_c (fun z => sr_two H0 (fun _ _ h g => H1 ?_)) (fun z1 => ?_)
  · subst z
    refine ⟨fun e => absurd e (by decide), fun _ => ?_, fun e => absurd e (by decide), fun e => absurd e (by decide)⟩
    obtain ⟨n, _, n2, e⟩ := sr_rng (lo := 1) (hi := 3) (by decide) (by decide) h g
    exact ⟨n, n2, e⟩
  refine br_c (fun z => sr_two H0 (fun _ _ h g => H1 ?_)) (fun z2 => ?_)
  · subst z
    refine ⟨fun e => absurd e (by decide), fun e => absurd e (by decide), fun _ => ?_, fun e => absurd e (by decide)⟩
    obtain ⟨n, _, n2, e⟩ := sr_rng (lo := 0) (hi := 2) (by decide) (by decide) h g
    exact ⟨n, n2, e⟩
  refine br_c (fun z => sr_two H0 (fun _ _ _ _ => H1 (by subst z; exact sr_good_of (by decide) (by decide) (by decide) (by decide)))) (fun z3 => ?_)
  refine br_c (fun z => sr_two H0 (fun _ _ _ _ => H1 (by subst z; exact sr_good_of (by decide) (by decide) (by decide) (by decide)))) (fun z4 => ?_)
  refine br_c (fun z => sr_g150 H0 (fun _ _ => H1 (by subst z; exact sr_good_of (by decide) (by decide) (by decide) (by decide)))) (fun z5 => ?_)
  refine br_c (fun z => sr_g150 H0 (fun _ _ => H1 (by subst z; exact sr_good_of (by decide) (by decide) (by decide) (by decide)))) (fun z6 => ?_)
  refine br_c (fun z => sr_g150 H0 (fun h g => H1 ?_)) (fun z7 => ?_)
  · subst z
    refine ⟨fun e => absurd e (by decide), fun e => absurd e (by decide), fun e => absurd e (by decide), fun _ => ?_⟩
    obtain ⟨n, _, n2, e⟩ := sr_rng (lo := 0) (hi := 3) (by decide) (by decide) h g
    exact ⟨n, n2, e⟩
  exact br_c (fun z => H1 (by subst z; exact sr_good_of (by decide) (by decide) (by decide) (by decide))) (fun _ => trivial)
theorem sr_cond {post : Int32 → St1 → Prop} {f1 f2 f3 : Int32} {a1 a2 a3 a4 a5 a6 : Nat → Int32} {c : Nat} {p q r : Int32} (hc : c ≤ 3)
    (H0 : ∀ v : Int32, v < 0 → post v (nI c, f1, f2, f3, a1, a2, a3, a4, a5, a6))
    (H1 : c < 3 → sr_good p q r → post (nI (c + 1)) (nI (c + 1), f1, f2, 0, upd a1 c p, upd a2 c q, upd a3 c r, a4, a5, a6)) :
    wpX_condition post (nI c, f1, f2, f3, a1, a2, a3, a4, a5, a6) p q r := by
  refine br_c (fun _ => H0 (-1) (by decide)) (fun h0 => br_c (fun _ => sr_goodN h0 (br_t rfl (H0 (-2) (by decide))) (fun hg => br_f (by decide) ?_)) (fun _ => H0 (-1) (by decide)))
  refine pk_lt c 3 (fun z => ?_) (fun _ => H0 (-3) (by decide))
  have hv : vp_in (nI c) 3 := pk_in c 3 z
  have hcl : (nI c).toNatClampNeg = c := nI_clamp (by omega)
  refine ⟨hv, nm_r (e' := upd a1 c p) (by rw [hcl]) ⟨hv, nm_r (e' := upd a2 c q) (by rw [hcl]) ⟨hv, nm_r (e' := upd a3 c r) (by rw [hcl]) (nm_r (nI_1 c) (H1 z hg))⟩⟩⟩
theorem sr_C_add {c : Nat} {a1 a2 a3 : Nat → Int32} {p q r : Int32} (hC : sr_C c a1 a2 a3) (hc : c < 3) (hg : sr_good p q r) : sr_C (c + 1) (upd a1 c p) (upd a2 c q) (upd a3 c r) := by
  refine ⟨by omega, fun i hi => ?_⟩
  by_cases e : i = c
  · rw [e, pk_us, pk_us, pk_us]
    exact hg
  · rw [pk_un e, pk_un e, pk_un e]
    exact hC.2 i (by omega)
theorem sr_C_drop {c : Nat} {a1 a2 a3 : Nat → Int32} (hC : sr_C (c + 1) a1 a2 a3) : sr_C c a1 a2 a3 :=
  ⟨by have := hC.1; omega, fun i hi => hC.2 i (by omega)⟩
theorem sr_drop {post : Int32 → St1 → Prop} {f1 f2 f3 : Int32} {a1 a2 a3 a4 a5 a6 : Nat → Int32} {c : Nat} (hc : c ≤ 3)
    (H0 : c = 0 → post (-4) (nI c, f1, f2, f3, a1, a2, a3, a4, a5, a6))
    (H1 : ∀ d, c = d + 1 → post (nI d) (nI d, f1, f2, 0, a1, a2, a3, a4, a5, a6)) :
    wpX_drop post (nI c, f1, f2, f3, a1, a2, a3, a4, a5, a6) := by
  cases c with
  | zero => exact br_t nI_0 (H0 rfl)
  | succ d => exact br_f (nI_ne0 (by omega) (by omega)) (nm_r (nI_pred d) (H1 d rfl))
theorem sr_push {post : Int32 → St1 → Prop} {f0 f2 f3 : Int32} {a1 a2 a3 a4 a5 a6 : Nat → Int32} {m : Nat} {p : Int32} (hm : m ≤ 6)
    (H0 : ∀ v : Int32, v < 0 → post v (f0, nI m, f2, f3, a1, a2, a3, a4, a5, a6))
    (H1 : ∀ x, x < 4 → m < 6 → post (nI (m + 1)) (f0, nI (m + 1), f2, f3, a1, a2, a3, upd a4 m (nI x), a5, a6)) :
    wpX_push post (f0, nI m, f2, f3, a1, a2, a3, a4, a5, a6) p := by
  refine br_c (fun _ => H0 (-2) (by decide)) (fun h => br_c (fun g => ?_) (fun _ => H0 (-2) (by decide)))
  obtain ⟨x, hx, rfl⟩ := nI_of2 (M := 3) (n := 3) (by decide) h g
  refine pk_lt m 6 (fun z => ⟨pk_in m 6 z, nm_r (e' := upd a4 m (nI x)) (by rw [nI_clamp (by omega)]) (nm_r (nI_1 m) (H1 x (by omega) z))⟩) (fun _ => H0 (-3) (by decide))
theorem sr_G_add {m x : Nat} {a4 : Nat → Int32} {l : Nat → Nat} (hG : sr_G m a4 l) (hm : m < 6) (hx : x < 4) : sr_G (m + 1) (upd a4 m (nI x)) (fun j => if j = m then x else l j) := by
  refine ⟨by omega, fun j hj => ?_⟩
  show (if j = m then x else l j) < 4 ∧ upd a4 m (nI x) j = nI (if j = m then x else l j)
  by_cases e : j = m
  · rw [if_pos e, e, pk_us]
    exact ⟨hx, rfl⟩
  · rw [if_neg e, pk_un e]
    exact hG.2 j (by omega)
end
section
/-! the law's inner loop and the checks behind it -/
theorem sr_m4 (i : Nat) (hi : i < 2 ^ 31) : (-4 : Int32) ≤ nI i := by
  rw [Int32.le_iff_toInt_le, nI_toInt hi, show (-4 : Int32).toInt = -4 by decide]
  omega
theorem sr_m4n (i : Nat) (hi : i < 2 ^ 31) : ¬ nI i = (-4 : Int32) := by
  intro e
  have h := nI_pos hi
  rw [e] at h
  exact h (by decide)
theorem sr_389 {post : Int32 → Prop} {L : Nat} {xs : Nat → Int32} {J15 : Int32 → Int32 → Int32 → Int32 → Int32 → Int32 → Int32 → (Nat → Int32) → (Nat → Int32) → (Nat → Int32) → (Nat → Int32) → (Nat → Int32) → (Nat → Int32) → Prop} {J309 : Int32 → Int32 → Int32 → Int32 → Int32 → Int32 → (Nat → Int32) → (Nat → Int32) → (Nat → Int32) → (Nat → Int32) → (Nat → Int32) → (Nat → Int32) → Prop} {x2 x3 x4 x8 x9 z : Int32} {kc ks : Nat} {f1 f2 f3 : Int32} {a1 a2 a3 a4 a5 a6 : Nat → Int32} {c i : Nat} (hC : sr_C c a1 a2 a3) (h3 : ¬ f3 = 0) (hR : sr_R c a1 a2 a3 a6) (hi : i < 7)
    (hz0 : sr_t a1 a2 a3 c 7 = 0 → z = 0) (hzL : ∀ len, sr_L a1 a2 a3 c len → (len ≤ i → z = 0) ∧ (i < len → z = 1))
    (H : ∀ (f2' : Int32) (a5' : Nat → Int32), J309 x9 (nI (i + 1)) (nI c) f1 f2' f3 a1 a2 a3 a4 a5' a6) :
    wL_law_389 post L xs J15 J309 x2 x3 x4 x8 x9 (nI i) z kc ks (nI c) f1 f2 f3 a1 a2 a3 a4 a5 a6 := by
  unfold wL_law_389
  refine sr_leastLen hC h3 hR (fun h0 => br_t (sr_m4 i (by omega)) (br_t (hz0 h0) (nm_r (nI_1 i) (H _ _)))) (fun len a5' hL => ?_)
  have h6 := hL.1
  exact pk_le len i (fun t => br_t ((hzL len hL).1 t) (nm_r (nI_1 i) (H _ _))) (fun t => br_t ((hzL len hL).2 t) (nm_r (nI_1 i) (H _ _)))
theorem sr_372 {post : Int32 → Prop} {L : Nat} {xs : Nat → Int32} {J15 : Int32 → Int32 → Int32 → Int32 → Int32 → Int32 → Int32 → (Nat → Int32) → (Nat → Int32) → (Nat → Int32) → (Nat → Int32) → (Nat → Int32) → (Nat → Int32) → Prop} {J309 : Int32 → Int32 → Int32 → Int32 → Int32 → Int32 → (Nat → Int32) → (Nat → Int32) → (Nat → Int32) → (Nat → Int32) → (Nat → Int32) → (Nat → Int32) → Prop} {x2 x3 x4 x8 x9 z : Int32} {kc ks : Nat} {f1 f2 f3 : Int32} {a1 a2 a3 a4 a5 a6 : Nat → Int32} {c i : Nat} (hC : sr_C c a1 a2 a3) (h3 : ¬ f3 = 0) (hR : sr_R c a1 a2 a3 a6) (hi : i < 7)
    (H : ∀ (f2' : Int32) (a5' : Nat → Int32), J309 x9 (nI (i + 1)) (nI c) f1 f2' f3 a1 a2 a3 a4 a5' a6) :
    wL_law_372 post L xs J15 J309 x2 x3 x4 x8 x9 (nI i) z z kc ks (nI c) f1 f2 f3 a1 a2 a3 a4 a5 a6 := by
  unfold wL_law_372
  refine br_t rfl (sr_least hC h3 hR hi (fun h0 => br_t (by decide) ?_) (fun len v a5' hL hlt hv => br_f (nI_pos (by omega)) ?_) (fun len a5' hL hle => br_t (by decide) ?_))
  · exact sr_389 hC h3 hR hi (fun _ => rfl) (fun len hL => absurd h0 (sr_L_T hL)) H
  · refine sr_389 hC h3 hR hi (fun h0 => absurd h0 (sr_L_T hL)) (fun len' hL' => ⟨fun t => ?_, fun _ => rfl⟩) H
    have := sr_L_le hL' hL
    exact absurd t (by omega)
  · refine sr_389 hC h3 hR hi (fun _ => rfl) (fun len' hL' => ⟨fun _ => rfl, fun t => ?_⟩) H
    have := sr_L_le hL hL'
    exact absurd t (by omega)
theorem sr_547 {post : Int32 → Prop} {L : Nat} {xs : Nat → Int32} {J15 : Int32 → Int32 → Int32 → Int32 → Int32 → Int32 → Int32 → (Nat → Int32) → (Nat → Int32) → (Nat → Int32) → (Nat → Int32) → (Nat → Int32) → (Nat → Int32) → Prop} {x2 x3 : Int32} {kc ks k len : Nat} {f1 f2 f3 : Int32} {a1 a2 a3 a4 a5 a6 : Nat → Int32} {c : Nat} (h3 : ¬ f3 = 0) (hR : sr_R c a1 a2 a3 a6) (hL : sr_L a1 a2 a3 c len)
    (HJ : J15 x2 x3 (nI (k + 4)) (nI c) f1 f2 f3 a1 a2 a3 a4 a5 a6) : wL_law_547 post L xs J15 x2 x3 (nI k) (nI len) kc ks (nI c) f1 f2 f3 a1 a2 a3 a4 a5 a6 := by
  have h6 := hL.1
  have hb : sr_w a1 a2 a3 c len 256 ≤ 4096 := sr_W_bd _ _ (by omega) 256
  exact br_f (nI_pos (by omega)) (sr_failOf h3 hR (by omega) (br_f (nI_ne0 hL.2.2 (by omega)) (nm_r (nI_add k 4) HJ)))
theorem sr_488 {post : Int32 → Prop} {L : Nat} {xs : Nat → Int32} {J15 : Int32 → Int32 → Int32 → Int32 → Int32 → Int32 → Int32 → (Nat → Int32) → (Nat → Int32) → (Nat → Int32) → (Nat → Int32) → (Nat → Int32) → (Nat → Int32) → Prop} {x2 x3 : Int32} {kc ks k w e : Nat} {f1 f2 f3 : Int32} {a1 a2 a3 a4 a5 a6 : Nat → Int32} {c : Nat} (hC : sr_C c a1 a2 a3) (h3 : ¬ f3 = 0) (hR : sr_R c a1 a2 a3 a6) (hw : w ≤ e) (he : e ≤ sr_t a1 a2 a3 c 7)
    (HJ : ∀ (f2' : Int32) (a5' : Nat → Int32), J15 x2 x3 (nI (k + 4)) (nI c) f1 f2' f3 a1 a2 a3 a4 a5' a6) :
    wL_law_488 post L xs J15 x2 x3 (nI k) (nI (sr_t a1 a2 a3 c 7)) (nI e) (nI w) (nI e) kc ks (nI c) f1 f2 f3 a1 a2 a3 a4 a5 a6 := by
  have hT : sr_t a1 a2 a3 c 7 ≤ 5461 := sr_T_bd _ _ (by omega)
  unfold wL_law_488
  refine br_f (nI_nlt hw (by omega)) (br_t (nI_le he (by omega)) (sr_leastLen hC h3 hR (fun h0 => br_t rfl ?_) (fun len a5' hL => br_f (sr_m4n len (by have := hL.1; omega)) ?_)))
  · rw [h0]
    exact br_t rfl (br_t rfl (br_t (by decide) (br_t (by decide) (nm_r (nI_add k 4) (HJ _ _)))))
  · have h6 := hL.1
    have n0 : 0 < sr_t a1 a2 a3 c 7 := Nat.pos_of_ne_zero (sr_L_T hL)
    refine br_f (nI_ne0 n0 (by omega)) (br_t rfl (pk_le len 0 (fun _ => sr_547 h3 hR hL (HJ _ _)) (fun z => ?_)))
    cases len with
    | zero => exact absurd z (by omega)
    | succ d =>
      refine sr_failOf (k := d) h3 hR (by omega) (br_t ?_ (sr_547 h3 hR hL (HJ _ _))) (nI_pred d)
      have e0 := hL.2.1
      have e1 : sr_t a1 a2 a3 c (d + 1) = sr_t a1 a2 a3 c d + sr_w a1 a2 a3 c d 256 := rfl
      rw [show sr_w a1 a2 a3 c d 256 = 0 by omega]
      exact nI_0
theorem sr_01 {w : Nat} (hw : w ≤ 1) {P : Int32 → Prop} (h : P (nI w)) : (nI w = 0 → P 0) ∧ (¬ nI w = 0 → P 1) := by
  rcases (show w = 0 ∨ w = 1 by omega) with e | e
  · subst e
    exact br_t nI_0 h
  · subst e
    exact br_f (by decide) h
theorem sr_w01 (nx : Nat → Nat → Nat) (ac : Nat → Bool) (st : Nat) : sr_W nx ac 0 st ≤ 1 := sr_W_le nx ac 0 st
theorem sr_468 {post : Int32 → Prop} {L : Nat} {xs : Nat → Int32} {J15 : Int32 → Int32 → Int32 → Int32 → Int32 → Int32 → Int32 → (Nat → Int32) → (Nat → Int32) → (Nat → Int32) → (Nat → Int32) → (Nat → Int32) → (Nat → Int32) → Prop} {x2 x3 : Int32} {kc ks k m : Nat} {l : Nat → Nat} {f2 f3 : Int32} {a1 a2 a3 a4 a5 a6 : Nat → Int32} {c : Nat} (hC : sr_C c a1 a2 a3) (h3 : ¬ f3 = 0) (hR : sr_R c a1 a2 a3 a6) (hG : sr_G m a4 l)
    (HJ : ∀ (f2' : Int32) (a5' : Nat → Int32), J15 x2 x3 (nI (k + 4)) (nI c) (nI m) f2' f3 a1 a2 a3 a4 a5' a6) :
    wL_law_468 post L xs J15 x2 x3 (nI k) (nI (sr_t a1 a2 a3 c 7)) (nI (sr_ext (sr_nx a1 a2 a3 c) (sr_acc a1 a2 a3 c) l m (7 - m))) (nI (sr_w a1 a2 a3 c 0 (sr_run (sr_nx a1 a2 a3 c) l m))) (nI (sr_rank (sr_nx a1 a2 a3 c) (sr_acc a1 a2 a3 c) l m)) kc ks (nI c) (nI m) f2 f3 a1 a2 a3 a4 a5 a6 := by
  have hT : sr_t a1 a2 a3 c 7 ≤ 5461 := sr_T_bd _ _ (by omega)
  have hl : ∀ j, j < m → l j < 4 := fun j hj => (hG.2 j hj).1
  have r1 := sr_rank_le (sr_nx a1 a2 a3 c) (sr_acc a1 a2 a3 c) hG.1 hl
  have r2 := sr_ext_le (sr_nx a1 a2 a3 c) (sr_acc a1 a2 a3 c) hG.1 hl
  have r3 := sr_ext_ge (sr_nx a1 a2 a3 c) (sr_acc a1 a2 a3 c) (l := l) hG.1
  unfold wL_law_468
  refine br_f ?_ (sr_fails hC hG (sr_01 (P := fun z => wL_law_488 post L xs J15 x2 x3 (nI k) (nI (sr_t a1 a2 a3 c 7)) (nI (sr_ext (sr_nx a1 a2 a3 c) (sr_acc a1 a2 a3 c) l m (7 - m))) z (nI (sr_ext (sr_nx a1 a2 a3 c) (sr_acc a1 a2 a3 c) l m (7 - m))) kc ks (nI c) (nI m) f2 f3 a1 a2 a3 a4 a5 a6) (sr_w01 _ _ _) (sr_488 hC h3 hR r3 r2 HJ)))
  rw [nI_add]
  exact nI_nlt r1 (by omega)
theorem sr_sh1 : ∀ i, i < 7 → (1 : Int32) <<< ((2 * nI i) &&& 31) = nI (4 ^ i) := by decide +kernel
theorem sr_p7 {i : Nat} (h : i < 7) : 4 ^ i ≤ 4096 := Nat.pow_le_pow_right (show 0 < 4 by decide) (show i ≤ 6 by omega)
theorem sr_309 {post : Int32 → Prop} {L : Nat} {xs : Nat → Int32} {J15 : Int32 → Int32 → Int32 → Int32 → Int32 → Int32 → Int32 → (Nat → Int32) → (Nat → Int32) → (Nat → Int32) → (Nat → Int32) → (Nat → Int32) → (Nat → Int32) → Prop} {kc ks k m : Nat} {l : Nat → Nat} {f2 f3 : Int32} {a1 a2 a3 a4 a5 a6 : Nat → Int32} {c : Nat} (hC : sr_C c a1 a2 a3) (h3 : ¬ f3 = 0) (hR : sr_R c a1 a2 a3 a6) (hG : sr_G m a4 l)
    (HJ : ∀ (f2' : Int32) (a5' : Nat → Int32), J15 (nI c) (nI m) (nI (k + 4)) (nI c) (nI m) f2' f3 a1 a2 a3 a4 a5' a6) :
    ∃ n, wL_law_309 post L xs J15 (nI c) (nI m) (nI k) (nI (sr_t a1 a2 a3 c 7)) kc ks n 0 0 (nI c) (nI m) f2 f3 a1 a2 a3 a4 a5 a6 := by
  have hT : sr_T (sr_nx a1 a2 a3 c) (sr_acc a1 a2 a3 c) 7 ≤ 5461 := sr_T_bd _ _ (by omega)
  have hc := hC.1
  have hm := hG.1
  have hl : ∀ j, j < m → l j < 4 := fun j hj => (hG.2 j hj).1
  have r1 := sr_rank_le (sr_nx a1 a2 a3 c) (sr_acc a1 a2 a3 c) hG.1 hl
  have r2 := sr_ext_le (sr_nx a1 a2 a3 c) (sr_acc a1 a2 a3 c) hG.1 hl
  refine pk_loop (σ := Int32 × (Nat → Int32)) (fun n i s => wL_law_309 post L xs J15 (nI c) (nI m) (nI k) (nI (sr_t a1 a2 a3 c 7)) kc ks n (nI (sr_t a1 a2 a3 c i)) (nI i) (nI c) (nI m) s.1 f3 a1 a2 a3 a4 s.2 a6) (fun _ _ => True) 7 0 (f2, a5) (by omega) trivial ?_ ?_
  · intro n s _
    obtain ⟨f2, a5⟩ := s
    refine pk_le 7 7 (fun _ => sr_extW hC h3 hR hG (sr_rankW hC h3 hR hG ?_)) (fun z => absurd z (by omega))
    refine br_t rfl (br_f (nI_nlt (b := c) (a := 3) (by omega) (by omega)) (br_f (nI_nlt (b := m) (a := 6) (by omega) (by omega)) (br_f (nI_pos (by omega)) (br_f (nI_pos (by omega)) (sr_fails hC hG ?_)))))
    exact sr_01 (P := fun z => wL_law_468 post L xs J15 (nI c) (nI m) (nI k) (nI (sr_t a1 a2 a3 c 7)) (nI (sr_ext (sr_nx a1 a2 a3 c) (sr_acc a1 a2 a3 c) l m (7 - m))) z (nI (sr_rank (sr_nx a1 a2 a3 c) (sr_acc a1 a2 a3 c) l m)) kc ks (nI c) (nI m) f2 f3 a1 a2 a3 a4 a5 a6) (sr_w01 _ _ _) (sr_468 hC h3 hR hG HJ)
  · intro n i s hi _ hw
    obtain ⟨f2, a5⟩ := s
    have hb : sr_w a1 a2 a3 c i 256 ≤ 4 ^ i := sr_W_le _ _ i 256
    have hp := sr_p7 hi
    have HN : ∀ (f2' : Int32) (a5' : Nat → Int32), wL_law_309 post L xs J15 (nI c) (nI m) (nI k) (nI (sr_t a1 a2 a3 c 7)) kc ks n (nI (sr_t a1 a2 a3 c (i + 1))) (nI (i + 1)) (nI c) (nI m) f2' f3 a1 a2 a3 a4 a5' a6 := fun f2' a5' => hw (f2', a5') trivial
    refine pk_le 7 i (fun z => absurd z (by omega)) (fun _ => sr_failOf h3 hR hi (nm_r (e' := nI (sr_t a1 a2 a3 c (i + 1))) (by rw [nI_add]; rfl) (br_f (nI_pos (by omega)) (br_f ?_ (sr_elem hG hi (fun t => br_t (by decide) ?_) (fun v t hv => br_f (nI_pos (by omega)) ?_))))))
    · rw [sr_sh1 i hi]
      exact nI_nlt hb (by omega)
    · exact br_t (nI_le t (by omega)) (sr_372 hC h3 hR hi HN)
    · exact br_f (nI_ge t (by omega)) (sr_372 hC h3 hR hi HN)
end
section
/-! the law's loop -/
def sr_I (L : Nat) (x2 x3 x4 f0 f1 f3 : Int32) (a1 a2 a3 a4 a6 : Nat → Int32) : Prop :=
  ∃ (c m k : Nat) (l : Nat → Nat), x2 = nI c ∧ x3 = nI m ∧ x4 = nI k ∧ f0 = nI c ∧ f1 = nI m ∧ k ≤ L ∧ sr_C c a1 a2 a3 ∧ sr_G m a4 l ∧ (¬ f3 = 0 → sr_R c a1 a2 a3 a6)
theorem sr_empty {post : St1 → Prop} {f0 f1 f2 f3 : Int32} {a1 a2 a3 a4 a5 a6 : Nat → Int32} (hp : post (f0, nI 0, f2, f3, a1, a2, a3, a4, a5, a6)) : wpX_empty post (f0, f1, f2, f3, a1, a2, a3, a4, a5, a6) := hp
theorem sr_step {post : Int32 → Prop} {L : Nat} {xs : Nat → Int32} (hL : L ≤ 260) (hp : post 1) {kc ks n c m k : Nat} {l : Nat → Nat} {f2 f3 : Int32} {a1 a2 a3 a4 a5 a6 : Nat → Int32}
    (hkL : k ≤ L) (hC : sr_C c a1 a2 a3) (hG : sr_G m a4 l) (hr : ¬ f3 = 0 → sr_R c a1 a2 a3 a6)
    (HJ : k + 4 ≤ L → ∀ (c m : Nat) (l : Nat → Nat) (f2 f3 : Int32) (a1 a2 a3 a4 a5 a6 : Nat → Int32), sr_C c a1 a2 a3 → sr_G m a4 l → (¬ f3 = 0 → sr_R c a1 a2 a3 a6) → wL_law_15 post L xs kc ks n (nI c) (nI m) (nI (k + 4)) (nI c) (nI m) f2 f3 a1 a2 a3 a4 a5 a6) :
    wL_law_15 post L xs kc ks (n + 1) (nI c) (nI m) (nI k) (nI c) (nI m) f2 f3 a1 a2 a3 a4 a5 a6 := by
  have e3 : nI k + 3 = nI (k + 3) := nI_add k 3
  refine pk_le L (k + 3) (fun _ => hp) (fun hlt => ⟨pk_in k L (by omega), ?_⟩) rfl e3
  obtain ⟨kd, hkd, ekd⟩ := pk_andE (xs (nI k).toNatClampNeg) (m := 15) 4 (by decide)
  have v1 : vp_in (nI k + 1) L := pk_in (k + 1) L (by omega) (nI_1 k)
  have v2 : vp_in (nI k + 2) L := pk_in (k + 2) L (by omega) (nI_add k 2)
  have v3 : vp_in (nI k + 3) L := pk_in (k + 3) L (by omega) e3
  have HK : ∀ (c m : Nat) (l : Nat → Nat) (f2 f3 : Int32) (a1 a2 a3 a4 a5 a6 : Nat → Int32), sr_C c a1 a2 a3 → sr_G m a4 l → ¬ f3 = 0 → sr_R c a1 a2 a3 a6 →
      ∃ fu, wL_law_309 post L xs (wL_law_15 post L xs kc ks n) (nI c) (nI m) (nI k) (nI (sr_t a1 a2 a3 c 7)) kc ks fu 0 0 (nI c) (nI m) f2 f3 a1 a2 a3 a4 a5 a6 :=
    fun c m l f2 f3 a1 a2 a3 a4 a5 a6 hC hG h3 hR => sr_309 hC h3 hR hG (fun f2' a5' => HJ (by omega) c m l f2' f3 a1 a2 a3 a4 a5' a6 hC hG (fun _ => hR))
  have hTb : ∀ (a1 a2 a3 : Nat → Int32) (c : Nat), sr_t a1 a2 a3 c 7 ≤ 5461 := fun a1 a2 a3 c => sr_T_bd _ _ (by omega)
  have hT := hTb a1 a2 a3 c
  have hc3 := hC.1
  have hm6 := hG.1
  refine nm_r ekd (sr_failing hC hr (fun f3 a6 h3 hR => ⟨v1, v2, v3, ?_⟩))
  rcases Nat.lt_or_ge kd 5 with k5 | k5
  · -- condition
    have n5 : ¬ (5 : Int32) ≤ nI kd := nI_ge (b := 5) k5 (by decide)
    refine br_f n5 (sr_cond hc3 (fun v hv => sr_failing hC (fun _ => hR) (fun f3' a6' h3' hR' => ?_)) (fun hc hg => sr_failing (sr_C_add hC hc hg) (fun t => absurd rfl t) (fun f3' a6' h3' hR' => ?_)))
    · have w1 : ¬ 3 < v := by
        rw [Int32.lt_iff_toInt_lt, Int32.toInt_zero] at hv
        rw [Int32.lt_iff_toInt_lt, show (3 : Int32).toInt = 3 by decide]
        omega
      have w2 : v ≤ 0 := by
        rw [Int32.lt_iff_toInt_lt, Int32.toInt_zero] at hv
        rw [Int32.le_iff_toInt_le, Int32.toInt_zero]
        omega
      have w3 : ¬ 0 ≤ v := by
        rw [Int32.lt_iff_toInt_lt, Int32.toInt_zero] at hv
        rw [Int32.le_iff_toInt_le, Int32.toInt_zero]
        omega
      exact br_f n5 (br_f w1 (br_t w2 (br_f w3 (br_t rfl (br_t w2 (HK c m l _ f3' a1 a2 a3 a4 _ a6' hC hG h3' hR'))))))
    · have hle := sr_moreT (K := a1) (A := a2) (B := a3) (K' := upd a1 c (xs (nI k + 1).toNatClampNeg)) (A' := upd a2 c (xs (nI k + 2).toNatClampNeg)) (B' := upd a3 c (xs (nI k + 3).toNatClampNeg)) hc (fun i hi => ⟨pk_un (by omega), pk_un (by omega), pk_un (by omega)⟩) 7
      exact br_f n5 (br_f (nI_nlt (a := 3) (by omega) (by decide)) (br_f (nI_nle (by omega) (by omega)) (br_t (nI_succ c) (br_f (nI_nlt hle (by omega)) (br_t (nI_pos' (by omega)) (br_f (nI_nle (by omega) (by omega)) (HK (c + 1) m l _ f3' _ _ _ a4 _ a6' (sr_C_add hC hc hg) hG h3' hR')))))))
  have t5 : (5 : Int32) ≤ nI kd := nI_le (a := 5) k5 (by omega)
  rcases Nat.eq_or_lt_of_le k5 with k5' | k5'
  · -- drop
    subst k5'
    refine br_t t5 (br_t rfl (sr_drop hc3 (fun h0 => sr_failing hC (fun _ => hR) (fun f3' a6' h3' hR' => ?_)) (fun d hd => ?_)))
    · subst h0
      exact br_t t5 (br_t rfl (br_t rfl (br_t rfl (br_t (nI_le (Nat.le_refl _) (by omega)) (br_t rfl (HK 0 m l _ f3' a1 a2 a3 a4 _ a6' hC hG h3' hR'))))))
    · subst hd
      have hle := sr_moreT (K := a1) (A := a2) (B := a3) (K' := a1) (A' := a2) (B' := a3) (c := d) (by omega) (fun i hi => ⟨rfl, rfl, rfl⟩) 7
      have hTd := hTb a1 a2 a3 d
      have nd : ¬ nI (d + 1) = 0 := nI_ne0 (by omega) (by omega)
      refine sr_failing (sr_C_drop hC) (fun t => absurd rfl t) (fun f3' a6' h3' hR' => ?_)
      exact br_t t5 (br_t rfl (br_f nd (br_t (nI_pred d).symm (br_t (nI_le hle (by omega)) (br_f nd (nm_r (nI_pred d) (HK d m l _ f3' a1 a2 a3 a4 _ a6' (sr_C_drop hC) hG h3' hR')))))))
  have n5 : ¬ nI kd = 5 := fun e => absurd ((nI_eq (b := 5) (by omega) (by decide)).mp e) (by omega)
  rcases Nat.lt_or_ge kd 12 with k12 | k12
  · -- push
    have n12 : ¬ (12 : Int32) ≤ nI kd := nI_ge (b := 12) k12 (by decide)
    have n13 : ¬ (13 : Int32) ≤ nI kd := nI_ge (b := 13) (by omega) (by decide)
    have e12 : ¬ nI kd = 12 := fun e => absurd ((nI_eq (b := 12) (by omega) (by decide)).mp e) (by omega)
    refine br_t t5 (br_f n5 (br_f n12 (sr_push hm6 (fun v hv => sr_failing hC (fun _ => hR) (fun f3' a6' h3' hR' => ?_)) (fun x hx hm => sr_failing hC (fun _ => hR) (fun f3' a6' h3' hR' => ?_)))))
    · have w2 : v ≤ 0 := by
        rw [Int32.lt_iff_toInt_lt, Int32.toInt_zero] at hv
        rw [Int32.le_iff_toInt_le, Int32.toInt_zero]
        omega
      exact br_t t5 (br_f n5 (br_f n13 (br_f e12 (br_t w2 (HK c m l _ f3' a1 a2 a3 a4 _ a6' hC hG h3' hR')))))
    · exact br_t t5 (br_f n5 (br_f n13 (br_f e12 (br_f (nI_nle (by omega) (by omega)) (HK c (m + 1) _ _ f3' a1 a2 a3 _ _ a6' hC (sr_G_add hG hm hx) h3' hR')))))
  have t12 : (12 : Int32) ≤ nI kd := nI_le (a := 12) k12 (by omega)
  rcases Nat.eq_or_lt_of_le k12 with k12' | k12'
  · -- empty
    subst k12'
    refine br_t t5 (br_f n5 (br_t t12 (br_t rfl (sr_empty (sr_failing hC (fun _ => hR) (fun f3' a6' h3' hR' => ?_))))))
    exact br_t t5 (br_f n5 (br_f (by decide) (br_t rfl (HK c 0 l _ f3' a1 a2 a3 a4 _ a6' hC ⟨by omega, fun j hj => absurd hj (by omega)⟩ h3' hR'))))
  -- load
  have e12 : ¬ nI kd = 12 := fun e => absurd ((nI_eq (b := 12) (by omega) (by decide)).mp e) (by omega)
  have t13 : (13 : Int32) ≤ nI kd := nI_le (a := 13) k12' (by omega)
  refine br_t t5 (br_f n5 (br_t t12 (br_f e12 (sr_load hC h3 hR (fun h0 => sr_failing hC (fun _ => hR) (fun f3' a6' h3' hR' => br_t t5 (br_f n5 (br_t t13 ⟨v1, ?_⟩)))) (fun q hq eq len l' a4' a5' hF => ?_)))))
  · have t : wL_law_236 post L xs (wL_law_15 post L xs kc ks n) (nI c) (nI m) (nI k) (-4) (nI (sr_t a1 a2 a3 c 7)) kc ks (nI c) (nI m) f2 f3' a1 a2 a3 a4 a5 a6' :=
      br_t rfl (br_t rfl (br_t rfl (br_t rfl (br_t rfl (HK c m l _ f3' a1 a2 a3 a4 _ a6' hC hG h3' hR')))))
    rcases h0 with h0 | h0
    · exact br_t h0 t
    · exact br_f (sr_nlt0 (by omega) h0) ⟨v1, br_t h0 t⟩
  · obtain ⟨g1, g2, g3, g4, g5, g6⟩ := hF
    have hG' : sr_G len a4' l' := ⟨g1, g2⟩
    refine sr_failing hC (fun _ => hR) (fun f3' a6' h3' hR' => br_t t5 (br_f n5 (br_t t13 ⟨v1, br_f ?_ ⟨v1, br_f ?_ ?_⟩⟩)))
    · rw [eq]
      exact nI_pos (by omega)
    · rw [eq]
      exact nI_ge hq (by omega)
    · refine br_f (sr_m4n len (by omega)) (br_f (by decide) (br_t rfl (br_f (by decide) (sr_rankW hC h3' hR' hG' ⟨v1, br_t ?_ (sr_fails hC hG' (br_f ?_ (br_f (by decide) (HK c len l' _ f3' a1 a2 a3 a4' _ a6' hC hG' h3' hR'))))⟩))))
      · rw [eq, g3]
      · rw [show sr_w a1 a2 a3 c 0 (sr_run (sr_nx a1 a2 a3 c) l' len) = 1 from if_pos g4]
        decide
theorem i_vc (xs : Nat → Int32) (L : Nat) (hL : L ≤ 260) : wpL_law (fun r => r = 1) L xs := by
  refine ⟨6, 2261, by omega, by omega, by omega, by omega, by omega, by omega, by omega, by omega, by omega, by omega, by omega, by omega, by omega, by omega, ?_⟩
  refine lp13 (fun n => wL_law_15 (fun r => r = 1) L xs (1 + 6) (10 + 2261) n) (fun x2 x3 x4 f0 f1 _ f3 a1 a2 a3 a4 _ a6 => sr_I L x2 x3 x4 f0 f1 f3 a1 a2 a3 a4 a6) (fun _ _ x4 _ _ _ _ _ _ _ _ _ _ => L - x4.toNatClampNeg) ?_ 0 0 0 0 0 0 0 (fun _ => 0) (fun _ => 0) (fun _ => 0) (fun _ => 0) (fun _ => 0) (fun _ => 0) ?_
  · intro n x2 x3 x4 f0 f1 f2 f3 a1 a2 a3 a4 a5 a6 hI hk
    obtain ⟨c, m, k, l, rfl, rfl, rfl, rfl, rfl, hkL, hC, hG, hr⟩ := hI
    refine sr_step (post := fun r => r = 1) (xs := xs) hL rfl hkL hC hG hr (fun h4 c m l f2 f3 a1 a2 a3 a4 a5 a6 hC hG hr => hk _ _ _ _ _ _ _ _ _ _ _ _ _ ⟨c, m, k + 4, l, rfl, rfl, rfl, rfl, rfl, h4, hC, hG, hr⟩ ?_)
    rw [nI_clamp (by omega), nI_clamp (by omega)]
    omega
  · exact ⟨0, 0, 0, (fun _ => 0), rfl, rfl, rfl, rfl, rfl, Nat.zero_le _, ⟨by omega, fun i hi => absurd hi (by omega)⟩, ⟨by omega, fun i hi => absurd hi (by omega)⟩, fun h => absurd rfl h⟩
end
