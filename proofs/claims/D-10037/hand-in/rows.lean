section
/-- the field: numbers modulo 997 -/
abbrev rt_F : Type := Fin 997
def rt_sum (g : Nat → rt_F) : Nat → rt_F
  | 0 => 0
  | n + 1 => rt_sum g n + g n
theorem rt_sum_0 (g : Nat → rt_F) : rt_sum g 0 = 0 := rfl
theorem rt_sum_s (g : Nat → rt_F) (n : Nat) : rt_sum g (n + 1) = rt_sum g n + g n := rfl
theorem rt_sum_congr {g h : Nat → rt_F} {n : Nat} (e : ∀ i, i < n → g i = h i) : rt_sum g n = rt_sum h n := by
  induction n with
  | zero => rfl
  | succ n ih => rw [rt_sum_s, rt_sum_s, ih (fun i hi => e i (by omega)), e n (by omega)]
theorem rt_sum_add (g h : Nat → rt_F) (n : Nat) : rt_sum (fun i => g i + h i) n = rt_sum g n + rt_sum h n := by
  induction n with
  | zero => rfl
  | succ n ih => rw [rt_sum_s, rt_sum_s, rt_sum_s, ih]; grind
theorem rt_sum_mul (c : rt_F) (g : Nat → rt_F) (n : Nat) : rt_sum (fun i => c * g i) n = c * rt_sum g n := by
  induction n with
  | zero => rw [rt_sum_0, rt_sum_0]; grind
  | succ n ih => rw [rt_sum_s, rt_sum_s, ih]; grind
theorem rt_sum_zero {g : Nat → rt_F} {n : Nat} (e : ∀ i, i < n → g i = 0) : rt_sum g n = 0 := by
  induction n with
  | zero => rfl
  | succ n ih => rw [rt_sum_s, ih (fun i hi => e i (by omega)), e n (by omega)]; grind
theorem rt_sum_swap (g : Nat → Nat → rt_F) (n m : Nat) : rt_sum (fun i => rt_sum (fun j => g i j) m) n = rt_sum (fun j => rt_sum (fun i => g i j) n) m := by
  induction n with
  | zero => exact (rt_sum_zero (fun _ _ => rfl)).symm
  | succ n ih =>
    rw [rt_sum_s, ih]
    exact (rt_sum_add (fun j => rt_sum (fun i => g i j) n) (fun j => g n j) m).symm
theorem rt_sum_head (g : Nat → rt_F) (n : Nat) : rt_sum g (n + 1) = g 0 + rt_sum (fun i => g (i + 1)) n := by
  induction n with
  | zero => rw [rt_sum_s, rt_sum_0, rt_sum_0]; grind
  | succ n ih => rw [rt_sum_s, ih, rt_sum_s]; grind
theorem rt_sum_split (g : Nat → rt_F) (m n : Nat) : rt_sum g (m + n) = rt_sum g m + rt_sum (fun i => g (m + i)) n := by
  induction n with
  | zero => rw [rt_sum_0]; show rt_sum g m = _; grind
  | succ n ih =>
    show rt_sum g (m + n) + g (m + n) = _
    rw [ih, rt_sum_s]; grind
theorem rt_sum_rev (g : Nat → rt_F) (n : Nat) : rt_sum (fun i => g (n - 1 - i)) n = rt_sum g n := by
  induction n with
  | zero => rfl
  | succ n ih =>
    rw [rt_sum_head, rt_sum_s, ← ih]
    have e : rt_sum (fun i => g (n + 1 - 1 - (i + 1))) n = rt_sum (fun i => g (n - 1 - i)) n := rt_sum_congr (fun i hi => by rw [show n + 1 - 1 - (i + 1) = n - 1 - i by omega])
    rw [e, show n + 1 - 1 - 0 = n by omega]; grind
theorem rt_sum_trunc {g : Nat → rt_F} {m n : Nat} (h : m ≤ n) (e : ∀ i, m ≤ i → i < n → g i = 0) : rt_sum g n = rt_sum g m := by
  obtain ⟨d, rfl⟩ : ∃ d, n = m + d := ⟨n - m, by omega⟩
  rw [rt_sum_split, rt_sum_zero (g := fun i => g (m + i)) (fun i hi => e (m + i) (by omega) (by omega))]; grind
theorem rt_sum_skip (g : Nat → rt_F) {p n : Nat} (h : p ≤ n) : rt_sum g (n + 1) = g p + rt_sum (fun i => g (if i < p then i else i + 1)) n := by
  obtain ⟨d, rfl⟩ : ∃ d, n = p + d := ⟨n - p, by omega⟩
  have e1 : rt_sum g (p + d + 1) = rt_sum g p + (g p + rt_sum (fun i => g (p + (i + 1))) d) := by
    rw [show p + d + 1 = p + (d + 1) by omega, rt_sum_split, rt_sum_head]; rfl
  have e2 : rt_sum (fun i => g (if i < p then i else i + 1)) (p + d) = rt_sum g p + rt_sum (fun i => g (p + (i + 1))) d := by
    rw [rt_sum_split]
    rw [rt_sum_congr (n := p) (h := g) (fun i hi => by rw [if_pos hi])]
    rw [rt_sum_congr (n := d) (h := fun i => g (p + (i + 1))) (fun i hi => by rw [if_neg (by omega)]; rfl)]
  rw [e1, e2]; grind
/-- the inverse as the program makes it -/
def rt_ib (x : rt_F) : Nat → rt_F
  | 0 => x
  | i + 1 => rt_ib x i * rt_ib x i
def rt_ir (x : rt_F) : Nat → rt_F
  | 0 => 1
  | i + 1 => if 995 / 2 ^ i % 2 = 1 then rt_ir x i * rt_ib x i else rt_ir x i
def rt_inv (x : rt_F) : rt_F := rt_ir x 10
theorem rt_inv_all : ∀ x : rt_F, x ≠ 0 → x * rt_inv x = 1 := by decide +kernel
theorem rt_inv_mul {x : rt_F} (h : x ≠ 0) : x * rt_inv x = 1 := rt_inv_all x h
theorem rt_mul0 {x y : rt_F} (hx : x ≠ 0) (h : x * y = 0) : y = 0 := by
  have e := rt_inv_mul hx
  have e2 : y = (x * rt_inv x) * y := by rw [e]; grind
  have e3 : (x * rt_inv x) * y = rt_inv x * (x * y) := by grind
  rw [e2, e3, h]; grind
theorem rt_sub0 {x y : rt_F} (h : x - y = 0) : x = y := by grind
end
section
def rt_dis (c a : Nat → rt_F) (L n : Nat) : rt_F := rt_sum (fun i => c i * a (n - 1 - i)) L
def rt_fit (c a : Nat → rt_F) (L N : Nat) : Prop := ∀ n, L ≤ n → n < N → a n = rt_dis c a L n
def rt_all (c a : Nat → rt_F) (L : Nat) : Prop := ∀ n, L ≤ n → a n = rt_dis c a L n
def rt_min (a : Nat → rt_F) (L N : Nat) : Prop := ∀ (c : Nat → rt_F) (l : Nat), rt_fit c a l N → L ≤ l
theorem rt_fit_mono {c a : Nat → rt_F} {L N M : Nat} (h : rt_fit c a L N) (hm : M ≤ N) : rt_fit c a L M := fun n h1 h2 => h n h1 (by omega)
theorem rt_fit_all {c a : Nat → rt_F} {L N : Nat} (h : rt_all c a L) : rt_fit c a L N := fun n h1 _ => h n h1
theorem rt_fit_s {c a : Nat → rt_F} {L N : Nat} (h : rt_fit c a L N) (he : L ≤ N → a N = rt_dis c a L N) : rt_fit c a L (N + 1) := by
  intro n h1 h2
  rcases Nat.lt_or_ge n N with z | z
  · exact h n h1 z
  · have e : n = N := by omega
    subst e
    exact he h1
theorem rt_cross {c d a : Nat → rt_F} {L M N : Nat} (h1 : ∀ j, j < M → a (N - 1 - j) = rt_dis c a L (N - 1 - j)) (h2 : ∀ i, i < L → a (N - 1 - i) = rt_dis d a M (N - 1 - i)) : rt_dis d a M N = rt_dis c a L N := by
  have e1 : rt_dis d a M N = rt_sum (fun j => rt_sum (fun i => d j * (c i * a (N - 1 - j - 1 - i))) L) M :=
    rt_sum_congr (fun j hj => by rw [h1 j hj, rt_sum_mul]; rfl)
  have e2 : rt_dis c a L N = rt_sum (fun i => rt_sum (fun j => c i * (d j * a (N - 1 - i - 1 - j))) M) L :=
    rt_sum_congr (fun i hi => by rw [h2 i hi, rt_sum_mul]; rfl)
  rw [e1, e2, rt_sum_swap]
  refine rt_sum_congr (fun i hi => rt_sum_congr (fun j hj => ?_))
  have e : N - 1 - j - 1 - i = N - 1 - i - 1 - j := by omega
  rw [e]; grind
/-- Massey: a rule that breaks at N forces every rule that doesn't to be long -/
theorem rt_massey {c d a : Nat → rt_F} {L M N : Nat} (h : rt_fit c a L N) (hL : L ≤ N) (hn : a N ≠ rt_dis c a L N) (h' : rt_fit d a M (N + 1)) : N + 1 ≤ L + M := by
  rcases Nat.lt_or_ge N (L + M) with z | z
  · exact z
  · exact absurd ((h' N (by omega) (by omega)).trans (rt_cross (fun j hj => h _ (by omega) (by omega)) (fun i hi => h' _ (by omega) (by omega)))) hn
theorem rt_ext {r c a : Nat → rt_F} {k L N : Nat} (hr : rt_all r a k) (hc : rt_fit c a L N) (hN : L + k ≤ N) : rt_all c a L := by
  intro n
  induction n using Nat.strongRecOn with
  | _ n ih =>
    intro hn
    rcases Nat.lt_or_ge n N with z | z
    · exact hc n hn z
    · exact (hr n (by omega)).trans (rt_cross (fun j hj => ih _ (by omega) (by omega)) (fun i hi => hr _ (by omega)))
/-- the mended rule -/
def rt_rep (c o : Nat → rt_F) (f : rt_F) (sh ol : Nat) : Nat → rt_F := fun j => if j + 1 < sh then c j else if j + 1 = sh then c j + f else if j < sh + ol then c j - f * o (j - sh) else c j
theorem rt_rep_dis0 (c o a : Nat → rt_F) (f : rt_F) (p ol r t : Nat) : rt_dis (rt_rep c o f (p + 1) ol) a (p + ((ol + r) + 1)) t = rt_dis c a (p + ((ol + r) + 1)) t + f * (a (t - (p + 1)) - rt_dis o a ol (t - (p + 1))) := by
  have E : rt_sum (fun j => (rt_rep c o f (p + 1) ol j - c j) * a (t - 1 - j)) (p + ((ol + r) + 1)) = f * (a (t - (p + 1)) - rt_dis o a ol (t - (p + 1))) := by
    rw [rt_sum_split, rt_sum_head, rt_sum_split]
    have z1 : rt_sum (fun j => (rt_rep c o f (p + 1) ol j - c j) * a (t - 1 - j)) p = 0 := rt_sum_zero (fun i hi => by
      have q : rt_rep c o f (p + 1) ol i = c i := by unfold rt_rep; rw [if_pos (by omega)]
      rw [q]; grind)
    have z2 : rt_rep c o f (p + 1) ol (p + 0) = c p + f := by unfold rt_rep; rw [if_neg (by omega), if_pos (by omega)]; rfl
    have z3 : rt_sum (fun i => (rt_rep c o f (p + 1) ol (p + (i + 1)) - c (p + (i + 1))) * a (t - 1 - (p + (i + 1)))) ol = (-f) * rt_dis o a ol (t - (p + 1)) := by
      unfold rt_dis
      rw [← rt_sum_mul]
      refine rt_sum_congr (fun i hi => ?_)
      have q : rt_rep c o f (p + 1) ol (p + (i + 1)) = c (p + (i + 1)) - f * o i := by
        unfold rt_rep; rw [if_neg (by omega), if_neg (by omega), if_pos (by omega), show p + (i + 1) - (p + 1) = i by omega]
      rw [q, show t - 1 - (p + (i + 1)) = t - (p + 1) - 1 - i by omega]; grind
    have z4 : rt_sum (fun i => (rt_rep c o f (p + 1) ol (p + ((ol + i) + 1)) - c (p + ((ol + i) + 1))) * a (t - 1 - (p + ((ol + i) + 1)))) r = 0 := rt_sum_zero (fun i hi => by
      have q : rt_rep c o f (p + 1) ol (p + ((ol + i) + 1)) = c (p + ((ol + i) + 1)) := by
        unfold rt_rep; rw [if_neg (by omega), if_neg (by omega), if_neg (by omega)]
      rw [q]; grind)
    rw [z1, z3, z4, z2, show t - 1 - (p + 0) = t - (p + 1) by omega]
    show (0 : rt_F) + ((c p + f - c p) * a (t - (p + 1)) + _) = _
    grind
  have E2 : rt_dis (rt_rep c o f (p + 1) ol) a (p + ((ol + r) + 1)) t = rt_dis c a (p + ((ol + r) + 1)) t + rt_sum (fun j => (rt_rep c o f (p + 1) ol j - c j) * a (t - 1 - j)) (p + ((ol + r) + 1)) := by
    unfold rt_dis
    rw [← rt_sum_add]
    exact rt_sum_congr (fun j hj => by grind)
  rw [E2, E]
theorem rt_rep_dis (c o a : Nat → rt_F) (f : rt_F) {sh ol L t : Nat} (h1 : 1 ≤ sh) (h2 : sh + ol ≤ L) : rt_dis (rt_rep c o f sh ol) a L t = rt_dis c a L t + f * (a (t - sh) - rt_dis o a ol (t - sh)) := by
  obtain ⟨p, rfl⟩ : ∃ p, sh = p + 1 := ⟨sh - 1, by omega⟩
  obtain ⟨r, rfl⟩ : ∃ r, L = p + ((ol + r) + 1) := ⟨L - (p + 1 + ol), by omega⟩
  exact rt_rep_dis0 c o a f p ol r t
theorem rt_dis_long {c a : Nat → rt_F} {L M n : Nat} (h : L ≤ M) (hc : ∀ j, L ≤ j → c j = 0) : rt_dis c a M n = rt_dis c a L n :=
  rt_sum_trunc h (fun i h1 _ => by rw [hc i h1]; grind)
/-- the state of the search for the shortest rule ahead of term n -/
def rt_bm (a c o : Nat → rt_F) (L ol : Nat) (b : rt_F) (sh n : Nat) : Prop :=
  rt_fit c a L n ∧ L ≤ n ∧ rt_min a L n ∧ (∀ j, L ≤ j → c j = 0) ∧ b ≠ 0 ∧ 1 ≤ sh ∧ sh + ol + L = n + 1 ∧
  (L = 0 ∨ (∃ m, m + sh = n ∧ ol ≤ m ∧ rt_fit o a ol m ∧ b = a m - rt_dis o a ol m))
theorem rt_bm_0 (a o : Nat → rt_F) : rt_bm a (fun _ => 0) o 0 0 1 1 0 :=
  ⟨fun n _ h => absurd h (by omega), by omega, fun _ _ _ => by omega, fun _ _ => rfl, by decide, by omega, by omega, Or.inl rfl⟩
theorem rt_min_s {a : Nat → rt_F} {L n : Nat} (h : rt_min a L n) : rt_min a L (n + 1) := fun c l hc => h c l (rt_fit_mono hc (by omega))
theorem rt_bm_ok {a c o : Nat → rt_F} {L ol : Nat} {b : rt_F} {sh n : Nat} (h : rt_bm a c o L ol b sh n) (hg : a n = rt_dis c a L n) : rt_bm a c o L ol b (sh + 1) (n + 1) := by
  obtain ⟨h1, h2, h3, h4, h5, h6, h7, h8⟩ := h
  refine ⟨rt_fit_s h1 (fun _ => hg), by omega, rt_min_s h3, h4, h5, by omega, by omega, ?_⟩
  rcases h8 with z | ⟨m, m1, m2, m3, m4⟩
  · exact Or.inl z
  · exact Or.inr ⟨m, by omega, m2, m3, m4⟩
/-- the mended rule fits at every length that has room for it -/
theorem rt_bm_fit {a c o : Nat → rt_F} {L ol : Nat} {b : rt_F} {sh n M : Nat} (h : rt_bm a c o L ol b sh n) (hM : L ≤ M) (hM2 : sh + ol ≤ M) (hL : L = 0 → n < M) : rt_fit (rt_rep c o ((a n - rt_dis c a L n) * rt_inv b) sh ol) a M (n + 1) := by
  obtain ⟨h1, h2, h3, h4, h5, h6, h7, h8⟩ := h
  intro t t1 t2
  rw [rt_rep_dis c o a _ h6 hM2, rt_dis_long hM h4]
  rcases h8 with z | ⟨m, m1, m2, m3, m4⟩
  · exact absurd (hL z) (by omega)
  · rcases Nat.lt_or_ge t n with z | z
    · rw [← h1 t (by omega) z, ← m3 (t - sh) (by omega) (by omega)]; grind
    · have e : t = n := by omega
      subst e
      have e2 : t - sh = m := by omega
      rw [e2, ← m4]
      have e3 := rt_inv_mul h5
      grind
theorem rt_bm_zero {a c o : Nat → rt_F} {L ol : Nat} {b : rt_F} {sh n M : Nat} {f : rt_F} (h : rt_bm a c o L ol b sh n) (hM : L ≤ M) (hM2 : sh + ol ≤ M) : ∀ j, M ≤ j → rt_rep c o f sh ol j = 0 := by
  obtain ⟨h1, h2, h3, h4, h5, h6, h7, h8⟩ := h
  intro j hj
  unfold rt_rep
  rw [if_neg (by omega), if_neg (by omega), if_neg (by omega)]
  exact h4 j (by omega)
theorem rt_bm_keep {a c o : Nat → rt_F} {L ol : Nat} {b : rt_F} {sh n : Nat} (h : rt_bm a c o L ol b sh n) (h2 : n < 2 * L) : rt_bm a (rt_rep c o ((a n - rt_dis c a L n) * rt_inv b) sh ol) o L ol b (sh + 1) (n + 1) := by
  have k := h
  obtain ⟨k1, k2, k3, k4, k5, k6, k7, k8⟩ := k
  refine ⟨rt_bm_fit h (by omega) (by omega) (by omega), by omega, rt_min_s k3, rt_bm_zero h (by omega) (by omega), k5, by omega, by omega, ?_⟩
  rcases k8 with z | ⟨m, m1, m2, m3, m4⟩
  · exact Or.inl z
  · exact Or.inr ⟨m, by omega, m2, m3, m4⟩
theorem rt_bm_grow {a c o : Nat → rt_F} {L ol : Nat} {b : rt_F} {sh n : Nat} (h : rt_bm a c o L ol b sh n) (h2 : 2 * L ≤ n) (hg : a n - rt_dis c a L n ≠ 0) : rt_bm a (rt_rep c o ((a n - rt_dis c a L n) * rt_inv b) sh ol) c (n + 1 - L) L (a n - rt_dis c a L n) 1 (n + 1) := by
  have k := h
  obtain ⟨k1, k2, k3, k4, k5, k6, k7, k8⟩ := k
  refine ⟨rt_bm_fit h (by omega) (by omega) (by omega), by omega, fun d l hd => ?_, rt_bm_zero h (by omega) (by omega), hg, by omega, by omega, Or.inr ⟨n, by omega, k2, k1, rfl⟩⟩
  have := rt_massey k1 k2 (fun z => hg (by rw [z]; grind)) hd
  omega
theorem rt_bm_end {a c o : Nat → rt_F} {L ol : Nat} {b : rt_F} {sh n : Nat} (h : rt_bm a c o L ol b sh n) : rt_fit c a L n ∧ rt_min a L n ∧ L ≤ n := ⟨h.1, h.2.2.1, h.2.1⟩
theorem rt_best_ex (a : Nat → rt_F) (N : Nat) : ∃ c L, rt_fit c a L N ∧ rt_min a L N := by
  obtain ⟨L, ⟨c, hc⟩, hm⟩ := pk_least (fun L => ∃ c, rt_fit c a L N) ⟨N, fun _ => 0, fun n h1 h2 => absurd h1 (by omega)⟩
  refine ⟨c, L, hc, fun d l hd => ?_⟩
  rcases Nat.lt_or_ge l L with z | z
  · exact absurd ⟨d, hd⟩ (hm l z)
  · exact z
theorem rt_min_eq {a b c d : Nat → rt_F} {L M N : Nat} (e : ∀ n, n < N → a n = b n) (h1 : rt_fit c a L N) (h2 : rt_min a L N) (g1 : rt_fit d b M N) (g2 : rt_min b M N) : L = M := by
  have tr : ∀ {x y q : Nat → rt_F} {l : Nat}, (∀ n, n < N → x n = y n) → rt_fit q x l N → rt_fit q y l N := by
    intro x y q l exy hq n n1 n2
    rw [← exy n n2, hq n n1 n2]
    exact rt_sum_congr (fun i hi => by rw [exy (n - 1 - i) (by omega)])
  have u1 := h2 d M (tr (fun n hn => (e n hn).symm) g1)
  have u2 := g2 c L (tr e h1)
  omega
/-- a shortest rule is the only one where twice its length is at hand -/
theorem rt_uniq {c d a : Nat → rt_F} {L N : Nat} (hc : rt_fit c a L N) (hd : rt_fit d a L N) (hm : rt_min a L N) (h2 : 2 * L ≤ N) : ∀ i, i < L → c i = d i := by
  intro i hi
  rcases Classical.em (c i = d i) with z | z
  · exact z
  · exfalso
    obtain ⟨p, ⟨p1, p2⟩, p3⟩ := pk_least (fun p => p < L ∧ c p ≠ d p) ⟨i, hi, z⟩
    have hz : ∀ j, j < p → c j - d j = 0 := by
      intro j hj
      rcases Classical.em (c j = d j) with y | y
      · rw [y]; grind
      · exact absurd ⟨by omega, y⟩ (p3 j hj)
    have hp : c p - d p ≠ 0 := fun y => p2 (rt_sub0 y)
    obtain ⟨M, rfl⟩ : ∃ M, L = p + (M + 1) := ⟨L - p - 1, by omega⟩
    have F0 : rt_fit (fun j => (-(c (p + (j + 1)) - d (p + (j + 1)))) * rt_inv (c p - d p)) a M (N - 1 - p) := by
      intro m m1 m2
      have e1 := hc (m + 1 + p) (by omega) (by omega)
      have e2 := hd (m + 1 + p) (by omega) (by omega)
      have e3 : rt_sum (fun j => (c j - d j) * a (m + 1 + p - 1 - j)) (p + (M + 1)) = 0 := by
        have e4 : rt_dis c a (p + (M + 1)) (m + 1 + p) = rt_dis d a (p + (M + 1)) (m + 1 + p) + rt_sum (fun j => (c j - d j) * a (m + 1 + p - 1 - j)) (p + (M + 1)) := by
          unfold rt_dis
          rw [← rt_sum_add]
          exact rt_sum_congr (fun j hj => by grind)
        rw [← e1, ← e2] at e4
        grind
      rw [rt_sum_split, rt_sum_head, rt_sum_zero (n := p) (fun j hj => by rw [hz j hj]; grind)] at e3
      have e5 : rt_dis (fun j => (-(c (p + (j + 1)) - d (p + (j + 1)))) * rt_inv (c p - d p)) a M m = (-(rt_inv (c p - d p))) * rt_sum (fun j => (c (p + (j + 1)) - d (p + (j + 1))) * a (m + 1 + p - 1 - (p + (j + 1)))) M := by
        rw [← rt_sum_mul]
        refine rt_sum_congr (fun j hj => ?_)
        rw [show m + 1 + p - 1 - (p + (j + 1)) = m - 1 - j by omega]; grind
      rw [e5]
      have e6 : m + 1 + p - 1 - (p + 0) = m := by omega
      rw [e6] at e3
      have e7 := rt_inv_mul hp
      have e8 : (c (p + 0) - d (p + 0)) = c p - d p := rfl
      rw [e8] at e3
      grind
    have F : ∀ n, N - 1 - p + n ≤ N → rt_fit (fun j => (-(c (p + (j + 1)) - d (p + (j + 1)))) * rt_inv (c p - d p)) a M (N - 1 - p + n) := by
      intro n
      induction n with
      | zero => intro _; exact F0
      | succ n ih =>
        intro hn
        have ih' := ih (by omega)
        refine rt_fit_s ih' (fun _ => ?_)
        rcases Classical.em (a (N - 1 - p + n) = rt_dis (fun j => (-(c (p + (j + 1)) - d (p + (j + 1)))) * rt_inv (c p - d p)) a M (N - 1 - p + n)) with y | y
        · exact y
        · have := rt_massey ih' (by omega) y (rt_fit_mono hc (by omega))
          omega
    have := hm _ _ (rt_fit_mono (F (p + 1) (by omega)) (M := N) (by omega))
    omega
end
section
def rt_sk (p i : Nat) : Nat := if i < p then i else i + 1
def rt_un (p : Nat) (x : rt_F) (e : Nat → rt_F) : Nat → rt_F := fun i => if i < p then e i else if i = p then x else e (i - 1)
theorem rt_un_sk (p : Nat) (x : rt_F) (e : Nat → rt_F) (i : Nat) : rt_un p x e (rt_sk p i) = e i := by
  unfold rt_un rt_sk
  by_cases h : i < p
  · rw [if_pos h, if_pos h]
  · rw [if_neg h, if_neg (by omega), if_neg (by omega)]; rfl
theorem rt_un_p (p : Nat) (x : rt_F) (e : Nat → rt_F) : rt_un p x e p = x := by
  unfold rt_un
  rw [if_neg (by omega), if_pos rfl]
theorem rt_sum_sk (g : Nat → rt_F) {p n : Nat} (h : p ≤ n) : rt_sum g (n + 1) = g p + rt_sum (fun i => g (rt_sk p i)) n := rt_sum_skip g h
/-- one vector more than places: a dependence -/
theorem rt_dep : ∀ (D : Nat) (v : Nat → Nat → rt_F), ∃ d : Nat → rt_F, (∃ i, i ≤ D ∧ d i ≠ 0) ∧ ∀ j, j < D → rt_sum (fun i => d i * v i j) (D + 1) = 0 := by
  intro D
  induction D with
  | zero => intro v; exact ⟨fun _ => 1, ⟨0, Nat.le_refl 0, by decide⟩, fun j hj => absurd hj (by omega)⟩
  | succ D ih =>
    intro v
    rcases Classical.em (∃ p, p ≤ D + 1 ∧ v p D ≠ 0) with ⟨p, p1, p2⟩ | z
    · have q := rt_inv_mul p2
      obtain ⟨e, ⟨i, i1, i2⟩, he⟩ := ih (fun i j => v (rt_sk p i) j - v (rt_sk p i) D * rt_inv (v p D) * v p j)
      refine ⟨rt_un p ((-(rt_inv (v p D))) * rt_sum (fun i => e i * v (rt_sk p i) D) (D + 1)) e, ⟨rt_sk p i, ?_, ?_⟩, fun j hj => ?_⟩
      · unfold rt_sk
        split <;> omega
      · rw [rt_un_sk]; exact i2
      · rw [rt_sum_sk _ p1, rt_un_p]
        have e1 : rt_sum (fun i => rt_un p ((-(rt_inv (v p D))) * rt_sum (fun i => e i * v (rt_sk p i) D) (D + 1)) e (rt_sk p i) * v (rt_sk p i) j) (D + 1) = rt_sum (fun i => e i * v (rt_sk p i) j) (D + 1) := rt_sum_congr (fun i _ => by rw [rt_un_sk])
        rw [e1]
        rcases Nat.lt_or_ge j D with y | y
        · have h := he j y
          have e2 : rt_sum (fun i => e i * (v (rt_sk p i) j - v (rt_sk p i) D * rt_inv (v p D) * v p j)) (D + 1) = rt_sum (fun i => e i * v (rt_sk p i) j) (D + 1) + (-(rt_inv (v p D) * v p j)) * rt_sum (fun i => e i * v (rt_sk p i) D) (D + 1) := by
            rw [← rt_sum_mul, ← rt_sum_add]
            exact rt_sum_congr (fun i _ => by grind)
          rw [e2] at h
          grind
        · have ej : j = D := by omega
          rw [ej]
          grind
    · obtain ⟨e, ⟨i, i1, i2⟩, he⟩ := ih v
      refine ⟨fun x => if x ≤ D then e x else 0, ⟨i, by omega, by dsimp only; rw [if_pos i1]; exact i2⟩, fun j hj => ?_⟩
      rcases Nat.lt_or_ge j D with y | y
      · rw [rt_sum_s, rt_sum_congr (h := fun i => e i * v i j) (fun i hi => by dsimp only; rw [if_pos (by omega)]), he j y]
        dsimp only
        rw [if_neg (by omega)]
        grind
      · refine rt_sum_zero (fun i hi => ?_)
        have ej : j = D := by omega
        rcases Classical.em (v i D = 0) with w | w
        · rw [ej, w]; grind
        · exact absurd ⟨i, by omega, w⟩ z
theorem rt_top {d : Nat → rt_F} : ∀ {D : Nat}, (∃ i, i ≤ D ∧ d i ≠ 0) → ∃ t, t ≤ D ∧ d t ≠ 0 ∧ ∀ i, t < i → i ≤ D → d i = 0 := by
  intro D
  induction D with
  | zero =>
    rintro ⟨i, h1, h2⟩
    have e : i = 0 := by omega
    exact ⟨0, Nat.le_refl 0, e ▸ h2, fun i a b => absurd a (by omega)⟩
  | succ D ih =>
    rintro ⟨i, h1, h2⟩
    rcases Classical.em (d (D + 1) = 0) with z | z
    · have hi : i ≠ D + 1 := fun e => h2 (by rw [e]; exact z)
      obtain ⟨t, t1, t2, t3⟩ := ih ⟨i, by omega, h2⟩
      refine ⟨t, by omega, t2, fun i a b => ?_⟩
      rcases Nat.lt_or_ge D i with w | w
      · have e : i = D + 1 := by omega
        rw [e]; exact z
      · exact t3 i a w
    · exact ⟨D + 1, Nat.le_refl _, z, fun i a b => absurd a (by omega)⟩
theorem rt_lin (v : Nat → Nat → rt_F) (D : Nat) (hs : ∀ (d : Nat → rt_F) (N n : Nat), (∀ j, j < D → rt_sum (fun i => d i * v (n + i) j) N = 0) → ∀ j, j < D → rt_sum (fun i => d i * v (n + 1 + i) j) N = 0) : ∃ (M : Nat) (c : Nat → rt_F), M ≤ D ∧ ∀ j, j < D → ∀ n, M ≤ n → v n j = rt_sum (fun i => c i * v (n - 1 - i) j) M := by
  obtain ⟨d, hne, hd⟩ := rt_dep D v
  obtain ⟨t, t1, t2, t3⟩ := rt_top hne
  have H : ∀ n, ∀ j, j < D → rt_sum (fun i => d i * v (n + i) j) (D + 1) = 0 := by
    intro n
    induction n with
    | zero => intro j hj; rw [← hd j hj]; exact rt_sum_congr (fun i _ => by rw [Nat.zero_add])
    | succ n ih => exact hs d (D + 1) n ih
  refine ⟨t, fun i => (-(rt_inv (d t))) * d (t - 1 - i), t1, fun j hj n hn => ?_⟩
  have e := H (n - t) j hj
  rw [rt_sum_trunc (m := t + 1) (by omega) (fun i i1 i2 => by rw [t3 i (by omega) (by omega)]; grind), rt_sum_s, show n - t + t = n by omega] at e
  have e2 : rt_sum (fun i => (-(rt_inv (d t))) * d (t - 1 - i) * v (n - 1 - i) j) t = (-(rt_inv (d t))) * rt_sum (fun i => d i * v (n - t + i) j) t := by
    rw [← rt_sum_mul, ← rt_sum_rev (fun i => (-(rt_inv (d t))) * (d i * v (n - t + i) j)) t]
    exact rt_sum_congr (fun i hi => by rw [show n - t + (t - 1 - i) = n - 1 - i by omega]; grind)
  rw [e2]
  have e3 := rt_inv_mul t2
  grind
theorem rt_shift {c a : Nat → rt_F} {A : Nat} (ha : rt_all c a A) (x : Nat → rt_F) (N n : Nat) (h : ∀ j, j < A → rt_sum (fun i => x i * a (n + i + j)) N = 0) : ∀ j, j ≤ A → rt_sum (fun i => x i * a (n + i + j)) N = 0 := by
  intro j hj
  rcases Nat.lt_or_ge j A with z | z
  · exact h j z
  · have ej : j = A := by omega
    subst ej
    have e1 : rt_sum (fun i => x i * a (n + i + j)) N = rt_sum (fun i => rt_sum (fun l => c l * (x i * a (n + i + (j - 1 - l)))) j) N := by
      refine rt_sum_congr (fun i _ => ?_)
      rw [ha (n + i + j) (by omega)]
      unfold rt_dis
      rw [← rt_sum_mul]
      exact rt_sum_congr (fun l hl => by rw [show n + i + j - 1 - l = n + i + (j - 1 - l) by omega]; grind)
    rw [e1, rt_sum_swap]
    refine rt_sum_zero (fun l hl => ?_)
    rw [rt_sum_mul, h (j - 1 - l) (by omega)]; grind
theorem rt_all_0 {c a : Nat → rt_F} (h : rt_all c a 0) : ∀ n, a n = 0 := fun n => h n (by omega)
/-- the sum of two sequences -/
theorem rt_bsum {a b c d : Nat → rt_F} {A B : Nat} (ha : rt_all c a A) (hb : rt_all d b B) : ∃ (M : Nat) (e : Nat → rt_F), M ≤ A + B ∧ rt_all e (fun n => a n + b n) M := by
  obtain ⟨M, e, hM, he⟩ := rt_lin (fun n j => if j < A then a (n + j) else b (n + (j - A))) (A + B) (by
    intro x N n h j hj
    have h1 : ∀ j, j < A → rt_sum (fun i => x i * a (n + i + j)) N = 0 := fun j hj => by
      rw [← h j (by omega)]
      exact rt_sum_congr (fun i _ => by rw [if_pos hj])
    have h2 : ∀ j, j < B → rt_sum (fun i => x i * b (n + i + j)) N = 0 := fun j hj => by
      rw [← h (A + j) (by omega)]
      exact rt_sum_congr (fun i _ => by rw [if_neg (by omega), show A + j - A = j by omega])
    rcases Nat.lt_or_ge j A with z | z
    · rw [← rt_shift ha x N n h1 (j + 1) (by omega)]
      exact rt_sum_congr (fun i _ => by rw [if_pos z, show n + 1 + i + j = n + i + (j + 1) by omega])
    · rw [← rt_shift hb x N n h2 (j - A + 1) (by omega)]
      exact rt_sum_congr (fun i _ => by rw [if_neg (by omega), show n + 1 + i + (j - A) = n + i + (j - A + 1) by omega]))
  refine ⟨M, e, hM, fun n hn => ?_⟩
  have ea : a n = rt_dis e a M n := by
    rcases Nat.eq_zero_or_pos A with z | z
    · subst z
      rw [rt_all_0 ha n]
      exact (rt_sum_zero (fun i _ => by rw [rt_all_0 ha]; grind)).symm
    · have := he 0 (by omega) n hn
      rw [if_pos z] at this
      rw [show a n = a (n + 0) from rfl, this]
      exact rt_sum_congr (fun i _ => by rw [if_pos z]; rfl)
  have eb : b n = rt_dis e b M n := by
    rcases Nat.eq_zero_or_pos B with z | z
    · subst z
      rw [rt_all_0 hb n]
      exact (rt_sum_zero (fun i _ => by rw [rt_all_0 hb]; grind)).symm
    · have := he A (by omega) n hn
      rw [if_neg (by omega), Nat.sub_self] at this
      rw [show b n = b (n + 0) from rfl, this]
      exact rt_sum_congr (fun i _ => by rw [if_neg (by omega)]; rfl)
  show a n + b n = rt_sum (fun i => e i * (a (n - 1 - i) + b (n - 1 - i))) M
  rw [rt_sum_congr (h := fun i => e i * a (n - 1 - i) + e i * b (n - 1 - i)) (fun i _ => by grind), rt_sum_add]
  exact congr (congrArg _ ea) eb
/-- the product of two sequences -/
theorem rt_bprod {a b c d : Nat → rt_F} {A B : Nat} (ha : rt_all c a A) (hb : rt_all d b B) : ∃ (M : Nat) (e : Nat → rt_F), M ≤ A * B ∧ rt_all e (fun n => a n * b n) M := by
  rcases Nat.eq_zero_or_pos A with zA | zA
  · subst zA
    refine ⟨0, fun _ => 0, by omega, fun n _ => ?_⟩
    show a n * b n = 0
    rw [rt_all_0 ha n]; grind
  rcases Nat.eq_zero_or_pos B with zB | zB
  · subst zB
    refine ⟨0, fun _ => 0, by omega, fun n _ => ?_⟩
    show a n * b n = 0
    rw [rt_all_0 hb n]; grind
  obtain ⟨M, e, hM, he⟩ := rt_lin (fun n l => a (n + l / B) * b (n + l % B)) (A * B) (by
    intro x N n h l hl
    have h0 : ∀ j j', j < A → j' < B → rt_sum (fun i => x i * (a (n + i + j) * b (n + i + j'))) N = 0 := fun j j' hj hj' => by
      have hl : j * B + j' < A * B := by
        have : (j + 1) * B ≤ A * B := Nat.mul_le_mul_right B hj
        rw [Nat.succ_mul] at this
        omega
      have e1 : (j * B + j') / B = j := by
        rw [Nat.mul_comm, Nat.mul_add_div zB, Nat.div_eq_of_lt hj', Nat.add_zero]
      have e2 : (j * B + j') % B = j' := by
        rw [Nat.mul_comm, Nat.mul_add_mod, Nat.mod_eq_of_lt hj']
      rw [← h (j * B + j') hl]
      exact rt_sum_congr (fun i _ => by rw [e1, e2])
    have h1 : ∀ j j', j ≤ A → j' < B → rt_sum (fun i => x i * (a (n + i + j) * b (n + i + j'))) N = 0 := fun j j' hj hj' => by
      rw [← rt_shift ha (fun i => x i * b (n + i + j')) N n (fun j hj => by
        rw [← h0 j j' hj hj']
        exact rt_sum_congr (fun i _ => by grind)) j hj]
      exact rt_sum_congr (fun i _ => by grind)
    have h2 : ∀ j j', j ≤ A → j' ≤ B → rt_sum (fun i => x i * (a (n + i + j) * b (n + i + j'))) N = 0 := fun j j' hj hj' => by
      rw [← rt_shift hb (fun i => x i * a (n + i + j)) N n (fun j' hj' => by
        rw [← h1 j j' hj hj']
        exact rt_sum_congr (fun i _ => by grind)) j' hj']
      exact rt_sum_congr (fun i _ => by grind)
    have q1 : l / B < A := (Nat.div_lt_iff_lt_mul zB).mpr hl
    have q2 : l % B < B := Nat.mod_lt _ zB
    rw [← h2 (l / B + 1) (l % B + 1) (by omega) (by omega)]
    exact rt_sum_congr (fun i _ => by rw [show n + 1 + i + l / B = n + i + (l / B + 1) by omega, show n + 1 + i + l % B = n + i + (l % B + 1) by omega]))
  have hD : 0 < A * B := Nat.mul_pos zA zB
  refine ⟨M, e, hM, fun n hn => ?_⟩
  have := he 0 hD n hn
  rw [Nat.zero_div, Nat.zero_mod] at this
  exact this
end
section
/-- the sequence of a rule and first terms -/
def rt_pre (k : Nat) (r f : Nat → rt_F) : Nat → (Nat → rt_F)
  | 0 => fun _ => 0
  | n + 1 => fun m => if m = n then (if n < k then f n else rt_dis r (rt_pre k r f n) k n) else rt_pre k r f n m
def rt_seq (k : Nat) (r f : Nat → rt_F) (n : Nat) : rt_F := rt_pre k r f (n + 1) n
theorem rt_pre_lt {k : Nat} {r f : Nat → rt_F} {m : Nat} : ∀ {n : Nat}, m < n → rt_pre k r f n m = rt_seq k r f m := by
  intro n
  induction n with
  | zero => intro h; exact absurd h (by omega)
  | succ n ih =>
    intro h
    by_cases e : m = n
    · rw [e]; rfl
    · have s : rt_pre k r f (n + 1) m = rt_pre k r f n m := if_neg e
      rw [s]; exact ih (by omega)
theorem rt_seq_first {k : Nat} {r f : Nat → rt_F} {n : Nat} (h : n < k) : rt_seq k r f n = f n := by
  have s : rt_seq k r f n = (if n < k then f n else rt_dis r (rt_pre k r f n) k n) := if_pos rfl
  rw [s, if_pos h]
theorem rt_seq_all (k : Nat) (r f : Nat → rt_F) : rt_all r (rt_seq k r f) k := by
  intro n hn
  have s : rt_seq k r f n = (if n < k then f n else rt_dis r (rt_pre k r f n) k n) := if_pos rfl
  rw [s, if_neg (by omega)]
  exact rt_sum_congr (fun i hi => by rw [rt_pre_lt (by omega)])
theorem rt_seq_uniq {k : Nat} {r f a : Nat → rt_F} (h1 : ∀ n, n < k → a n = f n) (h2 : rt_all r a k) : ∀ n, a n = rt_seq k r f n := by
  intro n
  induction n using Nat.strongRecOn with
  | _ n ih =>
    rcases Nat.lt_or_ge n k with z | z
    · rw [h1 n z, rt_seq_first z]
    · rw [h2 n z, rt_seq_all k r f n z]
      exact rt_sum_congr (fun i hi => by rw [ih (n - 1 - i) (by omega)])
theorem rt_seq_congr {k : Nat} {r f r' f' : Nat → rt_F} (h1 : ∀ i, i < k → r i = r' i) (h2 : ∀ i, i < k → f i = f' i) : ∀ n, rt_seq k r f n = rt_seq k r' f' n :=
  rt_seq_uniq (fun n hn => by rw [rt_seq_first hn, h2 n hn]) (fun n hn => by
    rw [rt_seq_all k r f n hn]
    exact rt_sum_congr (fun i hi => by rw [h1 i hi]))
/-- a shorter rule that fits long enough: the same sequence -/
theorem rt_seq_short {k L : Nat} {r f c : Nat → rt_F} {N : Nat} (hc : rt_fit c (rt_seq k r f) L N) (hN : L + k ≤ N) (hL : L ≤ k) : ∀ n, rt_seq k r f n = rt_seq L c f n :=
  rt_seq_uniq (fun n hn => rt_seq_first (by omega)) (rt_ext (rt_seq_all k r f) hc hN)
/-- the action of a polynomial on a sequence -/
def rt_act (p b : Nat → rt_F) (k t : Nat) : rt_F := rt_sum (fun i => p i * b (t + i)) k
def rt_sat (m b : Nat → rt_F) (k : Nat) : Prop := ∀ t, b (t + k) = rt_act m b k t
theorem rt_act_congr {p q b : Nat → rt_F} {k t : Nat} (h : ∀ i, i < k → p i = q i) : rt_act p b k t = rt_act q b k t := rt_sum_congr (fun i hi => by rw [h i hi])
theorem rt_act_s (p b : Nat → rt_F) (k t : Nat) : rt_act p b (k + 1) t = rt_act p b k t + p k * b (t + k) := rfl
theorem rt_sat_congr {m q b : Nat → rt_F} {k : Nat} (h : ∀ i, i < k → q i = m i) (hs : rt_sat m b k) : rt_sat q b k := fun t => by rw [hs t, rt_act_congr h]
theorem rt_all_sat {r a : Nat → rt_F} {k : Nat} (h : rt_all r a k) : rt_sat (fun j => r (k - 1 - j)) a k := by
  intro t
  rw [h (t + k) (by omega)]
  unfold rt_dis rt_act
  rw [← rt_sum_rev]
  exact rt_sum_congr (fun i hi => by rw [show t + k - 1 - (k - 1 - i) = t + i by omega])
/-- one place written -/
def rt_up (p : Nat → rt_F) (k : Nat) (x : rt_F) : Nat → rt_F := fun j => if j = k then x else p j
theorem rt_up_s (p : Nat → rt_F) (k : Nat) (x : rt_F) : rt_up p k x k = x := if_pos rfl
theorem rt_up_n (p : Nat → rt_F) (x : rt_F) {k j : Nat} (h : j ≠ k) : rt_up p k x j = p j := if_neg h
theorem rt_act_up (p b : Nat → rt_F) (x : rt_F) {l k t : Nat} (h : l < k) : rt_act (rt_up p l x) b k t = rt_act p b k t + (x - p l) * b (t + l) := by
  obtain ⟨n, rfl⟩ : ∃ n, k = n + 1 := ⟨k - 1, by omega⟩
  unfold rt_act
  rw [rt_sum_sk _ (show l ≤ n by omega), rt_sum_sk (fun i => p i * b (t + i)) (show l ≤ n by omega), rt_up_s]
  have e : rt_sum (fun i => rt_up p l x (rt_sk l i) * b (t + rt_sk l i)) n = rt_sum (fun i => p (rt_sk l i) * b (t + rt_sk l i)) n := rt_sum_congr (fun i _ => by
    rw [rt_up_n p x (show rt_sk l i ≠ l by unfold rt_sk; split <;> omega)])
  rw [e]; grind
theorem rt_act_hi {p b : Nat → rt_F} {l k t : Nat} {x : rt_F} (h : k ≤ l) : rt_act (rt_up p l x) b k t = rt_act p b k t := rt_act_congr (fun i hi => rt_up_n p x (by omega))
/-- times X -/
def rt_tx (p m : Nat → rt_F) (k : Nat) : Nat → rt_F := fun i => (if 0 < i then p (i - 1) else 0) + p (k - 1) * m i
theorem rt_tx_act {p m b : Nat → rt_F} {k n : Nat} (hk : 0 < k) (hm : rt_sat m b k) (hp : ∀ t, b (t + n) = rt_act p b k t) : ∀ t, b (t + (n + 1)) = rt_act (rt_tx p m k) b k t := by
  intro t
  have e1 : rt_act (rt_tx p m k) b k t = rt_sum (fun i => (if 0 < i then p (i - 1) else 0) * b (t + i)) k + p (k - 1) * rt_act m b k t := by
    unfold rt_act rt_tx
    rw [← rt_sum_mul, ← rt_sum_add]
    exact rt_sum_congr (fun i _ => by grind)
  rw [e1, ← hm t, show t + (n + 1) = (t + 1) + n by omega, hp (t + 1)]
  obtain ⟨q, rfl⟩ : ∃ q, k = q + 1 := ⟨k - 1, by omega⟩
  rw [rt_sum_head, rt_act_s, if_neg (by omega)]
  have e2 : rt_sum (fun i => (if 0 < i + 1 then p (i + 1 - 1) else 0) * b (t + (i + 1))) q = rt_act p b q (t + 1) := rt_sum_congr (fun i _ => by
    rw [if_pos (by omega), show t + (i + 1) = t + 1 + i by omega]; rfl)
  rw [e2, show t + 1 + q = t + (q + 1) by omega]
  show _ = (0 : rt_F) * b (t + 0) + rt_act p b q (t + 1) + p q * b (t + (q + 1))
  grind
/-- the running sums -/
def rt_S (a : Nat → rt_F) (n : Nat) : rt_F := rt_sum a (n + 1)
def rt_tl (m : Nat → rt_F) (k : Nat) : Nat → rt_F := fun j => (if 0 < j then m (j - 1) else 0) - (if j < k then m j else 0) + (if j = k then 1 else 0)
theorem rt_S_s (a : Nat → rt_F) (n : Nat) : rt_S a (n + 1) = rt_S a n + a (n + 1) := rfl
theorem rt_S_sat {m a : Nat → rt_F} {k : Nat} (h : rt_sat m a k) : rt_sat (rt_tl m k) (rt_S a) (k + 1) := by
  intro t
  have e1 : rt_act (rt_tl m k) (rt_S a) (k + 1) t = rt_sum (fun j => (if 0 < j then m (j - 1) else 0) * rt_S a (t + j)) (k + 1) + (-1) * rt_sum (fun j => (if j < k then m j else 0) * rt_S a (t + j)) (k + 1) + rt_sum (fun j => (if j = k then 1 else 0) * rt_S a (t + j)) (k + 1) := by
    unfold rt_act rt_tl
    rw [← rt_sum_mul, ← rt_sum_add, ← rt_sum_add]
    exact rt_sum_congr (fun i _ => by grind)
  have e2 : rt_sum (fun j => (if 0 < j then m (j - 1) else 0) * rt_S a (t + j)) (k + 1) = rt_sum (fun j => m j * rt_S a (t + j + 1)) k := by
    rw [rt_sum_head, if_neg (by omega)]
    rw [rt_sum_congr (n := k) (h := fun j => m j * rt_S a (t + j + 1)) (fun i _ => by rw [if_pos (by omega)]; rfl)]
    grind
  have e3 : rt_sum (fun j => (if j < k then m j else 0) * rt_S a (t + j)) (k + 1) = rt_sum (fun j => m j * rt_S a (t + j)) k := by
    rw [rt_sum_s, if_neg (by omega), rt_sum_congr (h := fun j => m j * rt_S a (t + j)) (fun i hi => by rw [if_pos hi])]
    grind
  have e4 : rt_sum (fun j => (if j = k then 1 else 0) * rt_S a (t + j)) (k + 1) = rt_S a (t + k) := by
    rw [rt_sum_s, if_pos rfl, rt_sum_zero (fun i hi => by rw [if_neg (by omega)]; grind)]
    grind
  have e5 : rt_sum (fun j => m j * rt_S a (t + j + 1)) k = rt_sum (fun j => m j * rt_S a (t + j)) k + rt_act m a k (t + 1) := by
    unfold rt_act
    rw [← rt_sum_add]
    exact rt_sum_congr (fun i _ => by rw [rt_S_s, show t + 1 + i = t + i + 1 by omega]; grind)
  rw [e1, e2, e3, e4, e5, ← h (t + 1)]
  show rt_S a (t + k + 1) = _
  rw [rt_S_s, show t + 1 + k = t + k + 1 by omega]
  grind
end
section
/-- a field element as an int -/
def rt_I (x : rt_F) : Int32 := nI x.val
def rt_ar (a : Nat → Int32) (p : Nat → rt_F) (n : Nat) : Prop := ∀ j, j < n → a j = rt_I (p j)
theorem rt_I_0 : rt_I 0 = 0 := rfl
theorem rt_I_1 : rt_I 1 = 1 := rfl
theorem rt_I_eq {x y : rt_F} : rt_I x = rt_I y ↔ x = y := by
  have hx := x.isLt
  have hy := y.isLt
  unfold rt_I
  rw [nI_eq (by omega) (by omega)]
  exact ⟨fun h => Fin.ext h, fun h => by rw [h]⟩
theorem rt_rem {n : Nat} (h : n < 2 ^ 31) : nI n - nI n / 997 * 997 = nI (n % 997) := pk_rem (d := 997) h (by omega) (by omega)
theorem rt_mb (y z : rt_F) : y.val * z.val ≤ 996 * 996 := Nat.mul_le_mul (by have := y.isLt; omega) (by have := z.isLt; omega)
theorem rt_mac {a b c : Int32} {x y z : rt_F} (ha : a = rt_I x) (hb : b = rt_I y) (hc : c = rt_I z) : (a + b * c) - (a + b * c) / 997 * 997 = rt_I (x + y * z) := by
  have e : a + b * c = nI (x.val + y.val * z.val) := by
    rw [ha, hb, hc]
    unfold rt_I
    rw [pk_mul, nI_add]
  have h1 := rt_mb y z
  have h2 := x.isLt
  rw [e, rt_rem (by omega)]
  exact congrArg nI (by rw [Fin.val_add, Fin.val_mul, Nat.add_mod_mod])
theorem rt_mul2 {b c : Int32} {y z : rt_F} (hb : b = rt_I y) (hc : c = rt_I z) : (b * c) - (b * c) / 997 * 997 = rt_I (y * z) := by
  have e : b * c = nI (y.val * z.val) := by
    rw [hb, hc]
    unfold rt_I
    rw [pk_mul]
  have h1 := rt_mb y z
  rw [e, rt_rem (by omega)]
  exact congrArg nI (by rw [Fin.val_mul])
theorem rt_add2 {b c : Int32} {y z : rt_F} (hb : b = rt_I y) (hc : c = rt_I z) : (b + c) - (b + c) / 997 * 997 = rt_I (y + z) := by
  have e : b + c = nI (y.val + z.val) := by
    rw [hb, hc]
    unfold rt_I
    rw [nI_add]
  have h1 := y.isLt
  have h2 := z.isLt
  rw [e, rt_rem (by omega)]
  exact congrArg nI (by rw [Fin.val_add])
theorem rt_negv (y : rt_F) : (-y).val = (997 - y.val) % 997 := rfl
theorem rt_msc {a b c : Int32} {x y z : rt_F} (ha : a = rt_I x) (hb : b = rt_I y) (hc : c = rt_I z) : (a + (997 - b) * c) - (a + (997 - b) * c) / 997 * 997 = rt_I (x - y * z) := by
  have h2 := x.isLt
  have h3 := y.isLt
  have h4 := z.isLt
  have e : a + (997 - b) * c = nI (x.val + (997 - y.val) * z.val) := by
    rw [ha, hb, hc]
    unfold rt_I
    rw [show (997 : Int32) = nI 997 from rfl, pk_sub (by omega), pk_mul, nI_add]
  have h1 : (997 - y.val) * z.val ≤ 997 * 996 := Nat.mul_le_mul (by omega) (by omega)
  rw [e, rt_rem (by omega), show x - y * z = x + (-y) * z by grind]
  exact congrArg nI (by rw [Fin.val_add, Fin.val_mul, Nat.add_mod_mod, rt_negv, Nat.add_mod, ← Nat.mod_mul_mod, ← Nat.add_mod])
theorem rt_tlv {a b c : Int32} {x y z : rt_F} (ha : a = rt_I x) (hb : b = rt_I y) (hc : c = rt_I z) : (((a + 997) - b) + c) - (((a + 997) - b) + c) / 997 * 997 = rt_I (x - y + z) := by
  have h2 := x.isLt
  have h3 := y.isLt
  have h4 := z.isLt
  have e : ((a + 997) - b) + c = nI (x.val + 997 - y.val + z.val) := by
    rw [ha, hb, hc]
    unfold rt_I
    rw [show (997 : Int32) = nI 997 from rfl, nI_add, pk_sub (by omega), nI_add]
  rw [e, rt_rem (by omega)]
  refine congrArg nI ?_
  rw [Fin.val_add, Fin.val_sub]
  omega
theorem rt_neg_rem (v : Int32) (h : v < 0) : ∃ w : Nat, v.toInt = -(w : Int) ∧ (v - v / 997 * 997).toInt = -((w % 997 : Nat) : Int) := by
  have h0 : (0 : Int32).toInt = 0 := by decide
  have h997 : (997 : Int32).toInt = 997 := by decide
  have hv : v.toInt < 0 := by rw [Int32.lt_iff_toInt_lt, h0] at h; exact h
  have hb := Int32.le_toInt v
  obtain ⟨w, hw⟩ : ∃ w : Nat, v.toInt = -(w : Int) := ⟨(-v.toInt).toNat, by omega⟩
  have e1 : (v / 997).toInt = -((w / 997 : Nat) : Int) := by
    rw [Int32.toInt_div, hw, h997, Int.neg_tdiv, Int.tdiv_eq_ediv_of_nonneg (by omega), Int.bmod_eq_of_le (by omega) (by omega)]
    omega
  have e2 : (v / 997 * 997).toInt = -((w / 997 * 997 : Nat) : Int) := by
    rw [Int32.toInt_mul, e1, h997, Int.bmod_eq_of_le (by omega) (by omega)]
    omega
  refine ⟨w, hw, ?_⟩
  rw [Int32.toInt_sub, hw, e2, Int.bmod_eq_of_le (by omega) (by omega)]
  omega
theorem rt_modc {P : Int32 → Prop} (v : Int32) (H : P (nI (v.toInt % 997).toNat)) : ¬ (997 : Int32) = 0 ∧ (∀ x : Int32, x = v - v / 997 * 997 → ((0 ≤ x → P x) ∧ (¬ 0 ≤ x → P (x + 997)))) := by
  refine ⟨by decide, fun x ex => ?_⟩
  have h0 : (0 : Int32).toInt = 0 := by decide
  by_cases h : v < 0
  · obtain ⟨w, hw, hr⟩ := rt_neg_rem v h
    rw [← ex] at hr
    rw [hw] at H
    by_cases hd : w % 997 = 0
    · have e : x = nI (-(w : Int) % 997).toNat := by
        apply Int32.toInt_inj.mp
        rw [hr, nI_toInt (by omega)]
        omega
      refine br_t ?_ (e ▸ H)
      rw [Int32.le_iff_toInt_le, h0, hr]
      omega
    · have e : x + 997 = nI (-(w : Int) % 997).toNat := by
        apply Int32.toInt_inj.mp
        rw [Int32.toInt_add, hr, nI_toInt (by omega), show (997 : Int32).toInt = 997 by decide, Int.bmod_eq_of_le (by omega) (by omega)]
        omega
      refine br_f ?_ (e ▸ H)
      rw [Int32.le_iff_toInt_le, h0, hr]
      omega
  · obtain ⟨n, hn, rfl⟩ := nI_of h
    rw [nI_toInt hn, show ((n : Int) % 997).toNat = n % 997 by omega] at H
    rw [rt_rem hn] at ex
    rw [ex]
    exact br_t (nI_pos' (by omega)) H
/-- what modulo makes of an int -/
def rt_mod (v : Int32) : rt_F := ⟨(v.toInt % 997).toNat, by omega⟩
theorem rt_modulo {post : Int32 → Prop} {v : Int32} (H : post (rt_I (rt_mod v))) : wpX_modulo post () v := rt_modc v H
theorem rt_norm {post : Int32 → Prop} {x y : rt_F} (H : post (rt_I (x - y))) : wpL_norm post () (rt_I x - rt_I y) := by
  refine rt_modc _ ?_
  have h2 := x.isLt
  have h3 := y.isLt
  have e : (rt_I x - rt_I y).toInt = (x.val : Int) - y.val := pk_sub_toInt (by omega) (by omega)
  rw [e]
  have e2 : nI (((x.val : Int) - y.val) % 997).toNat = rt_I (x - y) := by
    refine congrArg nI ?_
    rw [Fin.val_sub]
    omega
  rw [e2]; exact H
/-! reads and stores -/
theorem rt_rd {a : Nat → Int32} {p : Nat → rt_F} {N : Nat} (h : rt_ar a p N) {x : Int32} (k : Nat) (hk : k < N) (hx : x = nI k := by rfl) (h31 : k < 2 ^ 31 := by omega) : a x.toNatClampNeg = rt_I (p k) := by
  rw [pk_cl k hx h31]; exact h k hk
theorem rt_upl {P : Nat → Int32 → Prop} {b : Nat → Int32} {i : Nat} {v : Int32} (h : ∀ j, j < i → P j (b j)) (hv : P i v) {x : Int32} (hx : x = nI i := by rfl) (h31 : i < 2 ^ 31 := by omega) : ∀ j, j < i + 1 → P j (upd b x.toNatClampNeg v j) := by
  intro j hj
  rw [pk_cl i hx h31]
  by_cases e : j = i
  · rw [e, pk_us]; exact hv
  · rw [pk_un e]; exact h j (by omega)
theorem rt_aru {b : Nat → Int32} {p : Nat → rt_F} {n k : Nat} {v : Int32} {x : rt_F} (h : rt_ar b p n) (hv : v = rt_I x) {y : Int32} (hy : y = nI k := by rfl) (h31 : k < 2 ^ 31 := by omega) : rt_ar (upd b y.toNatClampNeg v) (rt_up p k x) n := by
  intro j hj
  rw [pk_cl k hy h31]
  by_cases e : j = k
  · rw [e, pk_us, rt_up_s]; exact hv
  · rw [pk_un e, rt_up_n _ _ e]; exact h j hj
theorem rt_arc {b : Nat → Int32} {p q : Nat → rt_F} {n : Nat} (h : rt_ar b p n) (e : ∀ j, j < n → p j = q j) : rt_ar b q n := fun j hj => by rw [h j hj, e j hj]
theorem rt_arm {b : Nat → Int32} {p : Nat → rt_F} {n m : Nat} (h : rt_ar b p n) (hm : m ≤ n) : rt_ar b p m := fun j hj => h j (by omega)
theorem rt_ix4 (s i : Nat) : (4 * nI s) + nI i = nI (4 * s + i) := by rw [show (4 : Int32) = nI 4 from rfl, pk_mul, nI_add]
theorem rt_ixr {s k i : Nat} (h : i < k) : (((4 * nI s) + nI k) - 1) - nI i = nI (4 * s + (k - 1 - i)) := by
  rw [rt_ix4, show (1 : Int32) = nI 1 from rfl, pk_sub (by omega), pk_sub (by omega)]
  exact congrArg nI (by omega)
theorem rt_p1 {i : Nat} (h : 0 < i) : nI i - 1 = nI (i - 1) := by rw [show (1 : Int32) = nI 1 from rfl, pk_sub (by omega)]
theorem rt_997 : ¬ (997 : Int32) = 0 := by decide
theorem rt_smod : ∀ n, n < 32 → ((nI n &&& 31).toBitVec.smod 32).toNat = n := by decide
theorem rt_bit {n c : Nat} (hn : n < 2 ^ 31) (hc : c < 32) : ((nI n >>> (nI c &&& 31)) &&& 1) = nI (n / 2 ^ c % 2) := by
  rw [pk_shrN hn _ c (rt_smod c hc), pk_andN (Nat.lt_of_le_of_lt (Nat.div_le_self _ _) (by omega)) 1 (by decide)]
end
section
/-- the products made so far: rows below i, and of row i the first j -/
def rt_Q (p : Nat → rt_F) (k i j : Nat) (q : Nat → rt_F) : Prop := (∀ l, 2 * k - 1 ≤ l → q l = 0) ∧ ∀ (b : Nat → rt_F) (t : Nat), rt_act q b 10 t = rt_sum (fun i' => p i' * rt_act p b k (t + i')) i + p i * rt_act p b j (t + i)
theorem rt_Q_0 (p : Nat → rt_F) (k : Nat) : rt_Q p k 0 0 (fun _ => 0) := by
  refine ⟨fun _ _ => rfl, fun b t => ?_⟩
  have e : rt_act (fun _ => 0) b 10 t = 0 := rt_sum_zero (fun i _ => by grind)
  rw [e]
  show (0 : rt_F) = 0 + p 0 * 0
  grind
theorem rt_Q_j {p q : Nat → rt_F} {k i j : Nat} (hk : k ≤ 5) (hi : i < k) (hj : j < k) (h : rt_Q p k i j q) : rt_Q p k i (j + 1) (rt_up q (i + j) (q (i + j) + p i * p j)) := by
  obtain ⟨h1, h2⟩ := h
  refine ⟨fun l hl => ?_, fun b t => ?_⟩
  · rw [rt_up_n _ _ (by omega)]; exact h1 l hl
  · rw [rt_act_up _ _ _ (by omega), h2 b t, rt_act_s, show t + i + j = t + (i + j) by omega]
    grind
theorem rt_Q_i {p q : Nat → rt_F} {k i : Nat} (h : rt_Q p k i k q) : rt_Q p k (i + 1) 0 q := by
  obtain ⟨h1, h2⟩ := h
  refine ⟨h1, fun b t => ?_⟩
  rw [h2 b t, rt_sum_s]
  show _ = _ + p (i + 1) * 0
  grind
theorem rt_Q_end {p q b : Nat → rt_F} {k n : Nat} (hk1 : 1 ≤ k) (hk : k ≤ 5) (h : rt_Q p k k 0 q) (hp : ∀ t, b (t + n) = rt_act p b k t) : ∀ t, b (t + (n + n)) = rt_act q b (2 * k - 1) t := by
  obtain ⟨h1, h2⟩ := h
  intro t
  have e1 : rt_act q b 10 t = rt_act q b (2 * k - 1) t := rt_sum_trunc (by omega) (fun i i1 _ => by rw [h1 i i1]; grind)
  rw [← e1, h2 b t]
  have e2 : rt_sum (fun i' => p i' * rt_act p b k (t + i')) k = rt_act p b k (t + n) := rt_sum_congr (fun i _ => by
    rw [← hp (t + i), show t + i + n = t + n + i by omega])
  rw [e2, ← hp (t + n), show t + n + n = t + (n + n) by omega]
  show _ = _ + p k * 0
  grind
/-- what an object keeps: orders, rules, first terms -/
def rt_P (K : Nat → Nat) (R G : Nat → rt_F) (a1 a2 a3 : Nat → Int32) : Prop := (∀ s, s < 3 → K s ≤ 4 ∧ a1 s = nI (K s)) ∧ rt_ar a2 R 12 ∧ rt_ar a3 G 12
def rt_sq (K : Nat → Nat) (R G : Nat → rt_F) (s : Nat) : Nat → rt_F := rt_seq (K s) (fun i => R (4 * s + i)) (fun i => G (4 * s + i))
end
section
section
variable {f0 : Int32} {a1 a2 a3 a4 a5 a6 a7 a8 a9 a10 a11 a12 a13 : Nat → Int32}
theorem rt_takeRule {post : St1 → Prop} {s k : Nat} {R : Nat → rt_F} (hs : s < 3) (hk : k ≤ 4) (h1 : a1 s = nI k) (h2 : rt_ar a2 R 12)
    (H : ∀ b4, rt_ar b4 (fun j => R (4 * s + (k - 1 - j))) k → post (f0, a1, a2, a3, b4, a5, a6, a7, a8, a9, a10, a11, a12, a13)) : wpX_takeRule post (f0, a1, a2, a3, a4, a5, a6, a7, a8, a9, a10, a11, a12, a13) (nI s) := by
  refine ⟨pk_in s 3 hs, nm_r (show a1 (nI s).toNatClampNeg = nI k by rw [nI_clamp (by omega)]; exact h1) ?_⟩
  exact pk_loop (fun n i b => wX_takeRule_9 post (nI s) (nI k) f0 n (nI i) a1 a2 a3 b a5 a6 a7 a8 a9 a10 a11 a12 a13)
    (fun i b => ∀ j, j < i → (j < k → b j = rt_I (R (4 * s + (k - 1 - j))))) 6 0 a4 (by omega) (fun j hj => absurd hj (by omega))
    (fun n b h => pk_le 6 6 (fun _ => H b (fun j hj => h j (by omega) hj)) (fun z => absurd z (by omega)))
    (fun n i b hi h hw => pk_le 6 i (fun z => absurd z (by omega)) (fun _ => pk_le k i
      (fun z => ⟨pk_in i 6 hi, nm_e (nm_r (nI_1 i) (hw _ (rt_upl (P := fun j v => j < k → v = rt_I (R (4 * s + (k - 1 - j)))) h (fun y => absurd y (by omega)))))⟩)
      (fun z => ⟨pk_in (4 * s + (k - 1 - i)) 12 (by omega) (rt_ixr z), pk_in i 6 hi, nm_e (nm_r (nI_1 i) (hw _ (rt_upl (P := fun j v => j < k → v = rt_I (R (4 * s + (k - 1 - j)))) h (fun _ => rt_rd h2 _ (by omega) (rt_ixr z)))))⟩)))
theorem rt_sq172 {post : St1 → Prop} {k : Nat} {q : Nat → rt_F} (hk : k ≤ 5) (h8 : rt_ar a8 q 10) (H : ∀ b6, rt_ar b6 q k → post (nI k, a1, a2, a3, a4, a5, b6, a7, a8, a9, a10, a11, a12, a13)) : ∃ n, wX_squarePower_172 post (nI k) n 0 a1 a2 a3 a4 a5 a6 a7 a8 a9 a10 a11 a12 a13 :=
  pk_loop (fun n i b => wX_squarePower_172 post (nI k) n (nI i) a1 a2 a3 a4 a5 b a7 a8 a9 a10 a11 a12 a13) (fun i b => ∀ j, j < i → b j = rt_I (q j)) k 0 a6 (by omega) (fun j hj => absurd hj (by omega))
    (fun n b h => pk_le k k (fun _ => H b h) (fun z => absurd z (by omega)))
    (fun n i b hi h hw => pk_le k i (fun z => absurd z (by omega)) (fun _ => ⟨pk_in i 10 (by omega), pk_in i 5 (by omega), nm_e (nm_r (nI_1 i) (hw _ (rt_upl (P := fun j v => v = rt_I (q j)) h (rt_rd h8 i (by omega)))))⟩))
/-- one step of taking the product down -/
theorem rt_sq106 {post : St1 → Prop} {J : Int32 → (Nat → Int32) → (Nat → Int32) → (Nat → Int32) → (Nat → Int32) → (Nat → Int32) → (Nat → Int32) → (Nat → Int32) → (Nat → Int32) → (Nat → Int32) → (Nat → Int32) → (Nat → Int32) → (Nat → Int32) → (Nat → Int32) → Prop} {k e N : Nat} {m q b : Nat → rt_F} (hk1 : 1 ≤ k) (hk : k ≤ 5) (he : e + 1 < k) (h4 : rt_ar a4 m k) (hm : rt_sat m b k) (h8 : rt_ar a8 q 10)
    (hq : ∀ t, b (t + N) = rt_act q b (k + e + 1) t) (H : ∀ b8 q', rt_ar b8 q' 10 → (∀ t, b (t + N) = rt_act q' b (k + e) t) → J (nI (k - 1 + e)) a1 a2 a3 a4 a5 a6 a7 b8 a9 a10 a11 a12 a13) : ∃ n, wX_squarePower_106 post J (nI (k + e)) (nI k) n 0 a1 a2 a3 a4 a5 a6 a7 a8 a9 a10 a11 a12 a13 :=
  pk_loop (fun n j c => wX_squarePower_106 post J (nI (k + e)) (nI k) n (nI j) a1 a2 a3 a4 a5 a6 a7 c a9 a10 a11 a12 a13)
    (fun j c => ∃ q', rt_ar c q' 10 ∧ ∀ t, b (t + N) = rt_act q' b (k + e) t + q' (k + e) * (rt_act m b k (t + e) - rt_act m b j (t + e))) k 0 a8 (by omega)
    ⟨q, h8, fun t => by
      rw [hq t, rt_act_s, ← hm (t + e), show t + e + k = t + (k + e) by omega]
      show _ = _ + q (k + e) * (_ - 0)
      grind⟩
    (fun n c ⟨q', g1, g2⟩ => pk_le k k (fun _ => nm_r (show nI (k + e) + (-1) = nI (k - 1 + e) by rw [show k + e = k - 1 + e + 1 by omega, pk_m1]) (H c q' g1 (fun t => by rw [g2 t]; grind))) (fun z => absurd z (by omega)))
    (fun n j c hj ⟨q', g1, g2⟩ hw => pk_le k j (fun z => absurd z (by omega)) (fun _ => by
      have ei : (nI (k + e) - nI k) + nI j = nI (e + j) := by
        rw [pk_sub (by omega), nI_add]
        exact congrArg nI (by omega)
      refine ⟨pk_in (e + j) 10 (by omega) ei, pk_in (k + e) 10 (by omega), pk_in j 6 (by omega), rt_997, pk_in (e + j) 10 (by omega) ei, nm_e (nm_r (nI_1 j) (hw _ ⟨rt_up q' (e + j) (q' (e + j) + q' (k + e) * m j), rt_aru g1 (rt_mac (rt_rd g1 (e + j) (by omega) ei) (rt_rd g1 (k + e) (by omega)) (rt_rd h4 j hj)) ei, fun t => ?_⟩))⟩
      rw [rt_act_up _ _ _ (by omega), rt_up_n _ _ (show k + e ≠ e + j by omega), g2 t, rt_act_s, show t + e + j = t + (e + j) by omega]
      grind))
theorem rt_sq96 {post : St1 → Prop} {k N : Nat} {m b : Nat → rt_F} (hk1 : 1 ≤ k) (hk : k ≤ 5) (h4 : rt_ar a4 m k) (hm : rt_sat m b k)
    (H : ∀ b6 b8 p', rt_ar b6 p' k → (∀ t, b (t + N) = rt_act p' b k t) → post (nI k, a1, a2, a3, a4, a5, b6, a7, b8, a9, a10, a11, a12, a13)) {q : Nat → rt_F} (h8 : rt_ar a8 q 10) (hq : ∀ t, b (t + N) = rt_act q b (2 * k - 1) t) : ∃ n, wX_squarePower_96 post (nI k) n (nI (2 * k - 2)) a1 a2 a3 a4 a5 a6 a7 a8 a9 a10 a11 a12 a13 := by
  refine ⟨k - 1 + 1, ?_⟩
  have := pk_loopD (fun n e c => wX_squarePower_96 post (nI k) n (nI (k - 1 + e)) a1 a2 a3 a4 a5 a6 a7 c a9 a10 a11 a12 a13)
    (fun e c => e < k ∧ ∃ q', rt_ar c q' 10 ∧ ∀ t, b (t + N) = rt_act q' b (k + e) t)
    (fun n c ⟨_, q', g1, g2⟩ => pk_lt (k - 1 + 0) k (fun _ => rt_sq172 (a8 := c) hk g1 (fun b6 g6 => H b6 c q' g6 g2)) (fun z => absurd z (by omega)))
    (fun n e c ⟨he, q', g1, g2⟩ hw => pk_lt (k - 1 + (e + 1)) k (fun z => absurd z (by omega)) (fun _ => by
      have := rt_sq106 (post := post) (a1 := a1) (a2 := a2) (a3 := a3) (a5 := a5) (a6 := a6) (a7 := a7) (a9 := a9) (a10 := a10) (a11 := a11) (a12 := a12) (a13 := a13) (J := wX_squarePower_96 post (nI k) n) (N := N) hk1 hk he h4 hm g1 (fun t => g2 t) (fun b8 q'' g g' => hw b8 ⟨by omega, q'', g, g'⟩)
      rw [show k - 1 + (e + 1) = k + e by omega]
      exact this)) (k - 1) a8 ⟨by omega, q, h8, fun t => by rw [hq t, show k + (k - 1) = 2 * k - 1 by omega]⟩
  rw [show 2 * k - 2 = k - 1 + (k - 1) by omega]
  exact this
theorem rt_sq33 {post : St1 → Prop} {J : Int32 → (Nat → Int32) → (Nat → Int32) → (Nat → Int32) → (Nat → Int32) → (Nat → Int32) → (Nat → Int32) → (Nat → Int32) → (Nat → Int32) → (Nat → Int32) → (Nat → Int32) → (Nat → Int32) → (Nat → Int32) → (Nat → Int32) → Prop} {k i : Nat} {p q : Nat → rt_F} (hk : k ≤ 5) (hi : i < k) (h6 : rt_ar a6 p k) (h8 : rt_ar a8 q 10) (hq : rt_Q p k i 0 q)
    (H : ∀ b8 q', rt_ar b8 q' 10 → rt_Q p k (i + 1) 0 q' → J (nI (i + 1)) a1 a2 a3 a4 a5 a6 a7 b8 a9 a10 a11 a12 a13) : ∃ n, wX_squarePower_33 post J (nI i) (nI k) n 0 a1 a2 a3 a4 a5 a6 a7 a8 a9 a10 a11 a12 a13 :=
  pk_loop (fun n j c => wX_squarePower_33 post J (nI i) (nI k) n (nI j) a1 a2 a3 a4 a5 a6 a7 c a9 a10 a11 a12 a13)
    (fun j c => ∃ q', rt_ar c q' 10 ∧ rt_Q p k i j q') k 0 a8 (by omega) ⟨q, h8, hq⟩
    (fun n c ⟨q', g1, g2⟩ => pk_le k k (fun _ => nm_r (nI_1 i) (H c q' g1 (rt_Q_i g2))) (fun z => absurd z (by omega)))
    (fun n j c hj ⟨q', g1, g2⟩ hw => pk_le k j (fun z => absurd z (by omega)) (fun _ =>
      ⟨pk_in (i + j) 10 (by omega) (nI_add i j), pk_in i 5 (by omega), pk_in j 5 (by omega), rt_997, pk_in (i + j) 10 (by omega) (nI_add i j), nm_e (nm_r (nI_1 j) (hw _ ⟨_, rt_aru g1 (rt_mac (rt_rd g1 (i + j) (by omega) (nI_add i j)) (rt_rd h6 i (by omega)) (rt_rd h6 j (by omega))) (nI_add i j), rt_Q_j hk hi hj g2⟩))⟩))
theorem rt_square {post : St1 → Prop} {k N : Nat} {m p b : Nat → rt_F} (hf : f0 = nI k) (hk1 : 1 ≤ k) (hk : k ≤ 5) (h4 : rt_ar a4 m k) (h6 : rt_ar a6 p k) (hm : rt_sat m b k) (hp : ∀ t, b (t + N) = rt_act p b k t)
    (H : ∀ b6 b8 p', rt_ar b6 p' k → (∀ t, b (t + (N + N)) = rt_act p' b k t) → post (nI k, a1, a2, a3, a4, a5, b6, a7, b8, a9, a10, a11, a12, a13)) : wpX_squarePower post (f0, a1, a2, a3, a4, a5, a6, a7, a8, a9, a10, a11, a12, a13) := by
  subst hf
  refine pk_loop (fun n i c => wX_squarePower_2 post (nI k) n (nI i) a1 a2 a3 a4 a5 a6 a7 c a9 a10 a11 a12 a13) (fun i c => ∀ j, j < i → c j = rt_I 0) 10 0 a8 (by omega) (fun j hj => absurd hj (by omega))
    (fun n c h => pk_le 10 10 (fun _ => ?_) (fun z => absurd z (by omega)))
    (fun n i c hi h hw => pk_le 10 i (fun z => absurd z (by omega)) (fun _ => ⟨pk_in i 10 hi, nm_e (nm_r (nI_1 i) (hw _ (rt_upl (P := fun j v => v = rt_I 0) h rfl)))⟩))
  exact pk_loop (fun n i c => wX_squarePower_23 post (nI k) n (nI i) a1 a2 a3 a4 a5 a6 a7 c a9 a10 a11 a12 a13) (fun i c => ∃ q, rt_ar c q 10 ∧ rt_Q p k i 0 q) k 0 c (by omega) ⟨fun _ => 0, h, rt_Q_0 p k⟩
    (fun n c ⟨q, g1, g2⟩ => pk_le k k (fun _ => nm_r (show (2 * nI k) - 2 = nI (2 * k - 2) by rw [show (2 : Int32) = nI 2 from rfl, pk_mul, pk_sub (by omega)]) (rt_sq96 (a8 := c) hk1 hk h4 hm H g1 (rt_Q_end hk1 hk g2 hp))) (fun z => absurd z (by omega)))
    (fun n i c hi ⟨q, g1, g2⟩ hw => pk_le k i (fun z => absurd z (by omega)) (fun _ => rt_sq33 (a8 := c) (J := wX_squarePower_23 post (nI k) n) hk hi h6 g1 g2 (fun b8 q' g g' => hw b8 ⟨q', g, g'⟩)))
theorem rt_times {post : St1 → Prop} {k N : Nat} {m p b : Nat → rt_F} (hf : f0 = nI k) (hk1 : 1 ≤ k) (hk : k ≤ 5) (h4 : rt_ar a4 m k) (h6 : rt_ar a6 p k) (hm : rt_sat m b k) (hp : ∀ t, b (t + N) = rt_act p b k t)
    (H : ∀ b6 p', rt_ar b6 p' k → (∀ t, b (t + (N + 1)) = rt_act p' b k t) → post (nI k, a1, a2, a3, a4, a5, b6, a7, a8, a9, a10, a11, a12, a13)) : wpX_timesX post (f0, a1, a2, a3, a4, a5, a6, a7, a8, a9, a10, a11, a12, a13) := by
  subst hf
  refine ⟨pk_in (k - 1) 5 (by omega) (rt_p1 hk1), nm_r (rt_rd h6 (k - 1) (by omega) (rt_p1 hk1)) (nm_r (show nI k - 1 = nI k + (-1) from Int32.sub_eq_add_neg _ _) ⟨k + 1, ?_⟩)⟩
  refine pk_loopD (fun n c d => wX_timesX_19 post (rt_I (p (k - 1))) (nI k) n (nI c + (-1)) a1 a2 a3 a4 a5 d a7 a8 a9 a10 a11 a12 a13)
    (fun c d => c ≤ k ∧ (∀ j, c ≤ j → j < k → d j = rt_I (rt_tx p m k j)) ∧ (∀ j, j < c → d j = rt_I (p j)))
    (fun n d h => br_t (by decide) (H d (rt_tx p m k) (fun j hj => h.2.1 j (by omega) hj) (rt_tx_act hk1 hm hp)))
    (fun n c d h hw => ?_) k a6 ⟨Nat.le_refl k, fun j h1 h2 => absurd h1 (by omega), h6⟩
  obtain ⟨hc, g1, g2⟩ := h
  have main : ∀ (z : Int32) (y : rt_F), z = rt_I y → rt_tx p m k c = y + p (k - 1) * m c → wX_timesX_39 post (wX_timesX_19 post (rt_I (p (k - 1))) (nI k) n) (rt_I (p (k - 1))) (nI c) z (nI k) a1 a2 a3 a4 a5 d a7 a8 a9 a10 a11 a12 a13 := fun z y hz hy =>
    ⟨pk_in c 6 (by omega), rt_997, pk_in c 5 (by omega), nm_e (nm_e (hw _ ⟨by omega, fun j j1 j2 => by
      rw [pk_cl c]
      by_cases e : j = c
      · rw [e, pk_us, hy]
        exact rt_mac hz rfl (h4 c (by omega))
      · rw [pk_un e]
        exact g1 j (by omega) j2, fun j hj => by
      rw [pk_cl c, pk_un (by omega)]
      exact g2 j (by omega)⟩))⟩
  show wX_timesX_19 post (rt_I (p (k - 1))) (nI k) (n + 1) (nI (c + 1) + (-1)) a1 a2 a3 a4 a5 d a7 a8 a9 a10 a11 a12 a13
  rw [pk_m1]
  refine br_f (nI_pos (by omega)) (pk_le c 0 (fun z => main 0 0 rfl ?_) (fun z => ⟨pk_in (c - 1) 5 (by omega) (rt_p1 z), main _ (p (c - 1)) ?_ ?_⟩))
  · unfold rt_tx
    rw [if_neg (by omega)]
  · rw [pk_cl (c - 1) (rt_p1 z)]
    exact g2 (c - 1) (by omega)
  · unfold rt_tx
    rw [if_pos z]
theorem rt_raise {post : St1 → Prop} {k n : Nat} {m b : Nat → rt_F} (hf : f0 = nI k) (hk : k ≤ 5) (hn : n < 2 ^ 31) (h4 : rt_ar a4 m k) (hm : rt_sat m b k)
    (H : ∀ b6 b8 p, rt_ar b6 p k → (0 < k → ∀ t, b (t + n) = rt_act p b k t) → post (nI k, a1, a2, a3, a4, a5, b6, a7, b8, a9, a10, a11, a12, a13)) : wpX_raise post (f0, a1, a2, a3, a4, a5, a6, a7, a8, a9, a10, a11, a12, a13) (nI n) := by
  subst hf
  refine pk_loop (fun f i d => wX_raise_2 post (nI n) (nI k) f (nI i) a1 a2 a3 a4 a5 d a7 a8 a9 a10 a11 a12 a13) (fun i d => ∀ j, j < i → d j = rt_I (if j = 0 then (if 0 < k then 1 else 0) else 0)) 5 0 a6 (by omega) (fun j hj => absurd hj (by omega))
    (fun f d h => pk_le 5 5 (fun _ => ?_) (fun z => absurd z (by omega)))
    (fun f i d hi h hw => pk_le 5 i (fun z => absurd z (by omega)) (fun _ => pk_eq i 0
      (fun z => pk_le k 0
        (fun z2 => ⟨pk_in i 5 hi, nm_e (nm_r (nI_1 i) (hw _ (rt_upl (P := fun j v => v = rt_I (if j = 0 then (if 0 < k then 1 else 0) else 0)) h (by rw [if_pos z, if_neg (by omega)]; rfl))))⟩)
        (fun z2 => ⟨pk_in i 5 hi, nm_e (nm_r (nI_1 i) (hw _ (rt_upl (P := fun j v => v = rt_I (if j = 0 then (if 0 < k then 1 else 0) else 0)) h (by rw [if_pos z, if_pos (by omega)]; rfl))))⟩))
      (fun z => ⟨pk_in i 5 hi, nm_e (nm_r (nI_1 i) (hw _ (rt_upl (P := fun j v => v = rt_I (if j = 0 then (if 0 < k then 1 else 0) else 0)) h (by rw [if_neg z]; rfl))))⟩)))
  rcases Nat.eq_zero_or_pos k with z | z
  · subst z
    exact ⟨1, br_f (by decide) (pk_le 0 0 (fun _ => H d a8 (fun _ => 0) (fun j hj => absurd hj (by omega)) (fun z => absurd z (by omega))) (fun z => absurd z (by omega)))⟩
  · refine ⟨31 + 1, ?_⟩
    have key := pk_loopD (fun f c (s : (Nat → Int32) × (Nat → Int32)) => wX_raise_38 post (nI n) f (nI c + (-1)) (nI k) a1 a2 a3 a4 a5 s.1 a7 s.2 a9 a10 a11 a12 a13)
      (fun c s => c ≤ 31 ∧ ∃ p, rt_ar s.1 p k ∧ ∀ t, b (t + n / 2 ^ c) = rt_act p b k t)
      (fun f s ⟨_, p, g1, g2⟩ => br_t (by decide) (H s.1 s.2 p g1 (fun _ t => by have := g2 t; rw [Nat.pow_zero, Nat.div_one] at this; exact this)))
      (fun f c s ⟨hc, p, g1, g2⟩ hw => by
        show wX_raise_38 post (nI n) (f + 1) (nI (c + 1) + (-1)) (nI k) a1 a2 a3 a4 a5 s.1 a7 s.2 a9 a10 a11 a12 a13
        rw [pk_m1]
        have e : n / 2 ^ (c + 1) = n / 2 ^ c / 2 := by rw [Nat.pow_succ, Nat.div_div_eq_div_mul]
        refine br_f (nI_pos (by omega)) (pk_le k 0 (fun y => absurd y (by omega)) (fun _ => rt_square rfl (by omega) hk h4 g1 hm g2 (fun b6 b8 p' q1 q2 => pk_eq (n / 2 ^ c % 2) 1 (fun y => ?_) (fun y => nm_e (hw (b6, b8) ⟨by omega, p', q1, fun t => ?_⟩)) (rt_bit hn (by omega)))))
        · exact rt_times rfl (by omega) hk h4 q1 hm q2 (fun b6' p'' r1 r2 => nm_e (hw (b6', b8) ⟨by omega, p'', r1, fun t => by
            rw [← r2 t]
            exact congrArg b (by omega)⟩))
        · rw [← q2 t]
          exact congrArg b (by omega))
      31 (d, a8) ⟨by omega, fun j => if j = 0 then (if 0 < k then 1 else 0) else 0, fun j hj => h j (by omega), fun t => by
        obtain ⟨q, rfl⟩ : ∃ q, k = q + 1 := ⟨k - 1, by omega⟩
        unfold rt_act
        rw [rt_sum_head, rt_sum_zero (n := q) (fun i _ => by dsimp only; rw [if_neg (by omega)]; grind), Nat.div_eq_of_lt hn]
        dsimp only
        rw [if_pos rfl, if_pos (by omega)]
        grind⟩
    exact key
theorem rt_termAt {post : Int32 → St1 → Prop} {K : Nat → Nat} {R G : Nat → rt_F} {s n : Nat} (hP : rt_P K R G a1 a2 a3) (hs : s < 3) (hn : n < 2 ^ 31)
    (H : ∀ bf b4 b6 b8, post (rt_I (rt_sq K R G s n)) (bf, a1, a2, a3, b4, a5, b6, a7, b8, a9, a10, a11, a12, a13)) : wpX_termAt post (f0, a1, a2, a3, a4, a5, a6, a7, a8, a9, a10, a11, a12, a13) (nI s) (nI n) := by
  obtain ⟨hK, h2, h3⟩ := hP
  obtain ⟨hk, h1⟩ := hK s hs
  refine ⟨pk_in s 3 hs, nm_r (show a1 (nI s).toNatClampNeg = nI (K s) by rw [nI_clamp (by omega)]; exact h1) (pk_le (K s) n (fun z => ?_) (fun z => ⟨pk_in (4 * s + n) 12 (by omega) (rt_ix4 s n), ?_⟩))⟩
  · refine rt_takeRule hs hk h1 h2 (fun b4 g4 => ?_)
    refine rt_raise rfl (by omega) hn g4 (rt_all_sat (rt_seq_all (K s) (fun i => R (4 * s + i)) (fun i => G (4 * s + i)))) (fun b6 b8 p g6 gp => ?_)
    have ev : rt_sum (fun j => p j * G (4 * s + j)) (K s) = rt_sq K R G s n := by
      rcases Nat.eq_zero_or_pos (K s) with y | y
      · have := rt_seq_all (K s) (fun i => R (4 * s + i)) (fun i => G (4 * s + i)) n (by omega)
        unfold rt_sq
        rw [this, y]; rfl
      · have := gp y 0
        rw [Nat.zero_add] at this
        unfold rt_sq
        rw [this]
        exact rt_sum_congr (fun i hi => by rw [Nat.zero_add, rt_seq_first hi])
    exact pk_loop (fun f i x => wX_termAt_44 post (nI s) (nI (K s)) a1 a2 a3 b4 a5 b6 a7 b8 a9 a10 a11 a12 a13 f x (nI i)) (fun i x => x = rt_I (rt_sum (fun j => p j * G (4 * s + j)) i)) (K s) 0 0 (by omega) rfl
      (fun f x h => pk_le (K s) (K s) (fun _ => by rw [h, ev]; exact H _ b4 b6 b8) (fun z => absurd z (by omega)))
      (fun f i x hi h hw => pk_le (K s) i (fun z => absurd z (by omega)) (fun _ => ⟨pk_in i 5 (by omega), pk_in (4 * s + i) 12 (by omega) (rt_ix4 s i), rt_997, nm_e (nm_r (nI_1 i) (hw _ (rt_mac h (rt_rd g6 i hi) (rt_rd h3 (4 * s + i) (by omega) (rt_ix4 s i)))))⟩))
  · rw [rt_rd h3 (4 * s + n) (by omega) (rt_ix4 s n)]
    have ev : G (4 * s + n) = rt_sq K R G s n := (rt_seq_first (k := K s) (r := fun i => R (4 * s + i)) (f := fun i => G (4 * s + i)) z).symm
    rw [ev]
    exact H f0 a4 a6 a8
end
end
section
section
variable {f0 : Int32} {a1 a2 a3 a4 a5 a6 a7 a8 a9 a10 a11 a12 a13 : Nat → Int32}
theorem rt_takeRule_2 {post : St1 → Prop} {s k : Nat} {R : Nat → rt_F} (hs : s < 3) (hk : k ≤ 4) (h1 : a1 s = nI k) (h2 : rt_ar a2 R 12)
    (H : ∀ b4, rt_ar b4 (fun j => R (4 * s + (k - 1 - j))) k → post (f0, a1, a2, a3, b4, a5, a6, a7, a8, a9, a10, a11, a12, a13)) : wpX_takeRule_2 post (f0, a1, a2, a3, a4, a5, a6, a7, a8, a9, a10, a11, a12, a13) (nI s) := by
  refine ⟨pk_in s 3 hs, nm_r (show a1 (nI s).toNatClampNeg = nI k by rw [nI_clamp (by omega)]; exact h1) ?_⟩
  exact pk_loop (fun n i b => wX_takeRule_2_9 post (nI s) (nI k) f0 n (nI i) a1 a2 a3 b a5 a6 a7 a8 a9 a10 a11 a12 a13)
    (fun i b => ∀ j, j < i → (j < k → b j = rt_I (R (4 * s + (k - 1 - j))))) 6 0 a4 (by omega) (fun j hj => absurd hj (by omega))
    (fun n b h => pk_le 6 6 (fun _ => H b (fun j hj => h j (by omega) hj)) (fun z => absurd z (by omega)))
    (fun n i b hi h hw => pk_le 6 i (fun z => absurd z (by omega)) (fun _ => pk_le k i
      (fun z => ⟨pk_in i 6 hi, nm_e (nm_r (nI_1 i) (hw _ (rt_upl (P := fun j v => j < k → v = rt_I (R (4 * s + (k - 1 - j)))) h (fun y => absurd y (by omega)))))⟩)
      (fun z => ⟨pk_in (4 * s + (k - 1 - i)) 12 (by omega) (rt_ixr z), pk_in i 6 hi, nm_e (nm_r (nI_1 i) (hw _ (rt_upl (P := fun j v => j < k → v = rt_I (R (4 * s + (k - 1 - j)))) h (fun _ => rt_rd h2 _ (by omega) (rt_ixr z)))))⟩)))
theorem rt_sq172_2 {post : St1 → Prop} {k : Nat} {q : Nat → rt_F} (hk : k ≤ 5) (h8 : rt_ar a8 q 10) (H : ∀ b6, rt_ar b6 q k → post (nI k, a1, a2, a3, a4, a5, b6, a7, a8, a9, a10, a11, a12, a13)) : ∃ n, wX_squarePower_2_172 post (nI k) n 0 a1 a2 a3 a4 a5 a6 a7 a8 a9 a10 a11 a12 a13 :=
  pk_loop (fun n i b => wX_squarePower_2_172 post (nI k) n (nI i) a1 a2 a3 a4 a5 b a7 a8 a9 a10 a11 a12 a13) (fun i b => ∀ j, j < i → b j = rt_I (q j)) k 0 a6 (by omega) (fun j hj => absurd hj (by omega))
    (fun n b h => pk_le k k (fun _ => H b h) (fun z => absurd z (by omega)))
    (fun n i b hi h hw => pk_le k i (fun z => absurd z (by omega)) (fun _ => ⟨pk_in i 10 (by omega), pk_in i 5 (by omega), nm_e (nm_r (nI_1 i) (hw _ (rt_upl (P := fun j v => v = rt_I (q j)) h (rt_rd h8 i (by omega)))))⟩))
/-- one step of taking the product down -/
theorem rt_sq106_2 {post : St1 → Prop} {J : Int32 → (Nat → Int32) → (Nat → Int32) → (Nat → Int32) → (Nat → Int32) → (Nat → Int32) → (Nat → Int32) → (Nat → Int32) → (Nat → Int32) → (Nat → Int32) → (Nat → Int32) → (Nat → Int32) → (Nat → Int32) → (Nat → Int32) → Prop} {k e N : Nat} {m q b : Nat → rt_F} (hk1 : 1 ≤ k) (hk : k ≤ 5) (he : e + 1 < k) (h4 : rt_ar a4 m k) (hm : rt_sat m b k) (h8 : rt_ar a8 q 10)
    (hq : ∀ t, b (t + N) = rt_act q b (k + e + 1) t) (H : ∀ b8 q', rt_ar b8 q' 10 → (∀ t, b (t + N) = rt_act q' b (k + e) t) → J (nI (k - 1 + e)) a1 a2 a3 a4 a5 a6 a7 b8 a9 a10 a11 a12 a13) : ∃ n, wX_squarePower_2_106 post J (nI (k + e)) (nI k) n 0 a1 a2 a3 a4 a5 a6 a7 a8 a9 a10 a11 a12 a13 :=
  pk_loop (fun n j c => wX_squarePower_2_106 post J (nI (k + e)) (nI k) n (nI j) a1 a2 a3 a4 a5 a6 a7 c a9 a10 a11 a12 a13)
    (fun j c => ∃ q', rt_ar c q' 10 ∧ ∀ t, b (t + N) = rt_act q' b (k + e) t + q' (k + e) * (rt_act m b k (t + e) - rt_act m b j (t + e))) k 0 a8 (by omega)
    ⟨q, h8, fun t => by
      rw [hq t, rt_act_s, ← hm (t + e), show t + e + k = t + (k + e) by omega]
      show _ = _ + q (k + e) * (_ - 0)
      grind⟩
    (fun n c ⟨q', g1, g2⟩ => pk_le k k (fun _ => nm_r (show nI (k + e) + (-1) = nI (k - 1 + e) by rw [show k + e = k - 1 + e + 1 by omega, pk_m1]) (H c q' g1 (fun t => by rw [g2 t]; grind))) (fun z => absurd z (by omega)))
    (fun n j c hj ⟨q', g1, g2⟩ hw => pk_le k j (fun z => absurd z (by omega)) (fun _ => by
      have ei : (nI (k + e) - nI k) + nI j = nI (e + j) := by
        rw [pk_sub (by omega), nI_add]
        exact congrArg nI (by omega)
      refine ⟨pk_in (e + j) 10 (by omega) ei, pk_in (k + e) 10 (by omega), pk_in j 6 (by omega), rt_997, pk_in (e + j) 10 (by omega) ei, nm_e (nm_r (nI_1 j) (hw _ ⟨rt_up q' (e + j) (q' (e + j) + q' (k + e) * m j), rt_aru g1 (rt_mac (rt_rd g1 (e + j) (by omega) ei) (rt_rd g1 (k + e) (by omega)) (rt_rd h4 j hj)) ei, fun t => ?_⟩))⟩
      rw [rt_act_up _ _ _ (by omega), rt_up_n _ _ (show k + e ≠ e + j by omega), g2 t, rt_act_s, show t + e + j = t + (e + j) by omega]
      grind))
theorem rt_sq96_2 {post : St1 → Prop} {k N : Nat} {m b : Nat → rt_F} (hk1 : 1 ≤ k) (hk : k ≤ 5) (h4 : rt_ar a4 m k) (hm : rt_sat m b k)
    (H : ∀ b6 b8 p', rt_ar b6 p' k → (∀ t, b (t + N) = rt_act p' b k t) → post (nI k, a1, a2, a3, a4, a5, b6, a7, b8, a9, a10, a11, a12, a13)) {q : Nat → rt_F} (h8 : rt_ar a8 q 10) (hq : ∀ t, b (t + N) = rt_act q b (2 * k - 1) t) : ∃ n, wX_squarePower_2_96 post (nI k) n (nI (2 * k - 2)) a1 a2 a3 a4 a5 a6 a7 a8 a9 a10 a11 a12 a13 := by
  refine ⟨k - 1 + 1, ?_⟩
  have := pk_loopD (fun n e c => wX_squarePower_2_96 post (nI k) n (nI (k - 1 + e)) a1 a2 a3 a4 a5 a6 a7 c a9 a10 a11 a12 a13)
    (fun e c => e < k ∧ ∃ q', rt_ar c q' 10 ∧ ∀ t, b (t + N) = rt_act q' b (k + e) t)
    (fun n c ⟨_, q', g1, g2⟩ => pk_lt (k - 1 + 0) k (fun _ => rt_sq172_2 (a8 := c) hk g1 (fun b6 g6 => H b6 c q' g6 g2)) (fun z => absurd z (by omega)))
    (fun n e c ⟨he, q', g1, g2⟩ hw => pk_lt (k - 1 + (e + 1)) k (fun z => absurd z (by omega)) (fun _ => by
      have := rt_sq106_2 (post := post) (a1 := a1) (a2 := a2) (a3 := a3) (a5 := a5) (a6 := a6) (a7 := a7) (a9 := a9) (a10 := a10) (a11 := a11) (a12 := a12) (a13 := a13) (J := wX_squarePower_2_96 post (nI k) n) (N := N) hk1 hk he h4 hm g1 (fun t => g2 t) (fun b8 q'' g g' => hw b8 ⟨by omega, q'', g, g'⟩)
      rw [show k - 1 + (e + 1) = k + e by omega]
      exact this)) (k - 1) a8 ⟨by omega, q, h8, fun t => by rw [hq t, show k + (k - 1) = 2 * k - 1 by omega]⟩
  rw [show 2 * k - 2 = k - 1 + (k - 1) by omega]
  exact this
theorem rt_sq33_2 {post : St1 → Prop} {J : Int32 → (Nat → Int32) → (Nat → Int32) → (Nat → Int32) → (Nat → Int32) → (Nat → Int32) → (Nat → Int32) → (Nat → Int32) → (Nat → Int32) → (Nat → Int32) → (Nat → Int32) → (Nat → Int32) → (Nat → Int32) → (Nat → Int32) → Prop} {k i : Nat} {p q : Nat → rt_F} (hk : k ≤ 5) (hi : i < k) (h6 : rt_ar a6 p k) (h8 : rt_ar a8 q 10) (hq : rt_Q p k i 0 q)
    (H : ∀ b8 q', rt_ar b8 q' 10 → rt_Q p k (i + 1) 0 q' → J (nI (i + 1)) a1 a2 a3 a4 a5 a6 a7 b8 a9 a10 a11 a12 a13) : ∃ n, wX_squarePower_2_33 post J (nI i) (nI k) n 0 a1 a2 a3 a4 a5 a6 a7 a8 a9 a10 a11 a12 a13 :=
  pk_loop (fun n j c => wX_squarePower_2_33 post J (nI i) (nI k) n (nI j) a1 a2 a3 a4 a5 a6 a7 c a9 a10 a11 a12 a13)
    (fun j c => ∃ q', rt_ar c q' 10 ∧ rt_Q p k i j q') k 0 a8 (by omega) ⟨q, h8, hq⟩
    (fun n c ⟨q', g1, g2⟩ => pk_le k k (fun _ => nm_r (nI_1 i) (H c q' g1 (rt_Q_i g2))) (fun z => absurd z (by omega)))
    (fun n j c hj ⟨q', g1, g2⟩ hw => pk_le k j (fun z => absurd z (by omega)) (fun _ =>
      ⟨pk_in (i + j) 10 (by omega) (nI_add i j), pk_in i 5 (by omega), pk_in j 5 (by omega), rt_997, pk_in (i + j) 10 (by omega) (nI_add i j), nm_e (nm_r (nI_1 j) (hw _ ⟨_, rt_aru g1 (rt_mac (rt_rd g1 (i + j) (by omega) (nI_add i j)) (rt_rd h6 i (by omega)) (rt_rd h6 j (by omega))) (nI_add i j), rt_Q_j hk hi hj g2⟩))⟩))
theorem rt_square_2 {post : St1 → Prop} {k N : Nat} {m p b : Nat → rt_F} (hf : f0 = nI k) (hk1 : 1 ≤ k) (hk : k ≤ 5) (h4 : rt_ar a4 m k) (h6 : rt_ar a6 p k) (hm : rt_sat m b k) (hp : ∀ t, b (t + N) = rt_act p b k t)
    (H : ∀ b6 b8 p', rt_ar b6 p' k → (∀ t, b (t + (N + N)) = rt_act p' b k t) → post (nI k, a1, a2, a3, a4, a5, b6, a7, b8, a9, a10, a11, a12, a13)) : wpX_squarePower_2 post (f0, a1, a2, a3, a4, a5, a6, a7, a8, a9, a10, a11, a12, a13) := by
  subst hf
  refine pk_loop (fun n i c => wX_squarePower_2_2 post (nI k) n (nI i) a1 a2 a3 a4 a5 a6 a7 c a9 a10 a11 a12 a13) (fun i c => ∀ j, j < i → c j = rt_I 0) 10 0 a8 (by omega) (fun j hj => absurd hj (by omega))
    (fun n c h => pk_le 10 10 (fun _ => ?_) (fun z => absurd z (by omega)))
    (fun n i c hi h hw => pk_le 10 i (fun z => absurd z (by omega)) (fun _ => ⟨pk_in i 10 hi, nm_e (nm_r (nI_1 i) (hw _ (rt_upl (P := fun j v => v = rt_I 0) h rfl)))⟩))
  exact pk_loop (fun n i c => wX_squarePower_2_23 post (nI k) n (nI i) a1 a2 a3 a4 a5 a6 a7 c a9 a10 a11 a12 a13) (fun i c => ∃ q, rt_ar c q 10 ∧ rt_Q p k i 0 q) k 0 c (by omega) ⟨fun _ => 0, h, rt_Q_0 p k⟩
    (fun n c ⟨q, g1, g2⟩ => pk_le k k (fun _ => nm_r (show (2 * nI k) - 2 = nI (2 * k - 2) by rw [show (2 : Int32) = nI 2 from rfl, pk_mul, pk_sub (by omega)]) (rt_sq96_2 (a8 := c) hk1 hk h4 hm H g1 (rt_Q_end hk1 hk g2 hp))) (fun z => absurd z (by omega)))
    (fun n i c hi ⟨q, g1, g2⟩ hw => pk_le k i (fun z => absurd z (by omega)) (fun _ => rt_sq33_2 (a8 := c) (J := wX_squarePower_2_23 post (nI k) n) hk hi h6 g1 g2 (fun b8 q' g g' => hw b8 ⟨q', g, g'⟩)))
theorem rt_times_2 {post : St1 → Prop} {k N : Nat} {m p b : Nat → rt_F} (hf : f0 = nI k) (hk1 : 1 ≤ k) (hk : k ≤ 5) (h4 : rt_ar a4 m k) (h6 : rt_ar a6 p k) (hm : rt_sat m b k) (hp : ∀ t, b (t + N) = rt_act p b k t)
    (H : ∀ b6 p', rt_ar b6 p' k → (∀ t, b (t + (N + 1)) = rt_act p' b k t) → post (nI k, a1, a2, a3, a4, a5, b6, a7, a8, a9, a10, a11, a12, a13)) : wpX_timesX_2 post (f0, a1, a2, a3, a4, a5, a6, a7, a8, a9, a10, a11, a12, a13) := by
  subst hf
  refine ⟨pk_in (k - 1) 5 (by omega) (rt_p1 hk1), nm_r (rt_rd h6 (k - 1) (by omega) (rt_p1 hk1)) (nm_r (show nI k - 1 = nI k + (-1) from Int32.sub_eq_add_neg _ _) ⟨k + 1, ?_⟩)⟩
  refine pk_loopD (fun n c d => wX_timesX_2_19 post (rt_I (p (k - 1))) (nI k) n (nI c + (-1)) a1 a2 a3 a4 a5 d a7 a8 a9 a10 a11 a12 a13)
    (fun c d => c ≤ k ∧ (∀ j, c ≤ j → j < k → d j = rt_I (rt_tx p m k j)) ∧ (∀ j, j < c → d j = rt_I (p j)))
    (fun n d h => br_t (by decide) (H d (rt_tx p m k) (fun j hj => h.2.1 j (by omega) hj) (rt_tx_act hk1 hm hp)))
    (fun n c d h hw => ?_) k a6 ⟨Nat.le_refl k, fun j h1 h2 => absurd h1 (by omega), h6⟩
  obtain ⟨hc, g1, g2⟩ := h
  have main : ∀ (z : Int32) (y : rt_F), z = rt_I y → rt_tx p m k c = y + p (k - 1) * m c → wX_timesX_2_39 post (wX_timesX_2_19 post (rt_I (p (k - 1))) (nI k) n) (rt_I (p (k - 1))) (nI c) z (nI k) a1 a2 a3 a4 a5 d a7 a8 a9 a10 a11 a12 a13 := fun z y hz hy =>
    ⟨pk_in c 6 (by omega), rt_997, pk_in c 5 (by omega), nm_e (nm_e (hw _ ⟨by omega, fun j j1 j2 => by
      rw [pk_cl c]
      by_cases e : j = c
      · rw [e, pk_us, hy]
        exact rt_mac hz rfl (h4 c (by omega))
      · rw [pk_un e]
        exact g1 j (by omega) j2, fun j hj => by
      rw [pk_cl c, pk_un (by omega)]
      exact g2 j (by omega)⟩))⟩
  show wX_timesX_2_19 post (rt_I (p (k - 1))) (nI k) (n + 1) (nI (c + 1) + (-1)) a1 a2 a3 a4 a5 d a7 a8 a9 a10 a11 a12 a13
  rw [pk_m1]
  refine br_f (nI_pos (by omega)) (pk_le c 0 (fun z => main 0 0 rfl ?_) (fun z => ⟨pk_in (c - 1) 5 (by omega) (rt_p1 z), main _ (p (c - 1)) ?_ ?_⟩))
  · unfold rt_tx
    rw [if_neg (by omega)]
  · rw [pk_cl (c - 1) (rt_p1 z)]
    exact g2 (c - 1) (by omega)
  · unfold rt_tx
    rw [if_pos z]
theorem rt_raise_2 {post : St1 → Prop} {k n : Nat} {m b : Nat → rt_F} (hf : f0 = nI k) (hk : k ≤ 5) (hn : n < 2 ^ 31) (h4 : rt_ar a4 m k) (hm : rt_sat m b k)
    (H : ∀ b6 b8 p, rt_ar b6 p k → (0 < k → ∀ t, b (t + n) = rt_act p b k t) → post (nI k, a1, a2, a3, a4, a5, b6, a7, b8, a9, a10, a11, a12, a13)) : wpX_raise_2 post (f0, a1, a2, a3, a4, a5, a6, a7, a8, a9, a10, a11, a12, a13) (nI n) := by
  subst hf
  refine pk_loop (fun f i d => wX_raise_2_2 post (nI n) (nI k) f (nI i) a1 a2 a3 a4 a5 d a7 a8 a9 a10 a11 a12 a13) (fun i d => ∀ j, j < i → d j = rt_I (if j = 0 then (if 0 < k then 1 else 0) else 0)) 5 0 a6 (by omega) (fun j hj => absurd hj (by omega))
    (fun f d h => pk_le 5 5 (fun _ => ?_) (fun z => absurd z (by omega)))
    (fun f i d hi h hw => pk_le 5 i (fun z => absurd z (by omega)) (fun _ => pk_eq i 0
      (fun z => pk_le k 0
        (fun z2 => ⟨pk_in i 5 hi, nm_e (nm_r (nI_1 i) (hw _ (rt_upl (P := fun j v => v = rt_I (if j = 0 then (if 0 < k then 1 else 0) else 0)) h (by rw [if_pos z, if_neg (by omega)]; rfl))))⟩)
        (fun z2 => ⟨pk_in i 5 hi, nm_e (nm_r (nI_1 i) (hw _ (rt_upl (P := fun j v => v = rt_I (if j = 0 then (if 0 < k then 1 else 0) else 0)) h (by rw [if_pos z, if_pos (by omega)]; rfl))))⟩))
      (fun z => ⟨pk_in i 5 hi, nm_e (nm_r (nI_1 i) (hw _ (rt_upl (P := fun j v => v = rt_I (if j = 0 then (if 0 < k then 1 else 0) else 0)) h (by rw [if_neg z]; rfl))))⟩)))
  rcases Nat.eq_zero_or_pos k with z | z
  · subst z
    exact ⟨1, br_f (by decide) (pk_le 0 0 (fun _ => H d a8 (fun _ => 0) (fun j hj => absurd hj (by omega)) (fun z => absurd z (by omega))) (fun z => absurd z (by omega)))⟩
  · refine ⟨31 + 1, ?_⟩
    have key := pk_loopD (fun f c (s : (Nat → Int32) × (Nat → Int32)) => wX_raise_2_38 post (nI n) f (nI c + (-1)) (nI k) a1 a2 a3 a4 a5 s.1 a7 s.2 a9 a10 a11 a12 a13)
      (fun c s => c ≤ 31 ∧ ∃ p, rt_ar s.1 p k ∧ ∀ t, b (t + n / 2 ^ c) = rt_act p b k t)
      (fun f s ⟨_, p, g1, g2⟩ => br_t (by decide) (H s.1 s.2 p g1 (fun _ t => by have := g2 t; rw [Nat.pow_zero, Nat.div_one] at this; exact this)))
      (fun f c s ⟨hc, p, g1, g2⟩ hw => by
        show wX_raise_2_38 post (nI n) (f + 1) (nI (c + 1) + (-1)) (nI k) a1 a2 a3 a4 a5 s.1 a7 s.2 a9 a10 a11 a12 a13
        rw [pk_m1]
        have e : n / 2 ^ (c + 1) = n / 2 ^ c / 2 := by rw [Nat.pow_succ, Nat.div_div_eq_div_mul]
        refine br_f (nI_pos (by omega)) (pk_le k 0 (fun y => absurd y (by omega)) (fun _ => rt_square_2 rfl (by omega) hk h4 g1 hm g2 (fun b6 b8 p' q1 q2 => pk_eq (n / 2 ^ c % 2) 1 (fun y => ?_) (fun y => nm_e (hw (b6, b8) ⟨by omega, p', q1, fun t => ?_⟩)) (rt_bit hn (by omega)))))
        · exact rt_times_2 rfl (by omega) hk h4 q1 hm q2 (fun b6' p'' r1 r2 => nm_e (hw (b6', b8) ⟨by omega, p'', r1, fun t => by
            rw [← r2 t]
            exact congrArg b (by omega)⟩))
        · rw [← q2 t]
          exact congrArg b (by omega))
      31 (d, a8) ⟨by omega, fun j => if j = 0 then (if 0 < k then 1 else 0) else 0, fun j hj => h j (by omega), fun t => by
        obtain ⟨q, rfl⟩ : ∃ q, k = q + 1 := ⟨k - 1, by omega⟩
        unfold rt_act
        rw [rt_sum_head, rt_sum_zero (n := q) (fun i _ => by dsimp only; rw [if_neg (by omega)]; grind), Nat.div_eq_of_lt hn]
        dsimp only
        rw [if_pos rfl, if_pos (by omega)]
        grind⟩
    exact key
theorem rt_termAt_2 {post : Int32 → St1 → Prop} {K : Nat → Nat} {R G : Nat → rt_F} {s n : Nat} (hP : rt_P K R G a1 a2 a3) (hs : s < 3) (hn : n < 2 ^ 31)
    (H : ∀ bf b4 b6 b8, post (rt_I (rt_sq K R G s n)) (bf, a1, a2, a3, b4, a5, b6, a7, b8, a9, a10, a11, a12, a13)) : wpX_termAt_2 post (f0, a1, a2, a3, a4, a5, a6, a7, a8, a9, a10, a11, a12, a13) (nI s) (nI n) := by
  obtain ⟨hK, h2, h3⟩ := hP
  obtain ⟨hk, h1⟩ := hK s hs
  refine ⟨pk_in s 3 hs, nm_r (show a1 (nI s).toNatClampNeg = nI (K s) by rw [nI_clamp (by omega)]; exact h1) (pk_le (K s) n (fun z => ?_) (fun z => ⟨pk_in (4 * s + n) 12 (by omega) (rt_ix4 s n), ?_⟩))⟩
  · refine rt_takeRule_2 hs hk h1 h2 (fun b4 g4 => ?_)
    refine rt_raise_2 rfl (by omega) hn g4 (rt_all_sat (rt_seq_all (K s) (fun i => R (4 * s + i)) (fun i => G (4 * s + i)))) (fun b6 b8 p g6 gp => ?_)
    have ev : rt_sum (fun j => p j * G (4 * s + j)) (K s) = rt_sq K R G s n := by
      rcases Nat.eq_zero_or_pos (K s) with y | y
      · have := rt_seq_all (K s) (fun i => R (4 * s + i)) (fun i => G (4 * s + i)) n (by omega)
        unfold rt_sq
        rw [this, y]; rfl
      · have := gp y 0
        rw [Nat.zero_add] at this
        unfold rt_sq
        rw [this]
        exact rt_sum_congr (fun i hi => by rw [Nat.zero_add, rt_seq_first hi])
    exact pk_loop (fun f i x => wX_termAt_2_44 post (nI s) (nI (K s)) a1 a2 a3 b4 a5 b6 a7 b8 a9 a10 a11 a12 a13 f x (nI i)) (fun i x => x = rt_I (rt_sum (fun j => p j * G (4 * s + j)) i)) (K s) 0 0 (by omega) rfl
      (fun f x h => pk_le (K s) (K s) (fun _ => by rw [h, ev]; exact H _ b4 b6 b8) (fun z => absurd z (by omega)))
      (fun f i x hi h hw => pk_le (K s) i (fun z => absurd z (by omega)) (fun _ => ⟨pk_in i 5 (by omega), pk_in (4 * s + i) 12 (by omega) (rt_ix4 s i), rt_997, nm_e (nm_r (nI_1 i) (hw _ (rt_mac h (rt_rd g6 i hi) (rt_rd h3 (4 * s + i) (by omega) (rt_ix4 s i)))))⟩))
  · rw [rt_rd h3 (4 * s + n) (by omega) (rt_ix4 s n)]
    have ev : G (4 * s + n) = rt_sq K R G s n := (rt_seq_first (k := K s) (r := fun i => R (4 * s + i)) (f := fun i => G (4 * s + i)) z).symm
    rw [ev]
    exact H f0 a4 a6 a8
end
end
section
section
variable {f0 : Int32} {a1 a2 a3 a4 a5 a6 a7 a8 a9 a10 a11 a12 a13 : Nat → Int32}
theorem rt_takeRule_3 {post : St1 → Prop} {s k : Nat} {R : Nat → rt_F} (hs : s < 3) (hk : k ≤ 4) (h1 : a1 s = nI k) (h2 : rt_ar a2 R 12)
    (H : ∀ b4, rt_ar b4 (fun j => R (4 * s + (k - 1 - j))) k → post (f0, a1, a2, a3, b4, a5, a6, a7, a8, a9, a10, a11, a12, a13)) : wpX_takeRule_3 post (f0, a1, a2, a3, a4, a5, a6, a7, a8, a9, a10, a11, a12, a13) (nI s) := by
  refine ⟨pk_in s 3 hs, nm_r (show a1 (nI s).toNatClampNeg = nI k by rw [nI_clamp (by omega)]; exact h1) ?_⟩
  exact pk_loop (fun n i b => wX_takeRule_3_9 post (nI s) (nI k) f0 n (nI i) a1 a2 a3 b a5 a6 a7 a8 a9 a10 a11 a12 a13)
    (fun i b => ∀ j, j < i → (j < k → b j = rt_I (R (4 * s + (k - 1 - j))))) 6 0 a4 (by omega) (fun j hj => absurd hj (by omega))
    (fun n b h => pk_le 6 6 (fun _ => H b (fun j hj => h j (by omega) hj)) (fun z => absurd z (by omega)))
    (fun n i b hi h hw => pk_le 6 i (fun z => absurd z (by omega)) (fun _ => pk_le k i
      (fun z => ⟨pk_in i 6 hi, nm_e (nm_r (nI_1 i) (hw _ (rt_upl (P := fun j v => j < k → v = rt_I (R (4 * s + (k - 1 - j)))) h (fun y => absurd y (by omega)))))⟩)
      (fun z => ⟨pk_in (4 * s + (k - 1 - i)) 12 (by omega) (rt_ixr z), pk_in i 6 hi, nm_e (nm_r (nI_1 i) (hw _ (rt_upl (P := fun j v => j < k → v = rt_I (R (4 * s + (k - 1 - j)))) h (fun _ => rt_rd h2 _ (by omega) (rt_ixr z)))))⟩)))
theorem rt_sq172_3 {post : St1 → Prop} {k : Nat} {q : Nat → rt_F} (hk : k ≤ 5) (h8 : rt_ar a8 q 10) (H : ∀ b6, rt_ar b6 q k → post (nI k, a1, a2, a3, a4, a5, b6, a7, a8, a9, a10, a11, a12, a13)) : ∃ n, wX_squarePower_3_172 post (nI k) n 0 a1 a2 a3 a4 a5 a6 a7 a8 a9 a10 a11 a12 a13 :=
  pk_loop (fun n i b => wX_squarePower_3_172 post (nI k) n (nI i) a1 a2 a3 a4 a5 b a7 a8 a9 a10 a11 a12 a13) (fun i b => ∀ j, j < i → b j = rt_I (q j)) k 0 a6 (by omega) (fun j hj => absurd hj (by omega))
    (fun n b h => pk_le k k (fun _ => H b h) (fun z => absurd z (by omega)))
    (fun n i b hi h hw => pk_le k i (fun z => absurd z (by omega)) (fun _ => ⟨pk_in i 10 (by omega), pk_in i 5 (by omega), nm_e (nm_r (nI_1 i) (hw _ (rt_upl (P := fun j v => v = rt_I (q j)) h (rt_rd h8 i (by omega)))))⟩))
/-- one step of taking the product down -/
theorem rt_sq106_3 {post : St1 → Prop} {J : Int32 → (Nat → Int32) → (Nat → Int32) → (Nat → Int32) → (Nat → Int32) → (Nat → Int32) → (Nat → Int32) → (Nat → Int32) → (Nat → Int32) → (Nat → Int32) → (Nat → Int32) → (Nat → Int32) → (Nat → Int32) → (Nat → Int32) → Prop} {k e N : Nat} {m q b : Nat → rt_F} (hk1 : 1 ≤ k) (hk : k ≤ 5) (he : e + 1 < k) (h4 : rt_ar a4 m k) (hm : rt_sat m b k) (h8 : rt_ar a8 q 10)
    (hq : ∀ t, b (t + N) = rt_act q b (k + e + 1) t) (H : ∀ b8 q', rt_ar b8 q' 10 → (∀ t, b (t + N) = rt_act q' b (k + e) t) → J (nI (k - 1 + e)) a1 a2 a3 a4 a5 a6 a7 b8 a9 a10 a11 a12 a13) : ∃ n, wX_squarePower_3_106 post J (nI (k + e)) (nI k) n 0 a1 a2 a3 a4 a5 a6 a7 a8 a9 a10 a11 a12 a13 :=
  pk_loop (fun n j c => wX_squarePower_3_106 post J (nI (k + e)) (nI k) n (nI j) a1 a2 a3 a4 a5 a6 a7 c a9 a10 a11 a12 a13)
    (fun j c => ∃ q', rt_ar c q' 10 ∧ ∀ t, b (t + N) = rt_act q' b (k + e) t + q' (k + e) * (rt_act m b k (t + e) - rt_act m b j (t + e))) k 0 a8 (by omega)
    ⟨q, h8, fun t => by
      rw [hq t, rt_act_s, ← hm (t + e), show t + e + k = t + (k + e) by omega]
      show _ = _ + q (k + e) * (_ - 0)
      grind⟩
    (fun n c ⟨q', g1, g2⟩ => pk_le k k (fun _ => nm_r (show nI (k + e) + (-1) = nI (k - 1 + e) by rw [show k + e = k - 1 + e + 1 by omega, pk_m1]) (H c q' g1 (fun t => by rw [g2 t]; grind))) (fun z => absurd z (by omega)))
    (fun n j c hj ⟨q', g1, g2⟩ hw => pk_le k j (fun z => absurd z (by omega)) (fun _ => by
      have ei : (nI (k + e) - nI k) + nI j = nI (e + j) := by
        rw [pk_sub (by omega), nI_add]
        exact congrArg nI (by omega)
      refine ⟨pk_in (e + j) 10 (by omega) ei, pk_in (k + e) 10 (by omega), pk_in j 6 (by omega), rt_997, pk_in (e + j) 10 (by omega) ei, nm_e (nm_r (nI_1 j) (hw _ ⟨rt_up q' (e + j) (q' (e + j) + q' (k + e) * m j), rt_aru g1 (rt_mac (rt_rd g1 (e + j) (by omega) ei) (rt_rd g1 (k + e) (by omega)) (rt_rd h4 j hj)) ei, fun t => ?_⟩))⟩
      rw [rt_act_up _ _ _ (by omega), rt_up_n _ _ (show k + e ≠ e + j by omega), g2 t, rt_act_s, show t + e + j = t + (e + j) by omega]
      grind))
theorem rt_sq96_3 {post : St1 → Prop} {k N : Nat} {m b : Nat → rt_F} (hk1 : 1 ≤ k) (hk : k ≤ 5) (h4 : rt_ar a4 m k) (hm : rt_sat m b k)
    (H : ∀ b6 b8 p', rt_ar b6 p' k → (∀ t, b (t + N) = rt_act p' b k t) → post (nI k, a1, a2, a3, a4, a5, b6, a7, b8, a9, a10, a11, a12, a13)) {q : Nat → rt_F} (h8 : rt_ar a8 q 10) (hq : ∀ t, b (t + N) = rt_act q b (2 * k - 1) t) : ∃ n, wX_squarePower_3_96 post (nI k) n (nI (2 * k - 2)) a1 a2 a3 a4 a5 a6 a7 a8 a9 a10 a11 a12 a13 := by
  refine ⟨k - 1 + 1, ?_⟩
  have := pk_loopD (fun n e c => wX_squarePower_3_96 post (nI k) n (nI (k - 1 + e)) a1 a2 a3 a4 a5 a6 a7 c a9 a10 a11 a12 a13)
    (fun e c => e < k ∧ ∃ q', rt_ar c q' 10 ∧ ∀ t, b (t + N) = rt_act q' b (k + e) t)
    (fun n c ⟨_, q', g1, g2⟩ => pk_lt (k - 1 + 0) k (fun _ => rt_sq172_3 (a8 := c) hk g1 (fun b6 g6 => H b6 c q' g6 g2)) (fun z => absurd z (by omega)))
    (fun n e c ⟨he, q', g1, g2⟩ hw => pk_lt (k - 1 + (e + 1)) k (fun z => absurd z (by omega)) (fun _ => by
      have := rt_sq106_3 (post := post) (a1 := a1) (a2 := a2) (a3 := a3) (a5 := a5) (a6 := a6) (a7 := a7) (a9 := a9) (a10 := a10) (a11 := a11) (a12 := a12) (a13 := a13) (J := wX_squarePower_3_96 post (nI k) n) (N := N) hk1 hk he h4 hm g1 (fun t => g2 t) (fun b8 q'' g g' => hw b8 ⟨by omega, q'', g, g'⟩)
      rw [show k - 1 + (e + 1) = k + e by omega]
      exact this)) (k - 1) a8 ⟨by omega, q, h8, fun t => by rw [hq t, show k + (k - 1) = 2 * k - 1 by omega]⟩
  rw [show 2 * k - 2 = k - 1 + (k - 1) by omega]
  exact this
theorem rt_sq33_3 {post : St1 → Prop} {J : Int32 → (Nat → Int32) → (Nat → Int32) → (Nat → Int32) → (Nat → Int32) → (Nat → Int32) → (Nat → Int32) → (Nat → Int32) → (Nat → Int32) → (Nat → Int32) → (Nat → Int32) → (Nat → Int32) → (Nat → Int32) → (Nat → Int32) → Prop} {k i : Nat} {p q : Nat → rt_F} (hk : k ≤ 5) (hi : i < k) (h6 : rt_ar a6 p k) (h8 : rt_ar a8 q 10) (hq : rt_Q p k i 0 q)
    (H : ∀ b8 q', rt_ar b8 q' 10 → rt_Q p k (i + 1) 0 q' → J (nI (i + 1)) a1 a2 a3 a4 a5 a6 a7 b8 a9 a10 a11 a12 a13) : ∃ n, wX_squarePower_3_33 post J (nI i) (nI k) n 0 a1 a2 a3 a4 a5 a6 a7 a8 a9 a10 a11 a12 a13 :=
  pk_loop (fun n j c => wX_squarePower_3_33 post J (nI i) (nI k) n (nI j) a1 a2 a3 a4 a5 a6 a7 c a9 a10 a11 a12 a13)
    (fun j c => ∃ q', rt_ar c q' 10 ∧ rt_Q p k i j q') k 0 a8 (by omega) ⟨q, h8, hq⟩
    (fun n c ⟨q', g1, g2⟩ => pk_le k k (fun _ => nm_r (nI_1 i) (H c q' g1 (rt_Q_i g2))) (fun z => absurd z (by omega)))
    (fun n j c hj ⟨q', g1, g2⟩ hw => pk_le k j (fun z => absurd z (by omega)) (fun _ =>
      ⟨pk_in (i + j) 10 (by omega) (nI_add i j), pk_in i 5 (by omega), pk_in j 5 (by omega), rt_997, pk_in (i + j) 10 (by omega) (nI_add i j), nm_e (nm_r (nI_1 j) (hw _ ⟨_, rt_aru g1 (rt_mac (rt_rd g1 (i + j) (by omega) (nI_add i j)) (rt_rd h6 i (by omega)) (rt_rd h6 j (by omega))) (nI_add i j), rt_Q_j hk hi hj g2⟩))⟩))
theorem rt_square_3 {post : St1 → Prop} {k N : Nat} {m p b : Nat → rt_F} (hf : f0 = nI k) (hk1 : 1 ≤ k) (hk : k ≤ 5) (h4 : rt_ar a4 m k) (h6 : rt_ar a6 p k) (hm : rt_sat m b k) (hp : ∀ t, b (t + N) = rt_act p b k t)
    (H : ∀ b6 b8 p', rt_ar b6 p' k → (∀ t, b (t + (N + N)) = rt_act p' b k t) → post (nI k, a1, a2, a3, a4, a5, b6, a7, b8, a9, a10, a11, a12, a13)) : wpX_squarePower_3 post (f0, a1, a2, a3, a4, a5, a6, a7, a8, a9, a10, a11, a12, a13) := by
  subst hf
  refine pk_loop (fun n i c => wX_squarePower_3_2 post (nI k) n (nI i) a1 a2 a3 a4 a5 a6 a7 c a9 a10 a11 a12 a13) (fun i c => ∀ j, j < i → c j = rt_I 0) 10 0 a8 (by omega) (fun j hj => absurd hj (by omega))
    (fun n c h => pk_le 10 10 (fun _ => ?_) (fun z => absurd z (by omega)))
    (fun n i c hi h hw => pk_le 10 i (fun z => absurd z (by omega)) (fun _ => ⟨pk_in i 10 hi, nm_e (nm_r (nI_1 i) (hw _ (rt_upl (P := fun j v => v = rt_I 0) h rfl)))⟩))
  exact pk_loop (fun n i c => wX_squarePower_3_23 post (nI k) n (nI i) a1 a2 a3 a4 a5 a6 a7 c a9 a10 a11 a12 a13) (fun i c => ∃ q, rt_ar c q 10 ∧ rt_Q p k i 0 q) k 0 c (by omega) ⟨fun _ => 0, h, rt_Q_0 p k⟩
    (fun n c ⟨q, g1, g2⟩ => pk_le k k (fun _ => nm_r (show (2 * nI k) - 2 = nI (2 * k - 2) by rw [show (2 : Int32) = nI 2 from rfl, pk_mul, pk_sub (by omega)]) (rt_sq96_3 (a8 := c) hk1 hk h4 hm H g1 (rt_Q_end hk1 hk g2 hp))) (fun z => absurd z (by omega)))
    (fun n i c hi ⟨q, g1, g2⟩ hw => pk_le k i (fun z => absurd z (by omega)) (fun _ => rt_sq33_3 (a8 := c) (J := wX_squarePower_3_23 post (nI k) n) hk hi h6 g1 g2 (fun b8 q' g g' => hw b8 ⟨q', g, g'⟩)))
theorem rt_times_3 {post : St1 → Prop} {k N : Nat} {m p b : Nat → rt_F} (hf : f0 = nI k) (hk1 : 1 ≤ k) (hk : k ≤ 5) (h4 : rt_ar a4 m k) (h6 : rt_ar a6 p k) (hm : rt_sat m b k) (hp : ∀ t, b (t + N) = rt_act p b k t)
    (H : ∀ b6 p', rt_ar b6 p' k → (∀ t, b (t + (N + 1)) = rt_act p' b k t) → post (nI k, a1, a2, a3, a4, a5, b6, a7, a8, a9, a10, a11, a12, a13)) : wpX_timesX_3 post (f0, a1, a2, a3, a4, a5, a6, a7, a8, a9, a10, a11, a12, a13) := by
  subst hf
  refine ⟨pk_in (k - 1) 5 (by omega) (rt_p1 hk1), nm_r (rt_rd h6 (k - 1) (by omega) (rt_p1 hk1)) (nm_r (show nI k - 1 = nI k + (-1) from Int32.sub_eq_add_neg _ _) ⟨k + 1, ?_⟩)⟩
  refine pk_loopD (fun n c d => wX_timesX_3_19 post (rt_I (p (k - 1))) (nI k) n (nI c + (-1)) a1 a2 a3 a4 a5 d a7 a8 a9 a10 a11 a12 a13)
    (fun c d => c ≤ k ∧ (∀ j, c ≤ j → j < k → d j = rt_I (rt_tx p m k j)) ∧ (∀ j, j < c → d j = rt_I (p j)))
    (fun n d h => br_t (by decide) (H d (rt_tx p m k) (fun j hj => h.2.1 j (by omega) hj) (rt_tx_act hk1 hm hp)))
    (fun n c d h hw => ?_) k a6 ⟨Nat.le_refl k, fun j h1 h2 => absurd h1 (by omega), h6⟩
  obtain ⟨hc, g1, g2⟩ := h
  have main : ∀ (z : Int32) (y : rt_F), z = rt_I y → rt_tx p m k c = y + p (k - 1) * m c → wX_timesX_3_39 post (wX_timesX_3_19 post (rt_I (p (k - 1))) (nI k) n) (rt_I (p (k - 1))) (nI c) z (nI k) a1 a2 a3 a4 a5 d a7 a8 a9 a10 a11 a12 a13 := fun z y hz hy =>
    ⟨pk_in c 6 (by omega), rt_997, pk_in c 5 (by omega), nm_e (nm_e (hw _ ⟨by omega, fun j j1 j2 => by
      rw [pk_cl c]
      by_cases e : j = c
      · rw [e, pk_us, hy]
        exact rt_mac hz rfl (h4 c (by omega))
      · rw [pk_un e]
        exact g1 j (by omega) j2, fun j hj => by
      rw [pk_cl c, pk_un (by omega)]
      exact g2 j (by omega)⟩))⟩
  show wX_timesX_3_19 post (rt_I (p (k - 1))) (nI k) (n + 1) (nI (c + 1) + (-1)) a1 a2 a3 a4 a5 d a7 a8 a9 a10 a11 a12 a13
  rw [pk_m1]
  refine br_f (nI_pos (by omega)) (pk_le c 0 (fun z => main 0 0 rfl ?_) (fun z => ⟨pk_in (c - 1) 5 (by omega) (rt_p1 z), main _ (p (c - 1)) ?_ ?_⟩))
  · unfold rt_tx
    rw [if_neg (by omega)]
  · rw [pk_cl (c - 1) (rt_p1 z)]
    exact g2 (c - 1) (by omega)
  · unfold rt_tx
    rw [if_pos z]
theorem rt_raise_3 {post : St1 → Prop} {k n : Nat} {m b : Nat → rt_F} (hf : f0 = nI k) (hk : k ≤ 5) (hn : n < 2 ^ 31) (h4 : rt_ar a4 m k) (hm : rt_sat m b k)
    (H : ∀ b6 b8 p, rt_ar b6 p k → (0 < k → ∀ t, b (t + n) = rt_act p b k t) → post (nI k, a1, a2, a3, a4, a5, b6, a7, b8, a9, a10, a11, a12, a13)) : wpX_raise_3 post (f0, a1, a2, a3, a4, a5, a6, a7, a8, a9, a10, a11, a12, a13) (nI n) := by
  subst hf
  refine pk_loop (fun f i d => wX_raise_3_2 post (nI n) (nI k) f (nI i) a1 a2 a3 a4 a5 d a7 a8 a9 a10 a11 a12 a13) (fun i d => ∀ j, j < i → d j = rt_I (if j = 0 then (if 0 < k then 1 else 0) else 0)) 5 0 a6 (by omega) (fun j hj => absurd hj (by omega))
    (fun f d h => pk_le 5 5 (fun _ => ?_) (fun z => absurd z (by omega)))
    (fun f i d hi h hw => pk_le 5 i (fun z => absurd z (by omega)) (fun _ => pk_eq i 0
      (fun z => pk_le k 0
        (fun z2 => ⟨pk_in i 5 hi, nm_e (nm_r (nI_1 i) (hw _ (rt_upl (P := fun j v => v = rt_I (if j = 0 then (if 0 < k then 1 else 0) else 0)) h (by rw [if_pos z, if_neg (by omega)]; rfl))))⟩)
        (fun z2 => ⟨pk_in i 5 hi, nm_e (nm_r (nI_1 i) (hw _ (rt_upl (P := fun j v => v = rt_I (if j = 0 then (if 0 < k then 1 else 0) else 0)) h (by rw [if_pos z, if_pos (by omega)]; rfl))))⟩))
      (fun z => ⟨pk_in i 5 hi, nm_e (nm_r (nI_1 i) (hw _ (rt_upl (P := fun j v => v = rt_I (if j = 0 then (if 0 < k then 1 else 0) else 0)) h (by rw [if_neg z]; rfl))))⟩)))
  rcases Nat.eq_zero_or_pos k with z | z
  · subst z
    exact ⟨1, br_f (by decide) (pk_le 0 0 (fun _ => H d a8 (fun _ => 0) (fun j hj => absurd hj (by omega)) (fun z => absurd z (by omega))) (fun z => absurd z (by omega)))⟩
  · refine ⟨31 + 1, ?_⟩
    have key := pk_loopD (fun f c (s : (Nat → Int32) × (Nat → Int32)) => wX_raise_3_38 post (nI n) f (nI c + (-1)) (nI k) a1 a2 a3 a4 a5 s.1 a7 s.2 a9 a10 a11 a12 a13)
      (fun c s => c ≤ 31 ∧ ∃ p, rt_ar s.1 p k ∧ ∀ t, b (t + n / 2 ^ c) = rt_act p b k t)
      (fun f s ⟨_, p, g1, g2⟩ => br_t (by decide) (H s.1 s.2 p g1 (fun _ t => by have := g2 t; rw [Nat.pow_zero, Nat.div_one] at this; exact this)))
      (fun f c s ⟨hc, p, g1, g2⟩ hw => by
        show wX_raise_3_38 post (nI n) (f + 1) (nI (c + 1) + (-1)) (nI k) a1 a2 a3 a4 a5 s.1 a7 s.2 a9 a10 a11 a12 a13
        rw [pk_m1]
        have e : n / 2 ^ (c + 1) = n / 2 ^ c / 2 := by rw [Nat.pow_succ, Nat.div_div_eq_div_mul]
        refine br_f (nI_pos (by omega)) (pk_le k 0 (fun y => absurd y (by omega)) (fun _ => rt_square_3 rfl (by omega) hk h4 g1 hm g2 (fun b6 b8 p' q1 q2 => pk_eq (n / 2 ^ c % 2) 1 (fun y => ?_) (fun y => nm_e (hw (b6, b8) ⟨by omega, p', q1, fun t => ?_⟩)) (rt_bit hn (by omega)))))
        · exact rt_times_3 rfl (by omega) hk h4 q1 hm q2 (fun b6' p'' r1 r2 => nm_e (hw (b6', b8) ⟨by omega, p'', r1, fun t => by
            rw [← r2 t]
            exact congrArg b (by omega)⟩))
        · rw [← q2 t]
          exact congrArg b (by omega))
      31 (d, a8) ⟨by omega, fun j => if j = 0 then (if 0 < k then 1 else 0) else 0, fun j hj => h j (by omega), fun t => by
        obtain ⟨q, rfl⟩ : ∃ q, k = q + 1 := ⟨k - 1, by omega⟩
        unfold rt_act
        rw [rt_sum_head, rt_sum_zero (n := q) (fun i _ => by dsimp only; rw [if_neg (by omega)]; grind), Nat.div_eq_of_lt hn]
        dsimp only
        rw [if_pos rfl, if_pos (by omega)]
        grind⟩
    exact key
theorem rt_termAt_3 {post : Int32 → St1 → Prop} {K : Nat → Nat} {R G : Nat → rt_F} {s n : Nat} (hP : rt_P K R G a1 a2 a3) (hs : s < 3) (hn : n < 2 ^ 31)
    (H : ∀ bf b4 b6 b8, post (rt_I (rt_sq K R G s n)) (bf, a1, a2, a3, b4, a5, b6, a7, b8, a9, a10, a11, a12, a13)) : wpX_termAt_3 post (f0, a1, a2, a3, a4, a5, a6, a7, a8, a9, a10, a11, a12, a13) (nI s) (nI n) := by
  obtain ⟨hK, h2, h3⟩ := hP
  obtain ⟨hk, h1⟩ := hK s hs
  refine ⟨pk_in s 3 hs, nm_r (show a1 (nI s).toNatClampNeg = nI (K s) by rw [nI_clamp (by omega)]; exact h1) (pk_le (K s) n (fun z => ?_) (fun z => ⟨pk_in (4 * s + n) 12 (by omega) (rt_ix4 s n), ?_⟩))⟩
  · refine rt_takeRule_3 hs hk h1 h2 (fun b4 g4 => ?_)
    refine rt_raise_3 rfl (by omega) hn g4 (rt_all_sat (rt_seq_all (K s) (fun i => R (4 * s + i)) (fun i => G (4 * s + i)))) (fun b6 b8 p g6 gp => ?_)
    have ev : rt_sum (fun j => p j * G (4 * s + j)) (K s) = rt_sq K R G s n := by
      rcases Nat.eq_zero_or_pos (K s) with y | y
      · have := rt_seq_all (K s) (fun i => R (4 * s + i)) (fun i => G (4 * s + i)) n (by omega)
        unfold rt_sq
        rw [this, y]; rfl
      · have := gp y 0
        rw [Nat.zero_add] at this
        unfold rt_sq
        rw [this]
        exact rt_sum_congr (fun i hi => by rw [Nat.zero_add, rt_seq_first hi])
    exact pk_loop (fun f i x => wX_termAt_3_44 post (nI s) (nI (K s)) a1 a2 a3 b4 a5 b6 a7 b8 a9 a10 a11 a12 a13 f x (nI i)) (fun i x => x = rt_I (rt_sum (fun j => p j * G (4 * s + j)) i)) (K s) 0 0 (by omega) rfl
      (fun f x h => pk_le (K s) (K s) (fun _ => by rw [h, ev]; exact H _ b4 b6 b8) (fun z => absurd z (by omega)))
      (fun f i x hi h hw => pk_le (K s) i (fun z => absurd z (by omega)) (fun _ => ⟨pk_in i 5 (by omega), pk_in (4 * s + i) 12 (by omega) (rt_ix4 s i), rt_997, nm_e (nm_r (nI_1 i) (hw _ (rt_mac h (rt_rd g6 i hi) (rt_rd h3 (4 * s + i) (by omega) (rt_ix4 s i)))))⟩))
  · rw [rt_rd h3 (4 * s + n) (by omega) (rt_ix4 s n)]
    have ev : G (4 * s + n) = rt_sq K R G s n := (rt_seq_first (k := K s) (r := fun i => R (4 * s + i)) (f := fun i => G (4 * s + i)) z).symm
    rw [ev]
    exact H f0 a4 a6 a8
end
end
section
theorem rt_inverse {post : Int32 → Prop} (x : rt_F) (H : post (rt_I (rt_inv x))) : wpX_inverse post () (rt_I x) :=
  pk_loop (fun n i (s : Int32 × Int32) => wX_inverse_11 post 995 n s.1 s.2 (nI i)) (fun i s => s.1 = rt_I (rt_ir x i) ∧ s.2 = rt_I (rt_ib x i)) 10 0 (1, rt_I x) (by omega) ⟨rfl, rfl⟩
    (fun n s h => pk_le 10 10 (fun _ => by rw [h.1]; exact H) (fun z => absurd z (by omega)))
    (fun n i s hi h hw => pk_le 10 i (fun z => absurd z (by omega)) (fun _ => pk_eq (995 / 2 ^ i % 2) 1
      (fun z => ⟨rt_997, nm_e ⟨rt_997, nm_e (nm_r (nI_1 i) (hw (_, _) ⟨(rt_mul2 h.1 h.2).trans (congrArg rt_I (show rt_ir x i * rt_ib x i = rt_ir x (i + 1) from (if_pos z).symm)), rt_mul2 h.2 h.2⟩))⟩⟩)
      (fun z => ⟨rt_997, nm_e (nm_r (nI_1 i) (hw (s.1, (s.2 * s.2) - (s.2 * s.2) / 997 * 997) ⟨h.1.trans (congrArg rt_I (show rt_ir x i = rt_ir x (i + 1) from (if_neg z).symm)), rt_mul2 h.2 h.2⟩))⟩)
      (rt_bit (n := 995) (by omega) (by omega))))
theorem rt_rep_0 (c o : Nat → rt_F) (f : rt_F) {sh : Nat} (h : 1 ≤ sh) (l : Nat) : rt_up c (sh - 1) (c (sh - 1) + f) l = rt_rep c o f sh 0 l := by
  by_cases e : l = sh - 1
  · subst e
    rw [rt_up_s]
    unfold rt_rep
    rw [if_neg (by omega), if_pos (by omega)]
  · rw [rt_up_n _ _ e]
    unfold rt_rep
    by_cases e1 : l + 1 < sh
    · rw [if_pos e1]
    · rw [if_neg e1, if_neg (by omega), if_neg (by omega)]
theorem rt_rep_s (c o : Nat → rt_F) (f : rt_F) {sh j : Nat} (h : 1 ≤ sh) (l : Nat) : rt_up (rt_rep c o f sh j) (sh + j) (rt_rep c o f sh j (sh + j) - f * o j) l = rt_rep c o f sh (j + 1) l := by
  by_cases e : l = sh + j
  · subst e
    rw [rt_up_s]
    unfold rt_rep
    rw [if_neg (by omega), if_neg (by omega), if_neg (by omega), if_neg (by omega), if_neg (by omega), if_pos (by omega), show sh + j - sh = j by omega]
  · rw [rt_up_n _ _ e]
    unfold rt_rep
    by_cases e1 : l + 1 < sh
    · rw [if_pos e1, if_pos e1]
    · rw [if_neg e1, if_neg e1]
      by_cases e2 : l + 1 = sh
      · rw [if_pos e2, if_pos e2]
      · rw [if_neg e2, if_neg e2]
        by_cases e3 : l < sh + j
        · rw [if_pos e3, if_pos (by omega)]
        · rw [if_neg e3, if_neg (by omega)]
section
variable {f0 : Int32} {a1 a2 a3 a4 a5 a6 a7 a8 a9 a10 a11 a12 a13 : Nat → Int32}
theorem rt_repair {post : St1 → Prop} {c o : Nat → rt_F} {f : rt_F} {x : Int32} {sh ol : Nat} (hx : x = rt_I f) (h10 : rt_ar a10 c 40) (h11 : rt_ar a11 o 40) (h1 : 1 ≤ sh) (h2 : sh + ol ≤ 40)
    (H : ∀ b10, rt_ar b10 (rt_rep c o f sh ol) 40 → post (f0, a1, a2, a3, a4, a5, a6, a7, a8, a9, b10, a11, a12, a13)) : wpX_repair post (f0, a1, a2, a3, a4, a5, a6, a7, a8, a9, a10, a11, a12, a13) x (nI sh) (nI ol) := by
  subst hx
  refine ⟨pk_in (sh - 1) 40 (by omega) (rt_p1 h1), rt_997, pk_in (sh - 1) 40 (by omega) (rt_p1 h1), nm_e ?_⟩
  exact pk_loop (fun n i b => wX_repair_25 post (rt_I f) (nI sh) (nI ol) f0 n (nI i) a1 a2 a3 a4 a5 a6 a7 a8 a9 b a11 a12 a13) (fun i b => 1 ≤ i ∧ rt_ar b (rt_rep c o f sh (i - 1)) 40) (ol + 1) 1 _ (by omega)
    ⟨Nat.le_refl 1, rt_arc (rt_aru h10 (rt_add2 (rt_rd h10 (sh - 1) (by omega) (rt_p1 h1)) rfl) (rt_p1 h1)) (fun l _ => rt_rep_0 c o f h1 l)⟩
    (fun n b h => pk_lt ol (ol + 1) (fun _ => H b h.2) (fun z => absurd z (by omega)))
    (fun n i b hi h hw => pk_lt ol i (fun z => absurd z (by omega)) (fun _ => pk_lt 40 (sh + i) (fun z => absurd z (by omega)) (fun _ => by
      obtain ⟨i1, hb⟩ := h
      obtain ⟨j, rfl⟩ : ∃ j, i = j + 1 := ⟨i - 1, by omega⟩
      refine nm_r (show (nI sh + nI (j + 1)) - 1 = nI (sh + j) by rw [nI_add, rt_p1 (by omega)]; rfl) ?_
      exact ⟨pk_in (sh + j) 40 (by omega), pk_in j 40 (by omega) (rt_p1 i1), rt_997, pk_in (sh + j) 40 (by omega), nm_e (nm_r (nI_1 (j + 1)) (hw _ ⟨by omega, rt_arc (rt_aru hb (rt_msc (rt_rd hb (sh + j) (by omega)) rfl (rt_rd h11 j (by omega) (rt_p1 i1)))) (fun l _ => rt_rep_s c o f h1 l)⟩))⟩) rfl (nI_add sh i)))
theorem rt_takeOlder {post : St1 → Prop} {c : Nat → rt_F} (h12 : rt_ar a12 c 40) (H : ∀ b11, rt_ar b11 c 40 → post (f0, a1, a2, a3, a4, a5, a6, a7, a8, a9, a10, b11, a12, a13)) : wpX_takeOlder post (f0, a1, a2, a3, a4, a5, a6, a7, a8, a9, a10, a11, a12, a13) :=
  pk_loop (fun n i b => wX_takeOlder_2 post f0 n (nI i) a1 a2 a3 a4 a5 a6 a7 a8 a9 a10 b a12 a13) (fun i b => ∀ j, j < i → b j = rt_I (c j)) 40 0 a11 (by omega) (fun j hj => absurd hj (by omega))
    (fun n b h => pk_le 40 40 (fun _ => H b h) (fun z => absurd z (by omega)))
    (fun n i b hi h hw => pk_le 40 i (fun z => absurd z (by omega)) (fun _ => ⟨pk_in i 40 hi, pk_in i 40 hi, nm_e (nm_r (nI_1 i) (hw _ (rt_upl (P := fun j v => v = rt_I (c j)) h (rt_rd h12 i hi))))⟩))
theorem rt_mstep {post : Int32 → St1 → Prop} {J : Int32 → Int32 → Int32 → Int32 → Int32 → Int32 → (Nat → Int32) → (Nat → Int32) → (Nat → Int32) → (Nat → Int32) → (Nat → Int32) → (Nat → Int32) → (Nat → Int32) → (Nat → Int32) → (Nat → Int32) → (Nat → Int32) → (Nat → Int32) → (Nat → Int32) → (Nat → Int32) → Prop}
    {a c o : Nat → rt_F} {N L ol sh n : Nat} {b : rt_F} (hn : n < 32) (hb : rt_bm a c o L ol b sh n) (h9 : rt_ar a9 a (n + 1)) (h10 : rt_ar a10 c 40) (h11 : rt_ar a11 o 40)
    (H : ∀ c' o' L' ol' b' sh' b10 b11 b12, rt_bm a c' o' L' ol' b' sh' (n + 1) → rt_ar b10 c' 40 → rt_ar b11 o' 40 → J (nI L') (nI ol') (rt_I b') (nI sh') (nI (n + 1)) f0 a1 a2 a3 a4 a5 a6 a7 a8 a9 b10 b11 b12 a13) :
    ∃ fu, wX_mend_59 post J (nI N) (nI L) (nI ol) (rt_I b) (nI sh) (nI n) f0 a1 a2 a3 a4 a5 a6 a7 a8 a9 a10 a11 a12 a13 fu (rt_I (a n)) 1 := by
  obtain ⟨k1, k2, k3, k4, k5, k6, k7, k8⟩ := id hb
  refine pk_loop (fun f i g => wX_mend_59 post J (nI N) (nI L) (nI ol) (rt_I b) (nI sh) (nI n) f0 a1 a2 a3 a4 a5 a6 a7 a8 a9 a10 a11 a12 a13 f g (nI i)) (fun i g => 1 ≤ i ∧ g = rt_I (a n - rt_dis c a (i - 1) n)) (L + 1) 1 _ (by omega)
    ⟨Nat.le_refl 1, congrArg rt_I (by show a n = a n - 0; grind)⟩
    (fun f g h => pk_lt L (L + 1) (fun _ => ?_) (fun z => absurd z (by omega)))
    (fun f i g hi h hw => pk_lt L i (fun z => absurd z (by omega)) (fun _ => by
      obtain ⟨i1, hg⟩ := h
      obtain ⟨j, rfl⟩ : ∃ j, i = j + 1 := ⟨i - 1, by omega⟩
      refine ⟨pk_in j 40 (by omega) (rt_p1 i1), pk_in (n - (j + 1)) 40 (by omega) (pk_sub (by omega)), rt_997, nm_e (nm_r (nI_1 (j + 1)) (hw _ ⟨by omega, (rt_msc hg (rt_rd h10 j (by omega) (rt_p1 i1)) (rt_rd h9 (n - (j + 1)) (by omega) (pk_sub (by omega)))).trans (congrArg rt_I ?_)⟩))⟩
      show a n - rt_dis c a j n - c j * a (n - (j + 1)) = a n - (rt_dis c a j n + c j * a (n - 1 - j))
      rw [show n - (j + 1) = n - 1 - j by omega]
      grind))
  obtain ⟨_, rfl⟩ := h
  show (_ ∧ _)
  by_cases hd : a n - rt_dis c a L n = 0
  · exact br_t (show rt_I (a n - rt_dis c a L n) = 0 by rw [hd]; rfl) (nm_r (nI_1 sh) (nm_r (nI_1 n) (H c o L ol b (sh + 1) a10 a11 a12 (rt_bm_ok hb (rt_sub0 hd)) h10 h11)))
  · refine br_f (fun (z : rt_I (a n - rt_dis c a L n) = 0) => hd (rt_I_eq.mp z)) ?_
    refine pk_loop (fun f i e => wX_mend_118 post J (nI N) (nI L) (nI ol) (rt_I b) (nI sh) (nI n) (rt_I (a n - rt_dis c a L n)) f0 f (nI i) a1 a2 a3 a4 a5 a6 a7 a8 a9 a10 a11 e a13) (fun i e => ∀ j, j < i → e j = rt_I (c j)) 40 0 a12 (by omega) (fun j hj => absurd hj (by omega))
      (fun f e he => pk_le 40 40 (fun _ => rt_inverse b ⟨rt_997, rt_repair (rt_mul2 rfl rfl) h10 h11 k6 (by omega) (fun b10 g10 => ?_)⟩) (fun z => absurd z (by omega)))
      (fun f i e hi he hw => pk_le 40 i (fun z => absurd z (by omega)) (fun _ => ⟨pk_in i 40 hi, pk_in i 40 hi, nm_e (nm_r (nI_1 i) (hw _ (rt_upl (P := fun j v => v = rt_I (c j)) he (rt_rd h10 i hi))))⟩))
    refine pk_lt n (2 * L) (fun z => nm_r (nI_1 sh) (nm_r (nI_1 n) (H _ o L ol b (sh + 1) b10 a11 e (rt_bm_keep hb z) g10 h11)))
      (fun z => nm_r (show (nI n + 1) - nI L = nI (n + 1 - L) by rw [nI_1, pk_sub (by omega)]) (rt_takeOlder he (fun b11 g11 => nm_r (nI_1 n) (H _ c (n + 1 - L) L (a n - rt_dis c a L n) 1 b10 b11 e (rt_bm_grow hb z hd) g10 g11))))
      rfl (show 2 * nI L = nI (2 * L) by rw [show (2 : Int32) = nI 2 from rfl, pk_mul])
theorem rt_mend {post : Int32 → St1 → Prop} {a : Nat → rt_F} {N : Nat} (hN : N ≤ 32) (h9 : rt_ar a9 a N)
    (H : ∀ L c b10 b11 b12, L ≤ N → rt_fit c a L N → rt_min a L N → rt_ar b10 c 40 → post (nI L) (f0, a1, a2, a3, a4, a5, a6, a7, a8, a9, b10, b11, b12, a13)) : wpX_mend post (f0, a1, a2, a3, a4, a5, a6, a7, a8, a9, a10, a11, a12, a13) (nI N) := by
  refine pk_loop (fun f i (s : (Nat → Int32) × (Nat → Int32)) => wX_mend_2 post (nI N) f0 f (nI i) a1 a2 a3 a4 a5 a6 a7 a8 a9 s.1 s.2 a12 a13) (fun i s => (∀ j, j < i → s.1 j = rt_I 0) ∧ (∀ j, j < i → s.2 j = rt_I 0)) 40 0 (a10, a11) (by omega) ⟨fun j hj => absurd hj (by omega), fun j hj => absurd hj (by omega)⟩
    (fun f s h => pk_le 40 40 (fun _ => ?_) (fun z => absurd z (by omega)))
    (fun f i s hi h hw => pk_le 40 i (fun z => absurd z (by omega)) (fun _ => ⟨pk_in i 40 hi, nm_e ⟨pk_in i 40 hi, nm_e (nm_r (nI_1 i) (hw (_, _) ⟨rt_upl (P := fun j v => v = rt_I 0) h.1 rfl, rt_upl (P := fun j v => v = rt_I 0) h.2 rfl⟩))⟩⟩))
  refine pk_loop (σ := Int32 × Int32 × Int32 × Int32 × (Nat → Int32) × (Nat → Int32) × (Nat → Int32)) (fun f n t => wX_mend_41 post (nI N) f t.1 t.2.1 t.2.2.1 t.2.2.2.1 (nI n) f0 a1 a2 a3 a4 a5 a6 a7 a8 a9 t.2.2.2.2.1 t.2.2.2.2.2.1 t.2.2.2.2.2.2 a13)
    (fun n t => ∃ c o L ol b sh, rt_bm a c o L ol b sh n ∧ t.1 = nI L ∧ t.2.1 = nI ol ∧ t.2.2.1 = rt_I b ∧ t.2.2.2.1 = nI sh ∧ rt_ar t.2.2.2.2.1 c 40 ∧ rt_ar t.2.2.2.2.2.1 o 40) N 0 (0, 0, 1, 1, s.1, s.2, a12) (by omega)
    ⟨fun _ => 0, fun _ => 0, 0, 0, 1, 1, rt_bm_0 a _, rfl, rfl, rfl, rfl, h.1, h.2⟩
    (fun f t g => ?_) (fun f n t hn g hw => ?_)
  · obtain ⟨x2, x3, x4, x5, b10, b11, b12⟩ := t
    obtain ⟨c, o, L, ol, b, sh, hb, e1, e2, e3, e4, g10, g11⟩ := g
    dsimp only at e1 e2 e3 e4 g10 g11
    subst e1 e2 e3 e4
    exact pk_le N N (fun _ => H L c b10 b11 b12 hb.2.1 hb.1 hb.2.2.1 g10) (fun z => absurd z (by omega))
  · obtain ⟨x2, x3, x4, x5, b10, b11, b12⟩ := t
    obtain ⟨c, o, L, ol, b, sh, hb, e1, e2, e3, e4, g10, g11⟩ := g
    dsimp only at e1 e2 e3 e4 g10 g11
    subst e1 e2 e3 e4
    refine pk_le N n (fun z => absurd z (by omega)) (fun _ => ⟨pk_in n 40 (by omega), nm_r (rt_rd h9 n hn) (rt_mstep (by omega) hb (rt_arm h9 hn) g10 g11 (fun c' o' L' ol' b' sh' b10' b11' b12' k1 k2 k3 => hw (nI L', nI ol', rt_I b', nI sh', b10', b11', b12') ⟨c', o', L', ol', b', sh', k1, rfl, rfl, rfl, rfl, k2, k3⟩))⟩)
theorem rt_findRule {post : Int32 → St1 → Prop} {K : Nat → Nat} {R G : Nat → rt_F} {s : Nat} (hP : rt_P K R G a1 a2 a3) (hs : s < 3)
    (H : ∀ L c bf b4 b6 b8 b9 b10 b11 b12, L ≤ 8 → rt_fit c (rt_sq K R G s) L 8 → rt_min (rt_sq K R G s) L 8 → rt_ar b10 c 40 → post (nI L) (bf, a1, a2, a3, b4, a5, b6, a7, b8, b9, b10, b11, b12, a13)) : wpX_findRule post (f0, a1, a2, a3, a4, a5, a6, a7, a8, a9, a10, a11, a12, a13) (nI s) :=
  pk_loop (σ := Int32 × (Nat → Int32) × (Nat → Int32) × (Nat → Int32) × (Nat → Int32)) (fun f i t => wX_findRule_2 post (nI s) f (nI i) t.1 a1 a2 a3 t.2.1 a5 t.2.2.1 a7 t.2.2.2.1 t.2.2.2.2 a10 a11 a12 a13)
    (fun i t => rt_ar t.2.2.2.2 (rt_sq K R G s) i) 8 0 (f0, a4, a6, a8, a9) (by omega) (fun j hj => absurd hj (by omega))
    (fun f t h => pk_le 8 8 (fun _ => rt_mend (N := 8) (by omega) h (fun L c b10 b11 b12 l1 l2 l3 l4 => H L c t.1 t.2.1 t.2.2.1 t.2.2.2.1 t.2.2.2.2 b10 b11 b12 l1 l2 l3 l4)) (fun z => absurd z (by omega)))
    (fun f i t hi h hw => pk_le 8 i (fun z => absurd z (by omega)) (fun _ => rt_termAt hP hs (by omega) (fun bf b4 b6 b8 => ⟨pk_in i 40 (by omega), nm_e (nm_r (nI_1 i) (hw (bf, b4, b6, b8, _) (rt_upl (P := fun j v => v = rt_I (rt_sq K R G s j)) h rfl)))⟩)))
theorem rt_isGood {post : Int32 → Prop} {s : Nat} (hs : s < 3) (H : post 1) : wpX_isGood post () (nI s) := br_f (nI_pos (by omega)) (br_f (nI_nlt (a := 2) (by omega) (by omega)) H)
theorem rt_rank {post : Int32 → St1 → Prop} {K : Nat → Nat} {R G : Nat → rt_F} {s : Nat} (hP : rt_P K R G a1 a2 a3) (hs : s < 3)
    (H : ∀ L c bf b1 b2 b3 b4 b5 b6 b7 b8 b9 b10 b11 b12 b13, rt_P K R G b1 b2 b3 → L ≤ 8 → rt_fit c (rt_sq K R G s) L 8 → rt_min (rt_sq K R G s) L 8 → post (nI L) (bf, b1, b2, b3, b4, b5, b6, b7, b8, b9, b10, b11, b12, b13)) : wpX_rank post (f0, a1, a2, a3, a4, a5, a6, a7, a8, a9, a10, a11, a12, a13) (nI s) := by
  unfold wpX_rank
  exact rt_isGood hs (br_f (by decide) (rt_findRule hP hs (fun L c bf b4 b6 b8 b9 b10 b11 b12 l1 l2 l3 _ => H L c _ _ _ _ _ _ _ _ _ _ _ _ _ _ hP l1 l2 l3)))
theorem rt_orderOf {post : Int32 → Prop} {K : Nat → Nat} {R G : Nat → rt_F} {s : Nat} (hP : rt_P K R G a1 a2 a3) (hs : s < 3) (H : K s ≤ 4 → post (nI (K s))) : wpX_orderOf post (f0, a1, a2, a3, a4, a5, a6, a7, a8, a9, a10, a11, a12, a13) (nI s) := by
  unfold wpX_orderOf
  refine rt_isGood hs (br_f (by decide) ⟨pk_in s 3 hs, ?_⟩)
  rw [pk_cl s, (hP.1 s hs).2]
  exact H (hP.1 s hs).1
end
end
section
/-- the picture behind shorten, skip and order: the first i places of the block s written -/
def rt_shK (K : Nat → Nat) (s L : Nat) : Nat → Nat := fun t => if t = s then L else K t
def rt_bl (R : Nat → rt_F) (s : Nat) (c : Nat → rt_F) (i : Nat) : Nat → rt_F := fun j => if 4 * s ≤ j ∧ j < 4 * s + i then c (j - 4 * s) else R j
theorem rt_bl_0 (R : Nat → rt_F) (s : Nat) (c : Nat → rt_F) (j : Nat) : R j = rt_bl R s c 0 j := by
  unfold rt_bl
  rw [if_neg (by omega)]
theorem rt_bl_s (R : Nat → rt_F) (s : Nat) (c : Nat → rt_F) (i j : Nat) : rt_up (rt_bl R s c i) (4 * s + i) (c i) j = rt_bl R s c (i + 1) j := by
  by_cases e : j = 4 * s + i
  · subst e
    rw [rt_up_s]
    unfold rt_bl
    rw [if_pos ⟨by omega, by omega⟩, show 4 * s + i - 4 * s = i by omega]
  · rw [rt_up_n _ _ e]
    unfold rt_bl
    by_cases h : 4 * s ≤ j ∧ j < 4 * s + i
    · rw [if_pos h, if_pos ⟨h.1, by omega⟩]
    · rw [if_neg h, if_neg (by omega)]
theorem rt_bl_at (R : Nat → rt_F) (s : Nat) (c : Nat → rt_F) (i : Nat) : rt_bl R s c i (4 * s + i) = R (4 * s + i) := by
  unfold rt_bl
  rw [if_neg (by omega)]
theorem rt_bl_in (R : Nat → rt_F) (s : Nat) (c : Nat → rt_F) {i j : Nat} (h : j < i) : rt_bl R s c i (4 * s + j) = c j := by
  unfold rt_bl
  rw [if_pos ⟨by omega, by omega⟩, show 4 * s + j - 4 * s = j by omega]
theorem rt_bl_out (R : Nat → rt_F) {s t : Nat} (c : Nat → rt_F) {i j : Nat} (hi : i ≤ 4) (h : j < 4) (ht : t ≠ s) : rt_bl R s c i (4 * t + j) = R (4 * t + j) := by
  unfold rt_bl
  rw [if_neg (by omega)]
def rt_cut (c : Nat → rt_F) (L : Nat) : Nat → rt_F := fun i => if i < L then c i else 0
/-- what stands behind shorten -/
def rt_shR (R : Nat → rt_F) (s L : Nat) (c : Nat → rt_F) : Nat → rt_F := rt_bl R s (rt_cut c L) 4
def rt_shG (G : Nat → rt_F) (s L : Nat) : Nat → rt_F := rt_bl G s (rt_cut (fun i => G (4 * s + i)) L) 4
theorem rt_sh_same {K : Nat → Nat} {R G c : Nat → rt_F} {s L : Nat} (hk : K s ≤ 4) (hL : L ≤ K s) (hc : rt_fit c (rt_sq K R G s) L 8) : ∀ n, rt_sq (rt_shK K s L) (rt_shR R s L c) (rt_shG G s L) s n = rt_sq K R G s n := by
  intro n
  have e := rt_seq_short (k := K s) (r := fun i => R (4 * s + i)) (f := fun i => G (4 * s + i)) hc (by omega) hL n
  unfold rt_sq
  rw [e, show rt_shK K s L s = L from if_pos rfl]
  refine rt_seq_congr (fun i hi => ?_) (fun i hi => ?_) n
  · unfold rt_shR
    rw [rt_bl_in _ _ _ (by omega)]
    exact if_pos hi
  · unfold rt_shG
    rw [rt_bl_in _ _ _ (by omega)]
    exact if_pos hi
theorem rt_sh_other {K : Nat → Nat} {R G c : Nat → rt_F} {s t L : Nat} (hk : K t ≤ 4) (ht : t ≠ s) : ∀ n, rt_sq (rt_shK K s L) (rt_shR R s L c) (rt_shG G s L) t n = rt_sq K R G t n := by
  intro n
  unfold rt_sq
  rw [show rt_shK K s L t = K t from if_neg ht]
  refine rt_seq_congr (fun i hi => ?_) (fun i hi => ?_) n
  · exact rt_bl_out _ _ (by omega) (by omega) ht
  · exact rt_bl_out _ _ (by omega) (by omega) ht
theorem rt_P_sh {K : Nat → Nat} {R G R' G' : Nat → rt_F} {a1 a2 a3 b2 b3 : Nat → Int32} {s L : Nat} (hP : rt_P K R G a1 a2 a3) (hs : s < 3) (hL : L ≤ 4) (h2 : rt_ar b2 R' 12) (h3 : rt_ar b3 G' 12) : rt_P (rt_shK K s L) R' G' (upd a1 (nI s).toNatClampNeg (nI L)) b2 b3 := by
  refine ⟨fun t ht => ?_, h2, h3⟩
  rw [pk_cl s]
  by_cases e : t = s
  · subst e
    rw [pk_us, show rt_shK K t L t = L from if_pos rfl]
    exact ⟨hL, rfl⟩
  · rw [pk_un e, show rt_shK K s L t = K t from if_neg e]
    exact hP.1 t ht
section
variable {f0 : Int32} {a1 a2 a3 a4 a5 a6 a7 a8 a9 a10 a11 a12 a13 : Nat → Int32}
theorem rt_shorten {post : Int32 → St1 → Prop} {K : Nat → Nat} {R G : Nat → rt_F} {s : Nat} (hP : rt_P K R G a1 a2 a3) (hs : s < 3)
    (H : ∀ L c bf b1 b2 b3 b4 b5 b6 b7 b8 b9 b10 b11 b12 b13, L ≤ K s → rt_fit c (rt_sq K R G s) L 8 → rt_min (rt_sq K R G s) L 8 → rt_P (rt_shK K s L) (rt_shR R s L c) (rt_shG G s L) b1 b2 b3 → post (nI L) (bf, b1, b2, b3, b4, b5, b6, b7, b8, b9, b10, b11, b12, b13)) : wpX_shorten post (f0, a1, a2, a3, a4, a5, a6, a7, a8, a9, a10, a11, a12, a13) (nI s) := by
  unfold wpX_shorten
  refine rt_isGood hs (br_f (by decide) (rt_findRule hP hs (fun L c bf b4 b6 b8 b9 b10 b11 b12 l1 l2 l3 l4 => ?_)))
  obtain ⟨hK, h2, h3⟩ := id hP
  have hL : L ≤ K s := l3 _ _ (rt_fit_all (rt_seq_all (K s) _ _))
  have hk := (hK s hs).1
  refine pk_loop (fun f i (t : (Nat → Int32) × (Nat → Int32)) => wX_shorten_17 post (nI s) (nI L) bf f (nI i) a1 t.1 t.2 b4 a5 b6 a7 b8 b9 b10 b11 b12 a13)
    (fun i t => rt_ar t.1 (rt_bl R s (rt_cut c L) i) 12 ∧ rt_ar t.2 (rt_bl G s (rt_cut (fun i => G (4 * s + i)) L) i) 12) 4 0 (a2, a3) (by omega) ⟨rt_arc h2 (fun j _ => rt_bl_0 _ _ _ j), rt_arc h3 (fun j _ => rt_bl_0 _ _ _ j)⟩
    (fun f t h => pk_le 4 4 (fun _ => ⟨pk_in s 3 hs, nm_e (H L c _ _ _ _ _ _ _ _ _ _ _ _ _ _ hL l2 l3 (rt_P_sh hP hs (by omega) h.1 h.2))⟩) (fun z => absurd z (by omega)))
    (fun f i t hi h hw => ?_)
  have main : ∀ (z0 : Int32), z0 = rt_I (rt_cut c L i) → wX_shorten_46 post (wX_shorten_17 post (nI s) (nI L) bf f) (nI s) (nI L) (nI i) z0 ((4 * nI s) + nI i) bf a1 t.1 t.2 b4 a5 b6 a7 b8 b9 b10 b11 b12 a13 := fun z0 hz =>
    ⟨pk_in (4 * s + i) 12 (by omega) (rt_ix4 s i), nm_e (pk_le L i
      (fun z => ⟨pk_in (4 * s + i) 12 (by omega) (rt_ix4 s i), nm_e (nm_r (nI_1 i) (hw (upd t.1 ((4 * nI s) + nI i).toNatClampNeg z0, upd t.2 ((4 * nI s) + nI i).toNatClampNeg 0)
        ⟨rt_arc (rt_aru h.1 hz (rt_ix4 s i)) (fun j _ => rt_bl_s _ _ _ i j), rt_arc (rt_aru h.2 (show (0 : Int32) = rt_I (rt_cut (fun i => G (4 * s + i)) L i) by unfold rt_cut; rw [if_neg (by omega)]; rfl) (rt_ix4 s i)) (fun j _ => rt_bl_s _ _ _ i j)⟩))⟩)
      (fun z => ⟨pk_in (4 * s + i) 12 (by omega) (rt_ix4 s i), pk_in (4 * s + i) 12 (by omega) (rt_ix4 s i), nm_e (nm_r (nI_1 i) (hw (upd t.1 ((4 * nI s) + nI i).toNatClampNeg z0, upd t.2 ((4 * nI s) + nI i).toNatClampNeg (t.2 ((4 * nI s) + nI i).toNatClampNeg))
        ⟨rt_arc (rt_aru h.1 hz (rt_ix4 s i)) (fun j _ => rt_bl_s _ _ _ i j), rt_arc (rt_aru h.2 (show t.2 ((4 * nI s) + nI i).toNatClampNeg = rt_I (rt_cut (fun i => G (4 * s + i)) L i) by
          rw [rt_rd h.2 (4 * s + i) (by omega) (rt_ix4 s i), rt_bl_at]
          unfold rt_cut; rw [if_pos z]) (rt_ix4 s i)) (fun j _ => rt_bl_s _ _ _ i j)⟩))⟩))⟩
  refine pk_le 4 i (fun z => absurd z (by omega)) (fun _ => pk_le L i (fun z => main 0 ?_) (fun z => ⟨pk_in i 40 (by omega), main _ ?_⟩))
  · unfold rt_cut; rw [if_neg (by omega)]; rfl
  · rw [rt_rd l4 i (by omega)]
    unfold rt_cut; rw [if_pos z]
end
theorem rt_isBad {post : Int32 → Prop} (H : post 0) : wpX_isGood post () (nI 3) := br_f (nI_pos (by omega)) (br_t (by decide) H)
/-- a call that takes the picture K R G to another, the same whatever the scratch holds -/
def rt_Ex (K : Nat → Nat) (R G : Nat → rt_F) (W : (Int32 → St1 → Prop) → St1 → Prop) : Prop :=
  ∃ (K' : Nat → Nat) (R' G' : Nat → rt_F), ∀ f0 a1 a2 a3 a4 a5 a6 a7 a8 a9 a10 a11 a12 a13, rt_P K R G a1 a2 a3 → ∀ post : Int32 → St1 → Prop, (∀ r bf b1 b2 b3 b4 b5 b6 b7 b8 b9 b10 b11 b12 b13, rt_P K' R' G' b1 b2 b3 → post r (bf, b1, b2, b3, b4, b5, b6, b7, b8, b9, b10, b11, b12, b13)) → W post (f0, a1, a2, a3, a4, a5, a6, a7, a8, a9, a10, a11, a12, a13)
theorem rt_ex_shorten {K : Nat → Nat} {R G : Nat → rt_F} {s : Nat} (hs : s ≤ 3) : rt_Ex K R G (fun post u => wpX_shorten post u (nI s)) := by
  rcases Nat.lt_or_ge s 3 with h3 | h3
  · obtain ⟨c, L, hc, hm⟩ := rt_best_ex (rt_sq K R G s) 8
    refine ⟨rt_shK K s L, rt_shR R s L c, rt_shG G s L, fun f0 a1 a2 a3 a4 a5 a6 a7 a8 a9 a10 a11 a12 a13 hP post H => rt_shorten hP h3 (fun L' c' bf b1 b2 b3 b4 b5 b6 b7 b8 b9 b10 b11 b12 b13 l1 l2 l3 l4 => ?_)⟩
    have hk := (hP.1 s h3).1
    have eL : L' = L := rt_min_eq (fun _ _ => rfl) l2 l3 hc hm
    subst eL
    have ec := rt_uniq l2 hc hm (by omega)
    have eR : rt_shR R s L' c' = rt_shR R s L' c := by
      unfold rt_shR
      have : rt_cut c' L' = rt_cut c L' := by
        funext i
        unfold rt_cut
        by_cases h : i < L'
        · rw [if_pos h, if_pos h, ec i h]
        · rw [if_neg h, if_neg h]
      rw [this]
    rw [eR] at l4
    exact H _ _ _ _ _ _ _ _ _ _ _ _ _ _ _ l4
  · have e : s = 3 := by omega
    subst e
    exact ⟨K, R, G, fun f0 a1 a2 a3 a4 a5 a6 a7 a8 a9 a10 a11 a12 a13 hP post H => by
      show wpX_shorten post (f0, a1, a2, a3, a4, a5, a6, a7, a8, a9, a10, a11, a12, a13) (nI 3)
      unfold wpX_shorten
      exact rt_isBad (br_t rfl (H _ _ _ _ _ _ _ _ _ _ _ _ _ _ _ hP))⟩
theorem rt_ex_order {K : Nat → Nat} {R G : Nat → rt_F} {s i : Nat} (hs : s ≤ 3) (hi : i < 6) : rt_Ex K R G (fun post u => wpX_order post u (nI s) (nI i)) := by
  rcases Nat.lt_or_ge s 3 with h3 | h3
  · rcases Nat.lt_or_ge i 5 with h4 | h4
    · refine ⟨rt_shK K s i, rt_bl R s (fun _ => 0) 4, rt_bl G s (fun _ => 0) 4, fun f0 a1 a2 a3 a4 a5 a6 a7 a8 a9 a10 a11 a12 a13 hP post H => ?_⟩
      show wpX_order post (f0, a1, a2, a3, a4, a5, a6, a7, a8, a9, a10, a11, a12, a13) (nI s) (nI i)
      unfold wpX_order
      refine rt_isGood h3 (br_f (by decide) (br_f (nI_pos (by omega)) (pk_le i 4 (fun _ => ⟨pk_in s 3 h3, nm_e ⟨pk_in s 3 h3, nm_e ?_⟩⟩) (fun z => absurd z (by omega)))))
      exact pk_loop (fun f j (t : (Nat → Int32) × (Nat → Int32)) => wX_order_38 post (nI s) (a1 (nI s).toNatClampNeg) f0 f (nI j) (upd a1 (nI s).toNatClampNeg (nI i)) t.1 t.2 a4 a5 a6 a7 a8 a9 a10 a11 a12 a13)
        (fun j t => rt_ar t.1 (rt_bl R s (fun _ => 0) j) 12 ∧ rt_ar t.2 (rt_bl G s (fun _ => 0) j) 12) 4 0 (a2, a3) (by omega) ⟨rt_arc hP.2.1 (fun j _ => rt_bl_0 _ _ _ j), rt_arc hP.2.2 (fun j _ => rt_bl_0 _ _ _ j)⟩
        (fun f t h => pk_le 4 4 (fun _ => H _ _ _ _ _ _ _ _ _ _ _ _ _ _ _ (rt_P_sh hP h3 (by omega) h.1 h.2)) (fun z => absurd z (by omega)))
        (fun f j t hj h hw => pk_le 4 j (fun z => absurd z (by omega)) (fun _ => ⟨pk_in (4 * s + j) 12 (by omega) (rt_ix4 s j), nm_e ⟨pk_in (4 * s + j) 12 (by omega) (rt_ix4 s j), nm_e (nm_r (nI_1 j) (hw (upd t.1 ((4 * nI s) + nI j).toNatClampNeg 0, upd t.2 ((4 * nI s) + nI j).toNatClampNeg 0)
          ⟨rt_arc (rt_aru (x := 0) h.1 rfl (rt_ix4 s j)) (fun l _ => rt_bl_s R s (fun _ => 0) j l), rt_arc (rt_aru (x := 0) h.2 rfl (rt_ix4 s j)) (fun l _ => rt_bl_s G s (fun _ => 0) j l)⟩))⟩⟩))
    · refine ⟨K, R, G, fun f0 a1 a2 a3 a4 a5 a6 a7 a8 a9 a10 a11 a12 a13 hP post H => ?_⟩
      show wpX_order post (f0, a1, a2, a3, a4, a5, a6, a7, a8, a9, a10, a11, a12, a13) (nI s) (nI i)
      unfold wpX_order
      exact rt_isGood h3 (br_f (by decide) (br_f (nI_pos (by omega)) (pk_le i 4 (fun z => absurd z (by omega)) (fun _ => H _ _ _ _ _ _ _ _ _ _ _ _ _ _ _ hP))))
  · have e : s = 3 := by omega
    subst e
    refine ⟨K, R, G, fun f0 a1 a2 a3 a4 a5 a6 a7 a8 a9 a10 a11 a12 a13 hP post H => ?_⟩
    show wpX_order post (f0, a1, a2, a3, a4, a5, a6, a7, a8, a9, a10, a11, a12, a13) (nI 3) (nI i)
    unfold wpX_order
    exact rt_isBad (br_t rfl (H _ _ _ _ _ _ _ _ _ _ _ _ _ _ _ hP))
theorem rt_ex_rule {K : Nat → Nat} {R G : Nat → rt_F} {s i : Nat} (v : Int32) (hs : s ≤ 3) (hi : i < 6) : rt_Ex K R G (fun post u => wpX_rule post u (nI s) (nI i) v) := by
  rcases Nat.lt_or_ge s 3 with h3 | h3
  · rcases Classical.em (1 ≤ i ∧ i ≤ K s) with h | h
    · refine ⟨K, rt_up R (4 * s + i - 1) (rt_mod v), G, fun f0 a1 a2 a3 a4 a5 a6 a7 a8 a9 a10 a11 a12 a13 hP post H => ?_⟩
      show wpX_rule post (f0, a1, a2, a3, a4, a5, a6, a7, a8, a9, a10, a11, a12, a13) (nI s) (nI i) v
      unfold wpX_rule
      have hk := hP.1 s h3
      have ei : ((4 * nI s) + nI i) - 1 = nI (4 * s + i - 1) := by rw [rt_ix4, rt_p1 (by omega)]
      exact rt_isGood h3 (br_f (by decide) (pk_lt i 1 (fun z => absurd z (by omega)) (fun _ => ⟨pk_in s 3 h3, pk_le i (K s) (fun _ => ⟨pk_in (4 * s + i - 1) 12 (by omega) ei, nm_e (rt_modulo ⟨pk_in (4 * s + i - 1) 12 (by omega) ei, nm_e (H _ _ _ _ _ _ _ _ _ _ _ _ _ _ _ ⟨hP.1, rt_aru hP.2.1 rfl ei, hP.2.2⟩)⟩)⟩) (fun z => absurd z (by omega)) rfl (by rw [pk_cl s]; exact hk.2) (by omega) (by omega)⟩)))
    · refine ⟨K, R, G, fun f0 a1 a2 a3 a4 a5 a6 a7 a8 a9 a10 a11 a12 a13 hP post H => ?_⟩
      show wpX_rule post (f0, a1, a2, a3, a4, a5, a6, a7, a8, a9, a10, a11, a12, a13) (nI s) (nI i) v
      unfold wpX_rule
      have hk := hP.1 s h3
      exact rt_isGood h3 (br_f (by decide) (pk_lt i 1 (fun z => H _ _ _ _ _ _ _ _ _ _ _ _ _ _ _ hP) (fun z1 => ⟨pk_in s 3 h3, pk_le i (K s) (fun z => absurd ⟨z1, z⟩ h) (fun z => H _ _ _ _ _ _ _ _ _ _ _ _ _ _ _ hP) rfl (by rw [pk_cl s]; exact hk.2) (by omega) (by omega)⟩)))
  · have e : s = 3 := by omega
    subst e
    refine ⟨K, R, G, fun f0 a1 a2 a3 a4 a5 a6 a7 a8 a9 a10 a11 a12 a13 hP post H => ?_⟩
    show wpX_rule post (f0, a1, a2, a3, a4, a5, a6, a7, a8, a9, a10, a11, a12, a13) (nI 3) (nI i) v
    unfold wpX_rule
    exact rt_isBad (br_t rfl (H _ _ _ _ _ _ _ _ _ _ _ _ _ _ _ hP))
theorem rt_ex_start {K : Nat → Nat} {R G : Nat → rt_F} {s i : Nat} (v : Int32) (hs : s ≤ 3) (hi : i < 6) : rt_Ex K R G (fun post u => wpX_start post u (nI s) (nI i - 1) v) := by
  rcases Nat.lt_or_ge s 3 with h3 | h3
  · rcases Nat.eq_zero_or_pos i with z0 | z0
    · subst z0
      refine ⟨K, R, G, fun f0 a1 a2 a3 a4 a5 a6 a7 a8 a9 a10 a11 a12 a13 hP post H => ?_⟩
      show wpX_start post (f0, a1, a2, a3, a4, a5, a6, a7, a8, a9, a10, a11, a12, a13) (nI s) (nI 0 - 1) v
      unfold wpX_start
      exact rt_isGood h3 (br_f (by decide) (br_t (by decide) (H _ _ _ _ _ _ _ _ _ _ _ _ _ _ _ hP)))
    · rw [rt_p1 z0]
      rcases Nat.lt_or_ge (i - 1) (K s) with h | h
      · refine ⟨K, R, rt_up G (4 * s + (i - 1)) (rt_mod v), fun f0 a1 a2 a3 a4 a5 a6 a7 a8 a9 a10 a11 a12 a13 hP post H => ?_⟩
        show wpX_start post (f0, a1, a2, a3, a4, a5, a6, a7, a8, a9, a10, a11, a12, a13) (nI s) (nI (i - 1)) v
        unfold wpX_start
        have hk := hP.1 s h3
        exact rt_isGood h3 (br_f (by decide) (br_f (nI_pos (by omega)) ⟨pk_in s 3 h3, pk_lt (i - 1) (K s) (fun _ => ⟨pk_in (4 * s + (i - 1)) 12 (by omega) (rt_ix4 _ _), nm_e (rt_modulo ⟨pk_in (4 * s + (i - 1)) 12 (by omega) (rt_ix4 _ _), nm_e (H _ _ _ _ _ _ _ _ _ _ _ _ _ _ _ ⟨hP.1, hP.2.1, rt_aru hP.2.2 rfl (rt_ix4 _ _)⟩)⟩)⟩) (fun z => absurd z (by omega)) rfl (by rw [pk_cl s]; exact hk.2) (by omega) (by omega)⟩))
      · refine ⟨K, R, G, fun f0 a1 a2 a3 a4 a5 a6 a7 a8 a9 a10 a11 a12 a13 hP post H => ?_⟩
        show wpX_start post (f0, a1, a2, a3, a4, a5, a6, a7, a8, a9, a10, a11, a12, a13) (nI s) (nI (i - 1)) v
        unfold wpX_start
        have hk := hP.1 s h3
        exact rt_isGood h3 (br_f (by decide) (br_f (nI_pos (by omega)) ⟨pk_in s 3 h3, pk_lt (i - 1) (K s) (fun z => absurd z (by omega)) (fun z => H _ _ _ _ _ _ _ _ _ _ _ _ _ _ _ hP) rfl (by rw [pk_cl s]; exact hk.2) (by omega) (by omega)⟩))
  · have e : s = 3 := by omega
    subst e
    refine ⟨K, R, G, fun f0 a1 a2 a3 a4 a5 a6 a7 a8 a9 a10 a11 a12 a13 hP post H => ?_⟩
    show wpX_start post (f0, a1, a2, a3, a4, a5, a6, a7, a8, a9, a10, a11, a12, a13) (nI 3) (nI i - 1) v
    unfold wpX_start
    exact rt_isBad (br_t rfl (H _ _ _ _ _ _ _ _ _ _ _ _ _ _ _ hP))
theorem rt_ex_skip {K : Nat → Nat} {R G : Nat → rt_F} {s n : Nat} (hs : s ≤ 3) (hn : n < 2 ^ 20) : rt_Ex K R G (fun post u => wpX_skip post u (nI s) (nI n)) := by
  rcases Nat.lt_or_ge s 3 with h3 | h3
  · rcases Nat.lt_or_ge 1000000 n with h4 | h4
    · refine ⟨K, R, G, fun f0 a1 a2 a3 a4 a5 a6 a7 a8 a9 a10 a11 a12 a13 hP post H => ?_⟩
      show wpX_skip post (f0, a1, a2, a3, a4, a5, a6, a7, a8, a9, a10, a11, a12, a13) (nI s) (nI n)
      unfold wpX_skip
      exact rt_isGood h3 (br_f (by decide) (br_f (nI_pos (by omega)) (pk_le n 1000000 (fun z => absurd z (by omega)) (fun _ => H _ _ _ _ _ _ _ _ _ _ _ _ _ _ _ hP))))
    · refine ⟨K, R, rt_bl G s (fun i => rt_sq K R G s (n + i)) (K s), fun f0 a1 a2 a3 a4 a5 a6 a7 a8 a9 a10 a11 a12 a13 hP post H => ?_⟩
      show wpX_skip post (f0, a1, a2, a3, a4, a5, a6, a7, a8, a9, a10, a11, a12, a13) (nI s) (nI n)
      unfold wpX_skip
      obtain ⟨hk, h1⟩ := hP.1 s h3
      have e1 : a1 (nI s).toNatClampNeg = nI (K s) := by rw [pk_cl s]; exact h1
      refine rt_isGood h3 (br_f (by decide) (br_f (nI_pos (by omega)) (pk_le n 1000000 (fun _ => ?_) (fun z => absurd z (by omega)))))
      refine pk_loop (σ := Int32 × (Nat → Int32) × (Nat → Int32) × (Nat → Int32) × (Nat → Int32)) (fun f i t => wX_skip_24 post (nI s) (nI n) f (nI i) t.1 a1 a2 a3 t.2.1 a5 t.2.2.1 a7 t.2.2.2.1 a9 a10 a11 a12 t.2.2.2.2)
        (fun i t => rt_ar t.2.2.2.2 (fun i => rt_sq K R G s (n + i)) i) (K s) 0 (f0, a4, a6, a8, a13) (by omega) (fun j hj => absurd hj (by omega))
        (fun f t h => ⟨pk_in s 3 h3, pk_le (K s) (K s) (fun _ => ?_) (fun z => absurd z (by omega)) e1 rfl⟩)
        (fun f i t hi h hw => ⟨pk_in s 3 h3, pk_le (K s) i (fun z => absurd z (by omega)) (fun _ => ?_) e1 rfl⟩)
      · exact pk_loop (fun f i b => wX_skip_56 post (nI s) t.1 f (nI i) a1 a2 b t.2.1 a5 t.2.2.1 a7 t.2.2.2.1 a9 a10 a11 a12 t.2.2.2.2)
          (fun i b => rt_ar b (rt_bl G s (fun i => rt_sq K R G s (n + i)) i) 12) (K s) 0 a3 (by omega) (rt_arc hP.2.2 (fun j _ => rt_bl_0 _ _ _ j))
          (fun f b g => ⟨pk_in s 3 h3, pk_le (K s) (K s) (fun _ => ⟨pk_in s 3 h3, br_c (fun _ => H _ _ _ _ _ _ _ _ _ _ _ _ _ _ _ ⟨hP.1, hP.2.1, g⟩) (fun _ => H _ _ _ _ _ _ _ _ _ _ _ _ _ _ _ ⟨hP.1, hP.2.1, g⟩)⟩) (fun z => absurd z (by omega)) e1 rfl⟩)
          (fun f i b hi g hw => ⟨pk_in s 3 h3, pk_le (K s) i (fun z => absurd z (by omega)) (fun _ => ⟨pk_in i 4 (by omega), pk_in (4 * s + i) 12 (by omega) (rt_ix4 s i), nm_e (nm_r (nI_1 i) (hw _ (rt_arc (rt_aru g (rt_rd h i hi) (rt_ix4 s i)) (fun l _ => rt_bl_s G s (fun i => rt_sq K R G s (n + i)) i l))))⟩) e1 rfl⟩)
      · rw [nI_add]
        exact rt_termAt_3 hP h3 (by omega) (fun bf b4 b6 b8 => ⟨pk_in i 4 (by omega), nm_e (nm_r (nI_1 i) (hw (bf, b4, b6, b8, upd t.2.2.2.2 (nI i).toNatClampNeg (rt_I (rt_sq K R G s (n + i)))) (rt_upl (P := fun j v => v = rt_I (rt_sq K R G s (n + j))) h rfl)))⟩)
  · have e : s = 3 := by omega
    subst e
    refine ⟨K, R, G, fun f0 a1 a2 a3 a4 a5 a6 a7 a8 a9 a10 a11 a12 a13 hP post H => ?_⟩
    show wpX_skip post (f0, a1, a2, a3, a4, a5, a6, a7, a8, a9, a10, a11, a12, a13) (nI 3) (nI n)
    unfold wpX_skip
    exact rt_isBad (br_t rfl (H _ _ _ _ _ _ _ _ _ _ _ _ _ _ _ hP))
theorem rt_rem_and (x m : Int32) (k d : Nat) (hm : m.toBitVec.toNat = 2 ^ k - 1) (hk : k ≤ 30) (h0 : 0 < d) (hd : d < 2 ^ 31) : ∃ j : Nat, j < d ∧ (x &&& m) - (x &&& m) / nI d * nI d = nI j := by
  obtain ⟨j, hj, e⟩ := pk_andE x k hm
  have h2 : 2 ^ k ≤ 2 ^ 30 := Nat.pow_le_pow_right (by omega) hk
  exact ⟨j % d, Nat.mod_lt _ h0, by rw [e, pk_rem (by omega) h0 hd]⟩
theorem rt_seqE (x : Int32) : ∃ s, s ≤ 3 ∧ ∀ post : Int32 → Prop, post (nI s) → wpL_seq post () x := by
  by_cases h : x &&& 31 = 31
  · exact ⟨3, by omega, fun post H => br_t h H⟩
  · obtain ⟨j, hj, e⟩ := rt_rem_and x 31 5 3 (by decide) (by omega) (by omega) (by omega)
    exact ⟨j, by omega, fun post H => br_f h ⟨by decide, (show (x &&& 31) - (x &&& 31) / 3 * 3 = nI j from e) ▸ H⟩⟩
theorem rt_farE (x : Int32) : ∃ n, n < 2 ^ 20 ∧ ∀ post : Int32 → Prop, post (nI n) → wpL_far post () x := by
  by_cases h : x &&& 63 = 9
  · obtain ⟨j, hj, e⟩ := pk_andE x (m := 1048575) 20 (by decide)
    exact ⟨j, hj, fun post H => br_t h (e ▸ H)⟩
  · obtain ⟨j, hj, e⟩ := pk_andE x (m := 31) 5 (by decide)
    exact ⟨j, by omega, fun post H => br_f h (e ▸ H)⟩
theorem rt_ex_act {K : Nat → Nat} {R G : Nat → rt_F} (p1 p2 p3 p4 : Int32) : rt_Ex K R G (fun post u => wpL_act post u p1 p2 p3 p4) := by
  obtain ⟨s, hs, hS⟩ := rt_seqE p2
  obtain ⟨i, hi, hI⟩ := rt_rem_and p3 255 8 6 (by decide) (by omega) (by omega) (by omega)
  by_cases h0 : p1 = 0
  · obtain ⟨K', R', G', h⟩ := rt_ex_order (K := K) (R := R) (G := G) hs hi
    refine ⟨K', R', G', fun f0 a1 a2 a3 a4 a5 a6 a7 a8 a9 a10 a11 a12 a13 hP post H => ?_⟩
    show wpL_act post (f0, a1, a2, a3, a4, a5, a6, a7, a8, a9, a10, a11, a12, a13) p1 p2 p3 p4
    unfold wpL_act
    exact hS _ ⟨by decide, nm_r hI (br_t h0 (h _ _ _ _ _ _ _ _ _ _ _ _ _ _ hP _ (fun r bf b1 b2 b3 b4 b5 b6 b7 b8 b9 b10 b11 b12 b13 hb => H r _ _ _ _ _ _ _ _ _ _ _ _ _ _ hb)))⟩
  · by_cases h3 : 3 < p1
    · by_cases h5 : 5 < p1
      · by_cases h6 : p1 = 6
        · obtain ⟨n, hn, hF⟩ := rt_farE p4
          obtain ⟨K', R', G', h⟩ := rt_ex_skip (K := K) (R := R) (G := G) hs hn
          refine ⟨K', R', G', fun f0 a1 a2 a3 a4 a5 a6 a7 a8 a9 a10 a11 a12 a13 hP post H => ?_⟩
          show wpL_act post (f0, a1, a2, a3, a4, a5, a6, a7, a8, a9, a10, a11, a12, a13) p1 p2 p3 p4
          unfold wpL_act
          exact hS _ ⟨by decide, nm_r hI (br_f h0 (br_t h3 (br_t h5 (br_t h6 (hF _ (h _ _ _ _ _ _ _ _ _ _ _ _ _ _ hP _ (fun r bf b1 b2 b3 b4 b5 b6 b7 b8 b9 b10 b11 b12 b13 hb => H r _ _ _ _ _ _ _ _ _ _ _ _ _ _ hb)))))))⟩
        · obtain ⟨K', R', G', h⟩ := rt_ex_shorten (K := K) (R := R) (G := G) hs
          refine ⟨K', R', G', fun f0 a1 a2 a3 a4 a5 a6 a7 a8 a9 a10 a11 a12 a13 hP post H => ?_⟩
          show wpL_act post (f0, a1, a2, a3, a4, a5, a6, a7, a8, a9, a10, a11, a12, a13) p1 p2 p3 p4
          unfold wpL_act
          exact hS _ ⟨by decide, nm_r hI (br_f h0 (br_t h3 (br_t h5 (br_f h6 (h _ _ _ _ _ _ _ _ _ _ _ _ _ _ hP _ (fun r bf b1 b2 b3 b4 b5 b6 b7 b8 b9 b10 b11 b12 b13 hb => H r _ _ _ _ _ _ _ _ _ _ _ _ _ _ hb))))))⟩
      · obtain ⟨K', R', G', h⟩ := rt_ex_start (K := K) (R := R) (G := G) p4 hs hi
        refine ⟨K', R', G', fun f0 a1 a2 a3 a4 a5 a6 a7 a8 a9 a10 a11 a12 a13 hP post H => ?_⟩
        show wpL_act post (f0, a1, a2, a3, a4, a5, a6, a7, a8, a9, a10, a11, a12, a13) p1 p2 p3 p4
        unfold wpL_act
        exact hS _ ⟨by decide, nm_r hI (br_f h0 (br_t h3 (br_f h5 (h _ _ _ _ _ _ _ _ _ _ _ _ _ _ hP _ (fun r bf b1 b2 b3 b4 b5 b6 b7 b8 b9 b10 b11 b12 b13 hb => H r _ _ _ _ _ _ _ _ _ _ _ _ _ _ hb)))))⟩
    · obtain ⟨K', R', G', h⟩ := rt_ex_rule (K := K) (R := R) (G := G) p4 hs hi
      refine ⟨K', R', G', fun f0 a1 a2 a3 a4 a5 a6 a7 a8 a9 a10 a11 a12 a13 hP post H => ?_⟩
      show wpL_act post (f0, a1, a2, a3, a4, a5, a6, a7, a8, a9, a10, a11, a12, a13) p1 p2 p3 p4
      unfold wpL_act
      exact hS _ ⟨by decide, nm_r hI (br_f h0 (br_f h3 (h _ _ _ _ _ _ _ _ _ _ _ _ _ _ hP _ (fun r bf b1 b2 b3 b4 b5 b6 b7 b8 b9 b10 b11 b12 b13 hb => H r _ _ _ _ _ _ _ _ _ _ _ _ _ _ hb))))⟩
end
section
section
variable {f0 : Int32} {a1 a2 a3 a4 a5 a6 a7 a8 a9 a10 a11 a12 a13 : Nat → Int32}
theorem rt_term {post : Int32 → St1 → Prop} {K : Nat → Nat} {R G : Nat → rt_F} {s n : Nat} (hP : rt_P K R G a1 a2 a3) (hs : s < 3) (hn : n < 2 ^ 31)
    (H : ∀ bf b1 b2 b3 b4 b5 b6 b7 b8 b9 b10 b11 b12 b13, rt_P K R G b1 b2 b3 → post (rt_I (rt_sq K R G s n)) (bf, b1, b2, b3, b4, b5, b6, b7, b8, b9, b10, b11, b12, b13)) : wpX_term post (f0, a1, a2, a3, a4, a5, a6, a7, a8, a9, a10, a11, a12, a13) (nI s) (nI n) := by
  unfold wpX_term
  exact rt_isGood hs (br_f (by decide) (br_t (nI_pos' (by omega)) (rt_termAt_2 hP hs hn (fun bf b4 b6 b8 => H _ _ _ _ _ _ _ _ _ _ _ _ _ _ hP))))
theorem rt_tl81 {post : St1 → Prop} {k : Nat} {q : Nat → rt_F} (hk : k ≤ 4) (h7 : rt_ar a7 q (k + 1)) (H : ∀ b4, rt_ar b4 q (k + 1) → post (f0, a1, a2, a3, b4, a5, a6, a7, a8, a9, a10, a11, a12, a13)) : ∃ n, wX_timesLess_81 post (nI k) f0 n 0 a1 a2 a3 a4 a5 a6 a7 a8 a9 a10 a11 a12 a13 :=
  pk_loop (fun n i b => wX_timesLess_81 post (nI k) f0 n (nI i) a1 a2 a3 b a5 a6 a7 a8 a9 a10 a11 a12 a13) (fun i b => ∀ j, j < i → b j = rt_I (q j)) (k + 1) 0 a4 (by omega) (fun j hj => absurd hj (by omega))
    (fun n b h => pk_lt k (k + 1) (fun _ => H b h) (fun z => absurd z (by omega)))
    (fun n i b hi h hw => pk_lt k i (fun z => absurd z (by omega)) (fun _ => ⟨pk_in i 5 (by omega), pk_in i 6 (by omega), nm_e (nm_r (nI_1 i) (hw _ (rt_upl (P := fun j v => v = rt_I (q j)) h (rt_rd h7 i (by omega)))))⟩))
theorem rt_timesLess {post : St1 → Prop} {k : Nat} {m : Nat → rt_F} (hk : k ≤ 4) (h4 : rt_ar a4 m k) (H : ∀ b4 b7, rt_ar b4 (rt_tl m k) (k + 1) → post (f0, a1, a2, a3, b4, a5, a6, b7, a8, a9, a10, a11, a12, a13)) : wpX_timesLess post (f0, a1, a2, a3, a4, a5, a6, a7, a8, a9, a10, a11, a12, a13) (nI k) := by
  refine ⟨k + 1 + 1, ?_⟩
  have key := pk_loopD (fun n c b => wX_timesLess_2 post (nI k) f0 n (nI c + (-1)) a1 a2 a3 a4 a5 a6 b a8 a9 a10 a11 a12 a13) (fun c b => c ≤ k + 1 ∧ ∀ j, c ≤ j → j < k + 1 → b j = rt_I (rt_tl m k j))
    (fun n b h => br_t (by decide) (rt_tl81 (a7 := b) hk (fun j hj => h.2 j (by omega) hj) (fun b4 g4 => H b4 b g4)))
    (fun n c b h hw => by
      obtain ⟨hc, g⟩ := h
      show wX_timesLess_2 post (nI k) f0 (n + 1) (nI (c + 1) + (-1)) a1 a2 a3 a4 a5 a6 b a8 a9 a10 a11 a12 a13
      rw [pk_m1]
      have m50 : ∀ (x y z : Int32) (lx ly lz : rt_F), x = rt_I lx → y = rt_I ly → z = rt_I lz → rt_tl m k c = lx - ly + lz → wX_timesLess_50 post (wX_timesLess_2 post (nI k) f0 n) (nI k) (nI c) x y z f0 a1 a2 a3 a4 a5 a6 b a8 a9 a10 a11 a12 a13 := fun x y z lx ly lz ex ey ez e =>
        ⟨rt_997, pk_in c 5 (by omega), nm_e (nm_e (hw _ ⟨by omega, fun j j1 j2 => by
          rw [pk_cl c]
          by_cases ej : j = c
          · rw [ej, pk_us, e]
            exact rt_tlv ex ey ez
          · rw [pk_un ej]
            exact g j (by omega) j2⟩))⟩
      have m38 : ∀ (x y : Int32) (lx ly : rt_F), x = rt_I lx → y = rt_I ly → rt_tl m k c = lx - ly + (if c = k then 1 else 0) → wX_timesLess_38 post (wX_timesLess_2 post (nI k) f0 n) (nI k) (nI c) x y f0 a1 a2 a3 a4 a5 a6 b a8 a9 a10 a11 a12 a13 := fun x y lx ly ex ey e =>
        pk_eq c k (fun z => m50 x y 1 lx ly 1 ex ey rfl (by rw [e, if_pos z])) (fun z => m50 x y 0 lx ly 0 ex ey rfl (by rw [e, if_neg z]))
      have m22 : ∀ (x : Int32) (lx : rt_F), x = rt_I lx → rt_tl m k c = lx - (if c < k then m c else 0) + (if c = k then 1 else 0) → wX_timesLess_22 post (wX_timesLess_2 post (nI k) f0 n) (nI k) (nI c) x f0 a1 a2 a3 a4 a5 a6 b a8 a9 a10 a11 a12 a13 := fun x lx ex e =>
        pk_le k c (fun z => m38 x 0 lx 0 ex rfl (by rw [e, if_neg (by omega)])) (fun z => ⟨pk_in c 6 (by omega), m38 x _ lx (m c) ex (rt_rd h4 c z) (by rw [e, if_pos z])⟩)
      exact br_f (nI_pos (by omega)) (pk_le c 0 (fun z => m22 0 0 rfl (by unfold rt_tl; rw [if_neg (show ¬ 0 < c by omega)])) (fun z => ⟨pk_in (c - 1) 6 (by omega) (rt_p1 z), m22 _ (m (c - 1)) (rt_rd h4 (c - 1) (by omega) (rt_p1 z)) (by unfold rt_tl; rw [if_pos z])⟩)))
    (k + 1) a7 ⟨Nat.le_refl _, fun j j1 j2 => absurd j1 (by omega)⟩
  rw [pk_m1] at key
  exact key
theorem rt_farTerm {post : Int32 → St1 → Prop} {k n : Nat} {m b : Nat → rt_F} (hf : f0 = nI k) (hk1 : 1 ≤ k) (hk : k ≤ 5) (hn : n < 2 ^ 31) (h4 : rt_ar a4 m k) (hm : rt_sat m b k) (h5 : rt_ar a5 b k)
    (H : ∀ b6 b8, post (rt_I (b n)) (nI k, a1, a2, a3, a4, a5, b6, a7, b8, a9, a10, a11, a12, a13)) : wpX_farTerm post (f0, a1, a2, a3, a4, a5, a6, a7, a8, a9, a10, a11, a12, a13) (nI n) := by
  unfold wpX_farTerm
  refine rt_raise_2 hf hk hn h4 hm (fun b6 b8 p g6 gp => ?_)
  have ev : rt_sum (fun j => p j * b j) k = b n := by
    have := gp (by omega) 0
    rw [Nat.zero_add] at this
    rw [this]
    exact rt_sum_congr (fun i hi => by rw [Nat.zero_add])
  exact pk_loop (fun f i x => wX_farTerm_9 post (nI k) a1 a2 a3 a4 a5 b6 a7 b8 a9 a10 a11 a12 a13 f x (nI i)) (fun i x => x = rt_I (rt_sum (fun j => p j * b j) i)) k 0 0 (by omega) rfl
    (fun f x h => pk_le k k (fun _ => by rw [h, ev]; exact H b6 b8) (fun z => absurd z (by omega)))
    (fun f i x hi h hw => pk_le k i (fun z => absurd z (by omega)) (fun _ => ⟨pk_in i 5 (by omega), pk_in i 5 (by omega), rt_997, nm_e (nm_r (nI_1 i) (hw _ (rt_mac h (rt_rd g6 i hi) (rt_rd h5 i hi))))⟩))
theorem rt_sumM {post : Int32 → St1 → Prop} {K : Nat → Nat} {R G : Nat → rt_F} {s n : Nat} (hP : rt_P K R G a1 a2 a3) (hs : s < 3) (hn : n ≤ 1000000)
    (H : ∀ bf b1 b2 b3 b4 b5 b6 b7 b8 b9 b10 b11 b12 b13, rt_P K R G b1 b2 b3 → post (rt_I (rt_S (rt_sq K R G s) n)) (bf, b1, b2, b3, b4, b5, b6, b7, b8, b9, b10, b11, b12, b13)) : wpX_sum post (f0, a1, a2, a3, a4, a5, a6, a7, a8, a9, a10, a11, a12, a13) (nI s) (nI n) := by
  unfold wpX_sum
  obtain ⟨hk, h1⟩ := hP.1 s hs
  refine rt_isGood hs (br_f (by decide) (br_f (nI_pos (by omega)) (pk_le n 1000000 (fun _ => ⟨pk_in s 3 hs, nm_r (show a1 (nI s).toNatClampNeg = nI (K s) by rw [pk_cl s]; exact h1) ?_⟩) (fun z => absurd z (by omega)))))
  exact pk_loop (σ := Int32 × Int32 × (Nat → Int32) × (Nat → Int32) × (Nat → Int32) × (Nat → Int32)) (fun f i t => wX_sum_35 post (nI s) (nI n) (nI (K s)) f t.1 (nI i) t.2.1 a1 a2 a3 t.2.2.1 t.2.2.2.1 t.2.2.2.2.1 a7 t.2.2.2.2.2 a9 a10 a11 a12 a13)
    (fun i t => t.1 = rt_I (rt_sum (rt_sq K R G s) i) ∧ ∀ j, j < i → t.2.2.2.1 j = rt_I (rt_S (rt_sq K R G s) j)) (K s + 1) 0 (0, f0, a4, a5, a6, a8) (by omega) ⟨rfl, fun j hj => absurd hj (by omega)⟩
    (fun f t h => pk_lt (K s) (K s + 1) (fun _ => rt_takeRule_2 hs hk h1 hP.2.1 (fun b4 g4 => rt_timesLess hk g4 (fun b4' b7 g => nm_r (nI_1 (K s)) (rt_farTerm rfl (by omega) (by omega) (by omega) g (rt_S_sat (rt_all_sat (rt_seq_all (K s) (fun i => R (4 * s + i)) (fun i => G (4 * s + i))))) h.2 (fun b6 b8 => H _ _ _ _ _ _ _ _ _ _ _ _ _ _ hP))))) (fun z => absurd z (by omega)))
    (fun f i t hi h hw => pk_lt (K s) i (fun z => absurd z (by omega)) (fun _ => rt_termAt_2 hP hs (by omega) (fun bf b4 b6 b8 => ⟨rt_997, nm_r (rt_add2 h.1 rfl) ⟨pk_in i 5 (by omega), nm_e (nm_r (nI_1 i) (hw (rt_I (rt_sum (rt_sq K R G s) i + rt_sq K R G s i), bf, b4, upd t.2.2.2.1 (nI i).toNatClampNeg (rt_I (rt_sum (rt_sq K R G s) i + rt_sq K R G s i)), b6, b8) ⟨rfl, rt_upl (P := fun j v => v = rt_I (rt_S (rt_sq K R G s) j)) h.2 rfl⟩))⟩⟩)))
theorem rt_one {post : Int32 → St1 → Prop} {K : Nat → Nat} {R G : Nat → rt_F} {s n : Nat} (hP : rt_P K R G a1 a2 a3) (hs : s < 3) (hn1 : 1 ≤ n) (hn : n ≤ 1000000)
    (H : ∀ bf b1 b2 b3 b4 b5 b6 b7 b8 b9 b10 b11 b12 b13, rt_P K R G b1 b2 b3 → post 1 (bf, b1, b2, b3, b4, b5, b6, b7, b8, b9, b10, b11, b12, b13)) : wpL_one post (f0, a1, a2, a3, a4, a5, a6, a7, a8, a9, a10, a11, a12, a13) (nI s) (nI n) := by
  unfold wpL_one
  refine rt_rank hP hs (fun L c bf b1 b2 b3 b4 b5 b6 b7 b8 b9 b10 b11 b12 b13 hb l1 l2 l3 => rt_orderOf hb hs (fun hk => ?_))
  have hL : L ≤ K s := l3 _ _ (rt_fit_all (rt_seq_all (K s) _ _))
  refine br_f (nI_nlt hL (by omega)) (br_t (nI_pos' (by omega)) (rt_sumM hb hs hn (fun cf c1 c2 c3 c4 c5 c6 c7 c8 c9 c10 c11 c12 c13 hc => ?_)))
  show wpX_sum _ (cf, c1, c2, c3, c4, c5, c6, c7, c8, c9, c10, c11, c12, c13) (nI s) (nI n - 1)
  rw [rt_p1 hn1]
  refine rt_sumM hc hs (by omega) (fun df d1 d2 d3 d4 d5 d6 d7 d8 d9 d10 d11 d12 d13 hd => rt_term hd hs (by omega) (fun ef e1 e2 e3 e4 e5 e6 e7 e8 e9 e10 e11 e12 e13 he => rt_norm ?_))
  refine br_t (congrArg rt_I ?_) (H _ _ _ _ _ _ _ _ _ _ _ _ _ _ he)
  obtain ⟨j, rfl⟩ : ∃ j, n = j + 1 := ⟨n - 1, by omega⟩
  rw [show j + 1 - 1 = j from rfl, rt_S_s]
  grind
end
end
section
theorem rt_fd_ex (a b : Nat → rt_F) (m : Nat) : ∃ d, d ≤ m ∧ (∀ j, j < d → a j = b j) ∧ (d < m → ¬ a d = b d) := by
  induction m with
  | zero => exact ⟨0, Nat.le_refl 0, fun j h => absurd h (by omega), fun h => absurd h (by omega)⟩
  | succ m ih =>
    obtain ⟨d, h1, h2, h3⟩ := ih
    by_cases hd : d < m
    · exact ⟨d, by omega, h2, fun _ => h3 hd⟩
    · by_cases he : a d = b d
      · refine ⟨d + 1, by omega, fun j hj => ?_, fun h => absurd h (by omega)⟩
        by_cases e : j = d
        · rw [e, he]
        · exact h2 j (by omega)
      · exact ⟨d, by omega, h2, fun _ => he⟩
section
variable {f0 : Int32} {a1 a2 a3 a4 a5 a6 a7 a8 a9 a10 a11 a12 a13 : Nat → Int32}
theorem rt_fd {post : Int32 → St1 → Prop} {K : Nat → Nat} {R G : Nat → rt_F} {s t d : Nat} (hP : rt_P K R G a1 a2 a3) (hs : s < 3) (ht : t < 3) (d1 : d ≤ 8) (d2 : ∀ j, j < d → rt_sq K R G s j = rt_sq K R G t j) (d3 : d < 8 → ¬ rt_sq K R G s d = rt_sq K R G t d)
    (H : ∀ bf b1 b2 b3 b4 b5 b6 b7 b8 b9 b10 b11 b12 b13, rt_P K R G b1 b2 b3 → post (if d < 8 then nI d else -2) (bf, b1, b2, b3, b4, b5, b6, b7, b8, b9, b10, b11, b12, b13)) : wpX_firstDifference post (f0, a1, a2, a3, a4, a5, a6, a7, a8, a9, a10, a11, a12, a13) (nI s) (nI t) :=
  pk_loop (σ := Int32 × (Nat → Int32) × (Nat → Int32) × (Nat → Int32)) (fun f i y => wX_firstDifference_2 post (nI s) (nI t) f (nI i) y.1 a1 a2 a3 y.2.1 a5 y.2.2.1 a7 y.2.2.2 a9 a10 a11 a12 a13) (fun _ _ => True) d 0 (f0, a4, a6, a8) (by omega) trivial
    (fun f y _ => pk_le 8 d (fun z => by
        have h := H y.1 a1 a2 a3 y.2.1 a5 y.2.2.1 a7 y.2.2.2 a9 a10 a11 a12 a13 hP
        rw [if_neg (by omega)] at h
        exact h)
      (fun z => rt_termAt_2 hP hs (by omega) (fun bf b4 b6 b8 => rt_termAt_2 hP ht (by omega) (fun cf c4 c6 c8 => br_f (fun q => d3 z (rt_I_eq.mp q)) (by
        have h := H cf a1 a2 a3 c4 a5 c6 a7 c8 a9 a10 a11 a12 a13 hP
        rw [if_pos z] at h
        exact h)))))
    (fun f i y hi _ hw => pk_le 8 i (fun z => absurd z (by omega)) (fun z => rt_termAt_2 hP hs (by omega) (fun bf b4 b6 b8 => rt_termAt_2 hP ht (by omega) (fun cf c4 c6 c8 => br_t (congrArg rt_I (d2 i hi)) (nm_r (nI_1 i) (hw (cf, c4, c6, c8) trivial))))))
theorem rt_same {post : Int32 → St1 → Prop} {K : Nat → Nat} {R G : Nat → rt_F} {s t d : Nat} (hP : rt_P K R G a1 a2 a3) (hs : s < 3) (ht : t < 3) (d1 : d ≤ 8) (d2 : ∀ j, j < d → rt_sq K R G s j = rt_sq K R G t j) (d3 : d < 8 → ¬ rt_sq K R G s d = rt_sq K R G t d)
    (H : ∀ bf b1 b2 b3 b4 b5 b6 b7 b8 b9 b10 b11 b12 b13, rt_P K R G b1 b2 b3 → post (if d < 8 then 0 else 1) (bf, b1, b2, b3, b4, b5, b6, b7, b8, b9, b10, b11, b12, b13)) : wpX_same post (f0, a1, a2, a3, a4, a5, a6, a7, a8, a9, a10, a11, a12, a13) (nI s) (nI t) := by
  unfold wpX_same
  refine rt_isGood hs (br_f (by decide) (rt_isGood ht (br_f (by decide) (rt_fd hP hs ht d1 d2 d3 (fun bf b1 b2 b3 b4 b5 b6 b7 b8 b9 b10 b11 b12 b13 hb => ?_)))))
  have h := H bf b1 b2 b3 b4 b5 b6 b7 b8 b9 b10 b11 b12 b13 hb
  by_cases z : d < 8
  · rw [if_pos z] at h ⊢
    exact br_t (nI_pos' (by omega)) h
  · rw [if_neg z] at h ⊢
    exact br_f (by decide) h
theorem rt_difference {post : Int32 → St1 → Prop} {K : Nat → Nat} {R G : Nat → rt_F} {s t d : Nat} (hP : rt_P K R G a1 a2 a3) (hs : s < 3) (ht : t < 3) (d1 : d ≤ 8) (d2 : ∀ j, j < d → rt_sq K R G s j = rt_sq K R G t j) (d3 : d < 8 → ¬ rt_sq K R G s d = rt_sq K R G t d)
    (H : ∀ bf b1 b2 b3 b4 b5 b6 b7 b8 b9 b10 b11 b12 b13, rt_P K R G b1 b2 b3 → post (if d < 8 then nI d else -2) (bf, b1, b2, b3, b4, b5, b6, b7, b8, b9, b10, b11, b12, b13)) : wpX_difference post (f0, a1, a2, a3, a4, a5, a6, a7, a8, a9, a10, a11, a12, a13) (nI s) (nI t) := by
  unfold wpX_difference
  exact rt_isGood hs (br_f (by decide) (rt_isGood ht (br_f (by decide) (rt_fd hP hs ht d1 d2 d3 (fun bf b1 b2 b3 b4 b5 b6 b7 b8 b9 b10 b11 b12 b13 hb => H _ _ _ _ _ _ _ _ _ _ _ _ _ _ hb)))))
theorem rt_rankOfSum {post : Int32 → St1 → Prop} {K : Nat → Nat} {R G : Nat → rt_F} {s t : Nat} (hP : rt_P K R G a1 a2 a3) (hs : s < 3) (ht : t < 3)
    (H : ∀ L bf b1 b2 b3 b4 b5 b6 b7 b8 b9 b10 b11 b12 b13, rt_P K R G b1 b2 b3 → L ≤ 16 → rt_min (fun n => rt_sq K R G s n + rt_sq K R G t n) L 16 → post (nI L) (bf, b1, b2, b3, b4, b5, b6, b7, b8, b9, b10, b11, b12, b13)) : wpX_rankOfSum post (f0, a1, a2, a3, a4, a5, a6, a7, a8, a9, a10, a11, a12, a13) (nI s) (nI t) := by
  unfold wpX_rankOfSum
  refine rt_isGood hs (br_f (by decide) (rt_isGood ht (br_f (by decide) ?_)))
  exact pk_loop (σ := Int32 × (Nat → Int32) × (Nat → Int32) × (Nat → Int32) × (Nat → Int32)) (fun f i y => wX_rankOfSum_18 post (nI s) (nI t) f (nI i) y.1 a1 a2 a3 y.2.1 a5 y.2.2.1 a7 y.2.2.2.1 y.2.2.2.2 a10 a11 a12 a13)
    (fun i y => rt_ar y.2.2.2.2 (fun n => rt_sq K R G s n + rt_sq K R G t n) i) 16 0 (f0, a4, a6, a8, a9) (by omega) (fun j hj => absurd hj (by omega))
    (fun f y h => pk_le 16 16 (fun _ => rt_mend (N := 16) (by omega) h (fun L c b10 b11 b12 l1 l2 l3 l4 => H L _ _ _ _ _ _ _ _ _ _ _ _ _ _ hP l1 l3)) (fun z => absurd z (by omega)))
    (fun f i y hi h hw => pk_le 16 i (fun z => absurd z (by omega)) (fun _ => rt_termAt hP hs (by omega) (fun bf b4 b6 b8 => rt_termAt hP ht (by omega) (fun cf c4 c6 c8 => ⟨rt_997, pk_in i 40 (by omega), nm_e (nm_r (nI_1 i) (hw (cf, c4, c6, c8, _) (rt_upl (P := fun j v => v = rt_I (rt_sq K R G s j + rt_sq K R G t j)) h (rt_add2 rfl rfl))))⟩))))
theorem rt_rankOfProduct {post : Int32 → St1 → Prop} {K : Nat → Nat} {R G : Nat → rt_F} {s t : Nat} (hP : rt_P K R G a1 a2 a3) (hs : s < 3) (ht : t < 3)
    (H : ∀ L bf b1 b2 b3 b4 b5 b6 b7 b8 b9 b10 b11 b12 b13, rt_P K R G b1 b2 b3 → L ≤ 32 → rt_min (fun n => rt_sq K R G s n * rt_sq K R G t n) L 32 → post (nI L) (bf, b1, b2, b3, b4, b5, b6, b7, b8, b9, b10, b11, b12, b13)) : wpX_rankOfProduct post (f0, a1, a2, a3, a4, a5, a6, a7, a8, a9, a10, a11, a12, a13) (nI s) (nI t) := by
  unfold wpX_rankOfProduct
  refine rt_isGood hs (br_f (by decide) (rt_isGood ht (br_f (by decide) ?_)))
  exact pk_loop (σ := Int32 × (Nat → Int32) × (Nat → Int32) × (Nat → Int32) × (Nat → Int32)) (fun f i y => wX_rankOfProduct_18 post (nI s) (nI t) f (nI i) y.1 a1 a2 a3 y.2.1 a5 y.2.2.1 a7 y.2.2.2.1 y.2.2.2.2 a10 a11 a12 a13)
    (fun i y => rt_ar y.2.2.2.2 (fun n => rt_sq K R G s n * rt_sq K R G t n) i) 32 0 (f0, a4, a6, a8, a9) (by omega) (fun j hj => absurd hj (by omega))
    (fun f y h => pk_le 32 32 (fun _ => rt_mend (N := 32) (by omega) h (fun L c b10 b11 b12 l1 l2 l3 l4 => H L _ _ _ _ _ _ _ _ _ _ _ _ _ _ hP l1 l3)) (fun z => absurd z (by omega)))
    (fun f i y hi h hw => pk_le 32 i (fun z => absurd z (by omega)) (fun _ => rt_termAt hP hs (by omega) (fun bf b4 b6 b8 => rt_termAt hP ht (by omega) (fun cf c4 c6 c8 => ⟨rt_997, pk_in i 40 (by omega), nm_e (nm_r (nI_1 i) (hw (cf, c4, c6, c8, _) (rt_upl (P := fun j v => v = rt_I (rt_sq K R G s j * rt_sq K R G t j)) h (rt_mul2 rfl rfl))))⟩))))
theorem rt_two37 {post : Int32 → St1 → Prop} {K : Nat → Nat} {R G : Nat → rt_F} {s t : Nat} {z : Int32} (hP : rt_P K R G a1 a2 a3) (hs : s < 3) (ht : t < 3) (H : ∀ bf b1 b2 b3 b4 b5 b6 b7 b8 b9 b10 b11 b12 b13, rt_P K R G b1 b2 b3 → post 1 (bf, b1, b2, b3, b4, b5, b6, b7, b8, b9, b10, b11, b12, b13)) : wL_two_37 post (nI s) (nI t) z z f0 a1 a2 a3 a4 a5 a6 a7 a8 a9 a10 a11 a12 a13 := by
  unfold wL_two_37
  refine br_t rfl (rt_rank hP hs (fun A cA bf b1 b2 b3 b4 b5 b6 b7 b8 b9 b10 b11 b12 b13 hb A1 A2 A3 => rt_rank hb ht (fun B cB cf c1 c2 c3 c4 c5 c6 c7 c8 c9 c10 c11 c12 c13 hc B1 B2 B3 => rt_rankOfSum hc hs ht (fun S df d1 d2 d3 d4 d5 d6 d7 d8 d9 d10 d11 d12 d13 hd S1 S2 => rt_rankOfProduct hd hs ht (fun Q ef e1 e2 e3 e4 e5 e6 e7 e8 e9 e10 e11 e12 e13 he Q1 Q2 => ?_)))))
  have hks := (hP.1 s hs).1
  have hkt := (hP.1 t ht).1
  have hA : A ≤ K s := A3 _ _ (rt_fit_all (rt_seq_all (K s) _ _))
  have hB : B ≤ K t := B3 _ _ (rt_fit_all (rt_seq_all (K t) _ _))
  have aA : rt_all cA (rt_sq K R G s) A := rt_ext (rt_seq_all (K s) _ _) A2 (by omega)
  have aB : rt_all cB (rt_sq K R G t) B := rt_ext (rt_seq_all (K t) _ _) B2 (by omega)
  obtain ⟨M, e1, hM, hM2⟩ := rt_bsum aA aB
  obtain ⟨N, e2, hN, hN2⟩ := rt_bprod aA aB
  have hS : S ≤ M := S2 _ _ (rt_fit_all hM2)
  have hQ : Q ≤ N := Q2 _ _ (rt_fit_all hN2)
  have hAB : A * B ≤ 4 * 4 := Nat.mul_le_mul (by omega) (by omega)
  refine br_f (show ¬ nI A + nI B < nI S by rw [nI_add]; exact nI_nlt (by omega) (by omega)) (br_f (show ¬ nI A * nI B < nI Q by rw [pk_mul]; exact nI_nlt (by omega) (by omega)) (H _ _ _ _ _ _ _ _ _ _ _ _ _ _ he))
theorem rt_two {post : Int32 → St1 → Prop} {K : Nat → Nat} {R G : Nat → rt_F} {s t : Nat} (hP : rt_P K R G a1 a2 a3) (hs : s < 3) (ht : t < 3) (H : ∀ bf b1 b2 b3 b4 b5 b6 b7 b8 b9 b10 b11 b12 b13, rt_P K R G b1 b2 b3 → post 1 (bf, b1, b2, b3, b4, b5, b6, b7, b8, b9, b10, b11, b12, b13)) : wpL_two post (f0, a1, a2, a3, a4, a5, a6, a7, a8, a9, a10, a11, a12, a13) (nI s) (nI t) := by
  unfold wpL_two
  obtain ⟨d, d1, d2, d3⟩ := rt_fd_ex (rt_sq K R G s) (rt_sq K R G t) 8
  refine rt_same hP hs ht d1 d2 d3 (fun bf b1 b2 b3 b4 b5 b6 b7 b8 b9 b10 b11 b12 b13 hb => rt_difference hb hs ht d1 d2 d3 (fun cf c1 c2 c3 c4 c5 c6 c7 c8 c9 c10 c11 c12 c13 hc => ?_))
  by_cases z : d < 8
  · rw [if_pos z, if_pos z]
    exact br_f (by decide) (br_f (fun q => by
      have h1 : (nI d).toInt = (d : Int) := nI_toInt (by omega)
      rw [q] at h1
      have h2 : (-2 : Int32).toInt = -2 := by decide
      omega) (rt_two37 hc hs ht H))
  · rw [if_neg z, if_neg z]
    exact br_t rfl (br_t rfl (rt_two37 hc hs ht H))
end
end
section
theorem rt_cell {post : Int32 → Prop} {L j : Nat} {xs : Nat → Int32} (hL : L ≤ 260) (hj : j < 40) (H : ∀ r, post r) : wpL_cell post L xs () (nI j) :=
  pk_le L j (fun _ => H 0) (fun z => ⟨pk_in j L z, H _⟩)
/-- the last loop's inner one: the terms of one sequence of both objects -/
theorem rt_l187 {post : Int32 → Prop} {L : Nat} {xs : Nat → Int32} {J : Int32 → Int32 → (Nat → Int32) → (Nat → Int32) → (Nat → Int32) → (Nat → Int32) → (Nat → Int32) → (Nat → Int32) → (Nat → Int32) → (Nat → Int32) → (Nat → Int32) → (Nat → Int32) → (Nat → Int32) → (Nat → Int32) → (Nat → Int32) → Int32 → (Nat → Int32) → (Nat → Int32) → (Nat → Int32) → (Nat → Int32) → (Nat → Int32) → (Nat → Int32) → (Nat → Int32) → (Nat → Int32) → (Nat → Int32) → (Nat → Int32) → (Nat → Int32) → (Nat → Int32) → (Nat → Int32) → Prop}
    {kc ks s : Nat} {K K' : Nat → Nat} {R G R' G' : Nat → rt_F} {f0 : Int32} {a1 a2 a3 a4 a5 a6 a7 a8 a9 a10 a11 a12 a13 : Nat → Int32} {bf : Int32} {b1 b2 b3 b4 b5 b6 b7 b8 b9 b10 b11 b12 b13 : Nat → Int32} (hL : L ≤ 260) (hs : s < 3) (hP : rt_P K R G a1 a2 a3) (hQ : rt_P K' R' G' b1 b2 b3) (he : ∀ n, rt_sq K' R' G' s n = rt_sq K R G s n)
    (H : ∀ cf c1 c2 c3 c4 c5 c6 c7 c8 c9 c10 c11 c12 c13 df d1 d2 d3 d4 d5 d6 d7 d8 d9 d10 d11 d12 d13, rt_P K R G c1 c2 c3 → rt_P K' R' G' d1 d2 d3 → J (nI (s + 1)) cf c1 c2 c3 c4 c5 c6 c7 c8 c9 c10 c11 c12 c13 df d1 d2 d3 d4 d5 d6 d7 d8 d9 d10 d11 d12 d13) : ∃ n, wL_law_187 post L xs J (nI s) kc ks n 0 f0 a1 a2 a3 a4 a5 a6 a7 a8 a9 a10 a11 a12 a13 bf b1 b2 b3 b4 b5 b6 b7 b8 b9 b10 b11 b12 b13 := by
  refine pk_loop (σ := St1 × St1) (fun f j y => wL_law_187 post L xs J (nI s) kc ks f (nI j) y.1.1 y.1.2.1 y.1.2.2.1 y.1.2.2.2.1 y.1.2.2.2.2.1 y.1.2.2.2.2.2.1 y.1.2.2.2.2.2.2.1 y.1.2.2.2.2.2.2.2.1 y.1.2.2.2.2.2.2.2.2.1 y.1.2.2.2.2.2.2.2.2.2.1 y.1.2.2.2.2.2.2.2.2.2.2.1 y.1.2.2.2.2.2.2.2.2.2.2.2.1 y.1.2.2.2.2.2.2.2.2.2.2.2.2.1 y.1.2.2.2.2.2.2.2.2.2.2.2.2.2 y.2.1 y.2.2.1 y.2.2.2.1 y.2.2.2.2.1 y.2.2.2.2.2.1 y.2.2.2.2.2.2.1 y.2.2.2.2.2.2.2.1 y.2.2.2.2.2.2.2.2.1 y.2.2.2.2.2.2.2.2.2.1 y.2.2.2.2.2.2.2.2.2.2.1 y.2.2.2.2.2.2.2.2.2.2.2.1 y.2.2.2.2.2.2.2.2.2.2.2.2.1 y.2.2.2.2.2.2.2.2.2.2.2.2.2.1 y.2.2.2.2.2.2.2.2.2.2.2.2.2.2)
    (fun j y => rt_P K R G y.1.2.1 y.1.2.2.1 y.1.2.2.2.1 ∧ rt_P K' R' G' y.2.2.1 y.2.2.2.1 y.2.2.2.2.1) 40 0 ((f0, a1, a2, a3, a4, a5, a6, a7, a8, a9, a10, a11, a12, a13), (bf, b1, b2, b3, b4, b5, b6, b7, b8, b9, b10, b11, b12, b13)) (by omega) ⟨hP, hQ⟩
    (fun f y h => pk_le 40 40 (fun _ => nm_r (nI_1 s) (H _ _ _ _ _ _ _ _ _ _ _ _ _ _ _ _ _ _ _ _ _ _ _ _ _ _ _ _ h.1 h.2)) (fun z => absurd z (by omega)))
    (fun f j y hj h hw => ?_)
  have main : ∀ (z0 : Int32) (n : Nat), n < 2 ^ 31 → z0 = nI n → wL_law_223 post L xs J (wL_law_187 post L xs J (nI s) kc ks f) (nI s) (nI j) z0 kc ks y.1.1 y.1.2.1 y.1.2.2.1 y.1.2.2.2.1 y.1.2.2.2.2.1 y.1.2.2.2.2.2.1 y.1.2.2.2.2.2.2.1 y.1.2.2.2.2.2.2.2.1 y.1.2.2.2.2.2.2.2.2.1 y.1.2.2.2.2.2.2.2.2.2.1 y.1.2.2.2.2.2.2.2.2.2.2.1 y.1.2.2.2.2.2.2.2.2.2.2.2.1 y.1.2.2.2.2.2.2.2.2.2.2.2.2.1 y.1.2.2.2.2.2.2.2.2.2.2.2.2.2 y.2.1 y.2.2.1 y.2.2.2.1 y.2.2.2.2.1 y.2.2.2.2.2.1 y.2.2.2.2.2.2.1 y.2.2.2.2.2.2.2.1 y.2.2.2.2.2.2.2.2.1 y.2.2.2.2.2.2.2.2.2.1 y.2.2.2.2.2.2.2.2.2.2.1 y.2.2.2.2.2.2.2.2.2.2.2.1 y.2.2.2.2.2.2.2.2.2.2.2.2.1 y.2.2.2.2.2.2.2.2.2.2.2.2.2.1 y.2.2.2.2.2.2.2.2.2.2.2.2.2.2 := by
    intro z0 n hn e
    subst e
    unfold wL_law_223
    exact rt_term h.1 hs hn (fun cf c1 c2 c3 c4 c5 c6 c7 c8 c9 c10 c11 c12 c13 hc => rt_term h.2 hs hn (fun df d1 d2 d3 d4 d5 d6 d7 d8 d9 d10 d11 d12 d13 hd => br_t (congrArg rt_I (he n).symm) (nm_r (nI_1 j) (hw ((cf, c1, c2, c3, c4, c5, c6, c7, c8, c9, c10, c11, c12, c13), (df, d1, d2, d3, d4, d5, d6, d7, d8, d9, d10, d11, d12, d13)) ⟨hc, hd⟩))))
  refine pk_le 40 j (fun z => absurd z (by omega)) (fun _ => pk_le 20 j (fun _ => rt_cell hL hj (fun r => ?_)) (fun _ => main (nI j) j (by omega) rfl))
  obtain ⟨q, hq, e⟩ := pk_andE r (m := 1023) 10 (by decide)
  refine main _ (j * 1000 + q) (by omega) ?_
  rw [e, show (1000 : Int32) = nI 1000 from rfl, pk_mul, nI_add]
theorem rt_l142 {post : Int32 → Prop} {L : Nat} {xs : Nat → Int32} {kc ks : Nat} {K : Nat → Nat} {R G : Nat → rt_F} {f0 : Int32} {a1 a2 a3 a4 a5 a6 a7 a8 a9 a10 a11 a12 a13 : Nat → Int32} {bf : Int32} {b1 b2 b3 b4 b5 b6 b7 b8 b9 b10 b11 b12 b13 : Nat → Int32} (hpost : post 1) (hL : L ≤ 260) (hP : rt_P K R G a1 a2 a3) (hQ : rt_P K R G b1 b2 b3) : ∃ n, wL_law_142 post L xs kc ks n 0 f0 a1 a2 a3 a4 a5 a6 a7 a8 a9 a10 a11 a12 a13 bf b1 b2 b3 b4 b5 b6 b7 b8 b9 b10 b11 b12 b13 := by
  refine pk_loop (σ := St1 × St1) (fun f s y => wL_law_142 post L xs kc ks f (nI s) y.1.1 y.1.2.1 y.1.2.2.1 y.1.2.2.2.1 y.1.2.2.2.2.1 y.1.2.2.2.2.2.1 y.1.2.2.2.2.2.2.1 y.1.2.2.2.2.2.2.2.1 y.1.2.2.2.2.2.2.2.2.1 y.1.2.2.2.2.2.2.2.2.2.1 y.1.2.2.2.2.2.2.2.2.2.2.1 y.1.2.2.2.2.2.2.2.2.2.2.2.1 y.1.2.2.2.2.2.2.2.2.2.2.2.2.1 y.1.2.2.2.2.2.2.2.2.2.2.2.2.2 y.2.1 y.2.2.1 y.2.2.2.1 y.2.2.2.2.1 y.2.2.2.2.2.1 y.2.2.2.2.2.2.1 y.2.2.2.2.2.2.2.1 y.2.2.2.2.2.2.2.2.1 y.2.2.2.2.2.2.2.2.2.1 y.2.2.2.2.2.2.2.2.2.2.1 y.2.2.2.2.2.2.2.2.2.2.2.1 y.2.2.2.2.2.2.2.2.2.2.2.2.1 y.2.2.2.2.2.2.2.2.2.2.2.2.2.1 y.2.2.2.2.2.2.2.2.2.2.2.2.2.2)
    (fun s y => ∃ (K' : Nat → Nat) (R' G' : Nat → rt_F), rt_P K R G y.1.2.1 y.1.2.2.1 y.1.2.2.2.1 ∧ rt_P K' R' G' y.2.2.1 y.2.2.2.1 y.2.2.2.2.1 ∧ ∀ t, s ≤ t → t < 3 → ∀ n, rt_sq K' R' G' t n = rt_sq K R G t n) 3 0 ((f0, a1, a2, a3, a4, a5, a6, a7, a8, a9, a10, a11, a12, a13), (bf, b1, b2, b3, b4, b5, b6, b7, b8, b9, b10, b11, b12, b13)) (by omega)
    ⟨K, R, G, hP, hQ, fun _ _ _ _ => rfl⟩
    (fun f y h => pk_le 3 3 (fun _ => hpost) (fun z => absurd z (by omega)))
    (fun f s y hs h hw => ?_)
  obtain ⟨K', R', G', h1, h2, h3⟩ := h
  refine pk_le 3 s (fun z => absurd z (by omega)) (fun _ => rt_rank h1 hs (fun A cA cf c1 c2 c3 c4 c5 c6 c7 c8 c9 c10 c11 c12 c13 hc A1 A2 A3 => rt_shorten h2 hs (fun B cB df d1 d2 d3 d4 d5 d6 d7 d8 d9 d10 d11 d12 d13 B1 B2 B3 hd => rt_orderOf hd hs (fun _ => ?_))))
  have eB : B = A := rt_min_eq (fun n _ => h3 s (Nat.le_refl s) hs n) B2 B3 A2 A3
  subst eB
  have hk := (h2.1 s hs).1
  refine br_t rfl (br_t (show nI (rt_shK K' s B s) = nI B from congrArg nI (if_pos rfl)) (rt_l187 hL hs hc hd (fun n => (rt_sh_same hk B1 B2 n).trans (h3 s (Nat.le_refl s) hs n)) (fun pf p1 p2 p3 p4 p5 p6 p7 p8 p9 p10 p11 p12 p13 qf q1 q2 q3 q4 q5 q6 q7 q8 q9 q10 q11 q12 q13 hp hq => hw ((pf, p1, p2, p3, p4, p5, p6, p7, p8, p9, p10, p11, p12, p13), (qf, q1, q2, q3, q4, q5, q6, q7, q8, q9, q10, q11, q12, q13)) ⟨_, _, _, hp, hq, fun t t1 t2 n => ?_⟩)))
  exact (rt_sh_other (h2.1 t t2).1 (by omega) n).trans (h3 t (by omega) t2 n)
theorem rt_l18 {post : Int32 → Prop} {L : Nat} {xs : Nat → Int32} {kc ks : Nat} {K : Nat → Nat} {R G : Nat → rt_F} {f0 : Int32} {a1 a2 a3 a4 a5 a6 a7 a8 a9 a10 a11 a12 a13 : Nat → Int32} {bf : Int32} {b1 b2 b3 b4 b5 b6 b7 b8 b9 b10 b11 b12 b13 : Nat → Int32} (hpost : post 1) (hL : L ≤ 260) (hP : rt_P K R G a1 a2 a3) (hQ : rt_P K R G b1 b2 b3) : ∃ n, wL_law_18 post L xs kc ks n 0 f0 a1 a2 a3 a4 a5 a6 a7 a8 a9 a10 a11 a12 a13 bf b1 b2 b3 b4 b5 b6 b7 b8 b9 b10 b11 b12 b13 := by
  refine pk_loop (σ := St1 × St1) (fun f i y => wL_law_18 post L xs kc ks f (nI (4 * i)) y.1.1 y.1.2.1 y.1.2.2.1 y.1.2.2.2.1 y.1.2.2.2.2.1 y.1.2.2.2.2.2.1 y.1.2.2.2.2.2.2.1 y.1.2.2.2.2.2.2.2.1 y.1.2.2.2.2.2.2.2.2.1 y.1.2.2.2.2.2.2.2.2.2.1 y.1.2.2.2.2.2.2.2.2.2.2.1 y.1.2.2.2.2.2.2.2.2.2.2.2.1 y.1.2.2.2.2.2.2.2.2.2.2.2.2.1 y.1.2.2.2.2.2.2.2.2.2.2.2.2.2 y.2.1 y.2.2.1 y.2.2.2.1 y.2.2.2.2.1 y.2.2.2.2.2.1 y.2.2.2.2.2.2.1 y.2.2.2.2.2.2.2.1 y.2.2.2.2.2.2.2.2.1 y.2.2.2.2.2.2.2.2.2.1 y.2.2.2.2.2.2.2.2.2.2.1 y.2.2.2.2.2.2.2.2.2.2.2.1 y.2.2.2.2.2.2.2.2.2.2.2.2.1 y.2.2.2.2.2.2.2.2.2.2.2.2.2.1 y.2.2.2.2.2.2.2.2.2.2.2.2.2.2)
    (fun i y => ∃ (K : Nat → Nat) (R G : Nat → rt_F), rt_P K R G y.1.2.1 y.1.2.2.1 y.1.2.2.2.1 ∧ rt_P K R G y.2.2.1 y.2.2.2.1 y.2.2.2.2.1) (L / 4) 0 ((f0, a1, a2, a3, a4, a5, a6, a7, a8, a9, a10, a11, a12, a13), (bf, b1, b2, b3, b4, b5, b6, b7, b8, b9, b10, b11, b12, b13)) (by omega)
    ⟨K, R, G, hP, hQ⟩
    (fun f y h => pk_le L (4 * (L / 4) + 3) (fun _ => by
      obtain ⟨K, R, G, h1, h2⟩ := h
      exact rt_l142 hpost hL h1 h2) (fun z => absurd z (by omega)) rfl (nI_add _ 3))
    (fun f i y hi h hw => ?_)
  obtain ⟨K, R, G, h1, h2⟩ := h
  obtain ⟨K', R', G', hA⟩ := rt_ex_act (K := K) (R := R) (G := G) (xs (nI (4 * i)).toNatClampNeg &&& 7) (xs (nI (4 * i) + 1).toNatClampNeg) (xs (nI (4 * i) + 2).toNatClampNeg) (xs (nI (4 * i) + 3).toNatClampNeg)
  obtain ⟨s, hs, es⟩ := rt_rem_and (xs (nI (4 * i) + 1).toNatClampNeg) 31 5 3 (by decide) (by omega) (by omega) (by omega)
  obtain ⟨j, hj, ej⟩ := pk_andE (xs (nI (4 * i) + 2).toNatClampNeg) (m := 4095) 12 (by decide)
  have q1 : vp_in (nI (4 * i) + 1) L := pk_in (4 * i + 1) L (by omega) (nI_add _ 1)
  have q2 : vp_in (nI (4 * i) + 2) L := pk_in (4 * i + 2) L (by omega) (nI_add _ 2)
  have q3 : vp_in (nI (4 * i) + 3) L := pk_in (4 * i + 3) L (by omega) (nI_add _ 3)
  have et : (nI s + 1) - (nI s + 1) / 3 * 3 = nI ((s + 1) % 3) := by
    rw [nI_1]
    exact pk_rem (d := 3) (by omega) (by omega) (by omega)
  refine pk_le L (4 * i + 3) (fun z => absurd z (by omega)) (fun _ => ⟨pk_in (4 * i) L (by omega), nm_e ⟨q1, q2, q3, ?_⟩⟩) rfl (nI_add _ 3)
  refine hA _ _ _ _ _ _ _ _ _ _ _ _ _ _ h1 _ (fun r cf c1 c2 c3 c4 c5 c6 c7 c8 c9 c10 c11 c12 c13 hc => ⟨q1, q2, q3, hA _ _ _ _ _ _ _ _ _ _ _ _ _ _ h2 _ (fun r' df d1 d2 d3 d4 d5 d6 d7 d8 d9 d10 d11 d12 d13 hd => ⟨q1, by decide, nm_r es ⟨q2, nm_r (show 1 + (xs (nI (4 * i) + 2).toNatClampNeg &&& 4095) = nI (1 + j) by rw [ej]; exact nI_add 1 j) (rt_one hc hs (by omega) (by omega) (fun ef e1 e2 e3 e4 e5 e6 e7 e8 e9 e10 e11 e12 e13 he => br_f (by decide) ⟨by decide, ?_⟩))⟩⟩)⟩)
  show wpL_two _ (ef, e1, e2, e3, e4, e5, e6, e7, e8, e9, e10, e11, e12, e13) (nI s) ((nI s + 1) - (nI s + 1) / 3 * 3)
  rw [et]
  exact rt_two he hs (Nat.mod_lt _ (by omega)) (fun gf g1 g2 g3 g4 g5 g6 g7 g8 g9 g10 g11 g12 g13 hg => br_f (by decide) (nm_r (show nI (4 * i) + 4 = nI (4 * (i + 1)) from nI_add (4 * i) 4) (hw ((gf, g1, g2, g3, g4, g5, g6, g7, g8, g9, g10, g11, g12, g13), (df, d1, d2, d3, d4, d5, d6, d7, d8, d9, d10, d11, d12, d13)) ⟨K', R', G', hg, hd⟩)))
theorem rt_P0 : rt_P (fun _ => 0) (fun _ => 0) (fun _ => 0) (fun _ => 0) (fun _ => 0) (fun _ => 0) := ⟨fun _ _ => ⟨Nat.zero_le 4, rfl⟩, fun _ _ => rfl, fun _ _ => rfl⟩
theorem rt_init {post : St1 → Prop} {x : Int32} (H : post (0, (fun _ => 0), (fun _ => 0), (fun _ => 0), (fun _ => 0), (fun _ => 0), (fun _ => 0), (fun _ => 0), (fun _ => 0), (fun _ => 0), (fun _ => 0), (fun _ => 0), (fun _ => 0), (fun _ => 0))) : wpX_init post 13 222 x := by
  unfold wpX_init
  refine ⟨?_, ?_, ?_, ?_, ?_, ?_, ?_, ?_, ?_, ?_, ?_, ?_, ?_, ?_, ?_, ?_, ?_, ?_, ?_, ?_, ?_, ?_, ?_, ?_, ?_, ?_, H⟩ <;> decide
theorem i_vc (xs : Nat → Int32) (L : Nat) (hL : L ≤ 260) : wpL_law (fun r => r = 1) L xs := by
  unfold wpL_law
  exact ⟨13, 222, by omega, by omega, rt_init ⟨by omega, by omega, 13, 222, by omega, by omega, rt_init (rt_l18 rfl hL rt_P0 rt_P0)⟩⟩
end
