section
/-! The plain picture: settings in numbers, the table 'within' as 0 (none), 1 (score 0), 2 (the one score of a variable), the table of structures as lists of masks (one mask an order of the set: which of the four scores it wins). -/
/-- by variable: one of four numbers -/
def sl_q (a b c d v : Nat) : Nat := match v with
  | 0 => a
  | 1 => b
  | 2 => c
  | _ => d
/-- the bits of p below i, counted -/
def sl_szk (p : Nat) : Nat → Nat
  | 0 => 0
  | i + 1 => sl_szk p i + p / 2 ^ i % 2
/-- p without v -/
def sl_rm (p v : Nat) : Nat := if p / 2 ^ v % 2 = 1 then p - 2 ^ v else p
/-- the parents that have a score -/
def sl_key (v : Nat) : Nat := sl_q 8 1 2 4 v
/-- may v have the parents p: limit m, forbidden f, needed r, fixed x (16: not) -/
def sl_al (m f r x v p : Nat) : Bool :=
  Nat.beq (p / 2 ^ v % 2) 0 && ((Nat.beq x 16 || Nat.beq x p) && (Nat.ble (sl_szk p 4) m && (Nat.beq (p &&& f) 0 && Nat.beq (p &&& r) r)))
theorem sl_al_iff {m f r x v p : Nat} : sl_al m f r x v p = true ↔ p / 2 ^ v % 2 = 0 ∧ (x = 16 ∨ x = p) ∧ sl_szk p 4 ≤ m ∧ p &&& f = 0 ∧ p &&& r = r := by
  unfold sl_al
  rw [Bool.and_eq_true, Bool.and_eq_true, Bool.and_eq_true, Bool.and_eq_true, Bool.or_eq_true, Nat.beq_eq, Nat.beq_eq, Nat.beq_eq, Nat.beq_eq, Nat.beq_eq, Nat.ble_eq]
def sl_g (m f r x v p : Nat) : Nat := if sl_al m f r x v p = true then (if p = sl_key v then 2 else 1) else 0
theorem sl_g_le (m f r x v p : Nat) : sl_g m f r x v p ≤ 2 := by
  unfold sl_g
  split
  · split <;> omega
  · omega
/-- the greatest of h below n -/
def sl_mx (h : Nat → Nat) : Nat → Nat
  | 0 => 0
  | n + 1 => max (sl_mx h n) (h n)
theorem sl_mx_le {h : Nat → Nat} {M : Nat} : ∀ n, sl_mx h n ≤ M ↔ ∀ p, p < n → h p ≤ M := by
  intro n
  induction n with
  | zero => exact ⟨fun _ p hp => absurd hp (by omega), fun _ => Nat.zero_le _⟩
  | succ n ih =>
    show max (sl_mx h n) (h n) ≤ M ↔ _
    rw [Nat.max_le, ih]
    constructor
    · intro ⟨a, b⟩ p hp
      by_cases e : p = n
      · rw [e]; exact b
      · exact a p (by omega)
    · intro a
      exact ⟨fun p hp => a p (by omega), a n (by omega)⟩
/-- the best within a set -/
def sl_w (g : Nat → Nat) (s : Nat) : Nat := sl_mx (fun p => if p &&& s = p then g p else 0) 16
theorem sl_w_le {g : Nat → Nat} {s M : Nat} : sl_w g s ≤ M ↔ ∀ p, p < 16 → p &&& s = p → g p ≤ M := by
  unfold sl_w
  rw [sl_mx_le]
  constructor
  · intro a p hp e
    have t := a p hp
    rw [if_pos e] at t
    exact t
  · intro a p hp
    by_cases e : p &&& s = p
    · rw [if_pos e]; exact a p hp e
    · rw [if_neg e]; exact Nat.zero_le _
theorem sl_w_2 {g : Nat → Nat} (hg : ∀ p, g p ≤ 2) (s : Nat) : sl_w g s ≤ 2 := sl_w_le.mpr (fun p _ _ => hg p)
/-- the inner loop of fillWithin -/
def sl_in (g : Nat → Nat) (s : Nat) : Nat → Nat
  | 0 => g s
  | u + 1 => if s / 2 ^ u % 2 = 1 then max (sl_in g s u) (sl_w g (sl_rm s u)) else sl_in g s u
theorem sl_in_le {g : Nat → Nat} {s M : Nat} : ∀ k, sl_in g s k ≤ M ↔ (g s ≤ M ∧ ∀ u, u < k → s / 2 ^ u % 2 = 1 → sl_w g (sl_rm s u) ≤ M) := by
  intro k
  induction k with
  | zero => exact ⟨fun a => ⟨a, fun u hu => absurd hu (by omega)⟩, fun a => a.1⟩
  | succ k ih =>
    show (if s / 2 ^ k % 2 = 1 then max (sl_in g s k) (sl_w g (sl_rm s k)) else sl_in g s k) ≤ M ↔ _
    by_cases e : s / 2 ^ k % 2 = 1
    · rw [if_pos e, Nat.max_le, ih]
      constructor
      · intro ⟨⟨a, b⟩, c⟩
        refine ⟨a, fun u hu hb => ?_⟩
        by_cases z : u = k
        · rw [z]; exact c
        · exact b u (by omega) hb
      · intro ⟨a, b⟩
        exact ⟨⟨a, fun u hu => b u (by omega)⟩, b k (by omega) e⟩
    · rw [if_neg e, ih]
      constructor
      · intro ⟨a, b⟩
        refine ⟨a, fun u hu hb => ?_⟩
        by_cases z : u = k
        · rw [z] at hb; exact absurd hb e
        · exact b u (by omega) hb
      · intro ⟨a, b⟩
        exact ⟨a, fun u hu => b u (by omega)⟩
theorem sl_in_2 {g : Nat → Nat} (hg : ∀ p, g p ≤ 2) (s k : Nat) : sl_in g s k ≤ 2 := (sl_in_le k).mpr ⟨hg s, fun _ _ _ => sl_w_2 hg _⟩
theorem sl_f1 : ∀ s, s < 16 → ∀ u, u < 4 → ∀ p, p < 16 → p &&& sl_rm s u = p → p &&& s = p := by decide +kernel
/-- a variable of s that isn't in p -/
def sl_pick (s p : Nat) : Nat := (s - p).log2
theorem sl_f2a : ∀ s, s < 16 → ∀ p, p < 16 → p &&& s = p → p ≠ s → sl_pick s p < 4 ∧ s / 2 ^ sl_pick s p % 2 = 1 := by decide +kernel
theorem sl_f2b : ∀ s, s < 16 → ∀ p, p < 16 → p &&& s = p → p ≠ s → p &&& sl_rm s (sl_pick s p) = p := by decide +kernel
theorem sl_in_4 {g : Nat → Nat} {s : Nat} (hs : s < 16) : sl_in g s 4 = sl_w g s := by
  apply Nat.le_antisymm
  · rw [sl_in_le]
    have t := (sl_w_le (g := g) (s := s)).mp (Nat.le_refl _)
    refine ⟨t s hs (Nat.and_self s), fun u hu _ => ?_⟩
    rw [sl_w_le]
    exact fun p hp e => t p hp (sl_f1 s hs u hu p hp e)
  · rw [sl_w_le]
    have t := (sl_in_le (g := g) (s := s) 4).mp (Nat.le_refl _)
    intro p hp e
    by_cases z : p = s
    · rw [z]; exact t.1
    · obtain ⟨b1, b2⟩ := sl_f2a s hs p hp e z
      exact sl_w_le.mp (t.2 _ b1 b2) p hp (sl_f2b s hs p hp e z)
/-- what a number of the table 'within' stands for -/
def sl_k (x : Nat → Nat) (v o : Nat) : Int := if o = 0 then -100000 else if o = 1 then 0 else (x v : Int)
theorem sl_k_le {x : Nat → Nat} {v a b : Nat} (hx : 1 ≤ x v) (ha : a ≤ 2) (hb : b ≤ 2) : sl_k x v a ≤ sl_k x v b ↔ a ≤ b := by
  unfold sl_k
  have ca : a = 0 ∨ a = 1 ∨ a = 2 := by omega
  have cb : b = 0 ∨ b = 1 ∨ b = 2 := by omega
  rcases ca with rfl | rfl | rfl <;> rcases cb with rfl | rfl | rfl <;> simp <;> omega
theorem sl_k_max {x : Nat → Nat} {v a b : Nat} (hx : 1 ≤ x v) (ha : a ≤ 2) (hb : b ≤ 2) : (sl_k x v b ≤ sl_k x v a → max a b = a) ∧ (¬ sl_k x v b ≤ sl_k x v a → max a b = b) := by
  rw [sl_k_le hx hb ha]
  exact ⟨fun z => by omega, fun z => by omega⟩
/-- a list of masks, v put behind with its best parents -/
def sl_ext (o v : Nat) (l : List Nat) : List Nat := if o = 0 then [] else if o = 1 then l else l.map (fun m => m + 2 ^ v)
def sl_acc (W : Nat → Nat → Nat) (Lr : Nat → List Nat) (s : Nat) : Nat → List Nat
  | 0 => []
  | v + 1 => if s / 2 ^ v % 2 = 1 then sl_acc W Lr s v ++ sl_ext (W v (sl_rm s v)) v (Lr (sl_rm s v)) else sl_acc W Lr s v
/-- the masks of all orders of a set of n variables -/
def sl_L (W : Nat → Nat → Nat) : Nat → Nat → List Nat
  | 0 => fun _ => [0]
  | n + 1 => fun s => sl_acc W (sl_L W n) s 4
/-- what a mask is worth -/
def sl_sn (x : Nat → Nat) (m : Nat) : Nat := m % 2 * x 0 + m / 2 % 2 * x 1 + m / 4 % 2 * x 2 + m / 8 % 2 * x 3
/-- the greatest worth in a list -/
def sl_b (x : Nat → Nat) : List Nat → Int
  | [] => -100000
  | m :: l => max (sl_sn x m : Int) (sl_b x l)
/-- how many in a list are worth B -/
def sl_ct (x : Nat → Nat) (B : Int) : List Nat → Nat
  | [] => 0
  | m :: l => (if (sl_sn x m : Int) = B then 1 else 0) + sl_ct x B l
theorem sl_16 {P : Nat → Prop} (h0 : P 0) (h1 : P 1) (h2 : P 2) (h3 : P 3) (h4 : P 4) (h5 : P 5) (h6 : P 6) (h7 : P 7) (h8 : P 8) (h9 : P 9) (h10 : P 10) (h11 : P 11) (h12 : P 12) (h13 : P 13) (h14 : P 14) (h15 : P 15) : ∀ m, m < 16 → P m := by
  intro m hm
  have c : m = 0 ∨ m = 1 ∨ m = 2 ∨ m = 3 ∨ m = 4 ∨ m = 5 ∨ m = 6 ∨ m = 7 ∨ m = 8 ∨ m = 9 ∨ m = 10 ∨ m = 11 ∨ m = 12 ∨ m = 13 ∨ m = 14 ∨ m = 15 := by omega
  rcases c with rfl | rfl | rfl | rfl | rfl | rfl | rfl | rfl | rfl | rfl | rfl | rfl | rfl | rfl | rfl | rfl <;> assumption
theorem sl_sn_hi {x : Nat → Nat} (hx : ∀ v, v < 4 → x v ≤ 200) : ∀ m, sl_sn x m ≤ 800 := by
  intro m
  have e : ∀ k v, v < 4 → k % 2 * x v ≤ 200 := by
    intro k v hv
    have t := hx v hv
    rcases Nat.mod_two_eq_zero_or_one k with z | z
    · rw [z]; omega
    · rw [z]; omega
  have a := e m 0 (by decide)
  have b := e (m / 2) 1 (by decide)
  have c := e (m / 4) 2 (by decide)
  have d := e (m / 8) 3 (by decide)
  unfold sl_sn
  omega
theorem sl_b_lo {x : Nat → Nat} : ∀ l, -100000 ≤ sl_b x l := by
  intro l
  induction l with
  | nil => exact Int.le_refl _
  | cons m l ih =>
    show -100000 ≤ max (sl_sn x m : Int) (sl_b x l)
    omega
theorem sl_b_pos {x : Nat → Nat} : ∀ l, l ≠ [] → 0 ≤ sl_b x l := by
  intro l h
  cases l with
  | nil => exact absurd rfl h
  | cons m l =>
    show 0 ≤ max (sl_sn x m : Int) (sl_b x l)
    omega
theorem sl_b_hi {x : Nat → Nat} (hx : ∀ v, v < 4 → x v ≤ 200) : ∀ l, sl_b x l ≤ 800 := by
  intro l
  induction l with
  | nil => show (-100000 : Int) ≤ 800; decide
  | cons m l ih =>
    have t := sl_sn_hi hx m
    show max (sl_sn x m : Int) (sl_b x l) ≤ 800
    omega
theorem sl_b_ge {x : Nat → Nat} {m : Nat} : ∀ l, m ∈ l → (sl_sn x m : Int) ≤ sl_b x l := by
  intro l
  induction l with
  | nil => intro h; cases h
  | cons k l ih =>
    intro h
    show (sl_sn x m : Int) ≤ max (sl_sn x k : Int) (sl_b x l)
    rcases List.mem_cons.mp h with z | z
    · rw [z]; omega
    · have := ih z
      omega
theorem sl_b_le {x : Nat → Nat} {B : Int} (hB : -100000 ≤ B) : ∀ l, (∀ m, m ∈ l → (sl_sn x m : Int) ≤ B) → sl_b x l ≤ B := by
  intro l
  induction l with
  | nil => intro _; exact hB
  | cons k l ih =>
    intro h
    have a := h k (List.mem_cons_self ..)
    have b := ih (fun m hm => h m (List.mem_cons_of_mem _ hm))
    show max (sl_sn x k : Int) (sl_b x l) ≤ B
    omega
theorem sl_b_lt {x : Nat → Nat} {B : Int} (hB : -100000 < B) : ∀ l, (∀ m, m ∈ l → (sl_sn x m : Int) < B) → sl_b x l < B := by
  intro l
  induction l with
  | nil => intro _; exact hB
  | cons k l ih =>
    intro h
    have a := h k (List.mem_cons_self ..)
    have b := ih (fun m hm => h m (List.mem_cons_of_mem _ hm))
    show max (sl_sn x k : Int) (sl_b x l) < B
    omega
theorem sl_b_eq {x : Nat → Nat} {B : Int} {l : List Nat} {k : Nat} (hk : k ∈ l) (e : (sl_sn x k : Int) = B) (h : ∀ m, m ∈ l → (sl_sn x m : Int) ≤ B) : sl_b x l = B := by
  have a := sl_b_ge (x := x) l hk
  have b := sl_b_le (x := x) (B := B) (by omega) l h
  omega
theorem sl_b_app {x : Nat → Nat} (k : List Nat) : ∀ l, sl_b x (l ++ k) = max (sl_b x l) (sl_b x k) := by
  intro l
  induction l with
  | nil =>
    have t := sl_b_lo (x := x) k
    show sl_b x k = max (-100000) (sl_b x k)
    omega
  | cons m l ih =>
    show max (sl_sn x m : Int) (sl_b x (l ++ k)) = max (max (sl_sn x m : Int) (sl_b x l)) (sl_b x k)
    rw [ih]
    omega
theorem sl_ct_app {x : Nat → Nat} {B : Int} (k : List Nat) : ∀ l, sl_ct x B (l ++ k) = sl_ct x B l + sl_ct x B k := by
  intro l
  induction l with
  | nil => show sl_ct x B k = 0 + sl_ct x B k; omega
  | cons m l ih =>
    show (if (sl_sn x m : Int) = B then 1 else 0) + sl_ct x B (l ++ k) = ((if (sl_sn x m : Int) = B then 1 else 0) + sl_ct x B l) + sl_ct x B k
    rw [ih]
    omega
theorem sl_ct_gt {x : Nat → Nat} {B : Int} : ∀ l, sl_b x l < B → sl_ct x B l = 0 := by
  intro l
  induction l with
  | nil => intro _; rfl
  | cons m l ih =>
    intro h
    have h' : max (sl_sn x m : Int) (sl_b x l) < B := h
    show (if (sl_sn x m : Int) = B then 1 else 0) + sl_ct x B l = 0
    rw [if_neg (by omega), ih (by omega)]
theorem sl_ct_len {x : Nat → Nat} {B : Int} : ∀ l, sl_ct x B l ≤ l.length := by
  intro l
  induction l with
  | nil => exact Nat.le_refl _
  | cons m l ih =>
    show (if (sl_sn x m : Int) = B then 1 else 0) + sl_ct x B l ≤ l.length + 1
    split <;> omega
theorem sl_b_map {x : Nat → Nat} {v : Nat} : ∀ l, l ≠ [] → (∀ m, m ∈ l → sl_sn x (m + 2 ^ v) = sl_sn x m + x v) → sl_b x (l.map (fun m => m + 2 ^ v)) = sl_b x l + x v := by
  intro l
  induction l with
  | nil => intro h; exact absurd rfl h
  | cons m l ih =>
    intro _ h
    have a := h m (List.mem_cons_self ..)
    show max (sl_sn x (m + 2 ^ v) : Int) (sl_b x (l.map (fun m => m + 2 ^ v))) = max (sl_sn x m : Int) (sl_b x l) + x v
    by_cases e : l = []
    · rw [e, a]
      show max ((sl_sn x m + x v : Nat) : Int) (-100000) = max (sl_sn x m : Int) (-100000) + x v
      omega
    · rw [ih e (fun k hk => h k (List.mem_cons_of_mem _ hk)), a]
      omega
theorem sl_ct_map {x : Nat → Nat} {v : Nat} {B : Int} : ∀ l, (∀ m, m ∈ l → sl_sn x (m + 2 ^ v) = sl_sn x m + x v) → sl_ct x (B + x v) (l.map (fun m => m + 2 ^ v)) = sl_ct x B l := by
  intro l
  induction l with
  | nil => intro _; rfl
  | cons m l ih =>
    intro h
    have a := h m (List.mem_cons_self ..)
    show (if (sl_sn x (m + 2 ^ v) : Int) = B + x v then 1 else 0) + sl_ct x (B + x v) (l.map (fun m => m + 2 ^ v)) = (if (sl_sn x m : Int) = B then 1 else 0) + sl_ct x B l
    rw [ih (fun k hk => h k (List.mem_cons_of_mem _ hk)), a]
    by_cases e : (sl_sn x m : Int) = B
    · rw [if_pos e, if_pos (by omega)]
    · rw [if_neg e, if_neg (by omega)]
/-- the worth of the list with v put behind, and how often it is met -/
theorem sl_b_ext {x : Nat → Nat} {o v : Nat} {l : List Nat} (ho : o ≠ 0) (hl : l ≠ []) (h : ∀ m, m ∈ l → sl_sn x (m + 2 ^ v) = sl_sn x m + x v) :
    sl_b x (sl_ext o v l) = sl_b x l + sl_k x v o ∧ sl_ct x (sl_b x (sl_ext o v l)) (sl_ext o v l) = sl_ct x (sl_b x l) l := by
  unfold sl_ext sl_k
  rw [if_neg ho, if_neg ho]
  by_cases e : o = 1
  · rw [if_pos e, if_pos e]
    exact ⟨by omega, rfl⟩
  · rw [if_neg e, if_neg e, sl_b_map l hl h]
    exact ⟨rfl, sl_ct_map l h⟩
theorem sl_ext_nil (o v : Nat) : sl_ext o v [] = [] := by
  unfold sl_ext
  split
  · rfl
  · split <;> rfl
theorem sl_ext_len (o v : Nat) (l : List Nat) : (sl_ext o v l).length ≤ l.length := by
  unfold sl_ext
  split
  · exact Nat.zero_le _
  · split
    · exact Nat.le_refl _
    · rw [List.length_map]; exact Nat.le_refl _
theorem sl_acc_len {W : Nat → Nat → Nat} {Lr : Nat → List Nat} {s N : Nat} (h : ∀ q, (Lr q).length ≤ N) : ∀ k, (sl_acc W Lr s k).length ≤ k * N := by
  intro k
  induction k with
  | zero => exact Nat.zero_le _
  | succ v ih =>
    have t := h (sl_rm s v)
    have t2 := sl_ext_len (W v (sl_rm s v)) v (Lr (sl_rm s v))
    show (if s / 2 ^ v % 2 = 1 then sl_acc W Lr s v ++ sl_ext (W v (sl_rm s v)) v (Lr (sl_rm s v)) else sl_acc W Lr s v).length ≤ (v + 1) * N
    rw [Nat.succ_mul]
    split
    · rw [List.length_append]; omega
    · omega
theorem sl_L_len {W : Nat → Nat → Nat} : ∀ n s, (sl_L W n s).length ≤ 4 ^ n := by
  intro n
  induction n with
  | zero => intro s; exact Nat.le_refl _
  | succ n ih =>
    intro s
    have t := sl_acc_len (W := W) (s := s) (ih) 4
    show (sl_acc W (sl_L W n) s 4).length ≤ 4 ^ (n + 1)
    rw [Nat.pow_succ]
    omega
theorem sl_acc_mem {W : Nat → Nat → Nat} {Lr : Nat → List Nat} {s m : Nat} : ∀ k, m ∈ sl_acc W Lr s k → ∃ v, v < k ∧ s / 2 ^ v % 2 = 1 ∧ m ∈ sl_ext (W v (sl_rm s v)) v (Lr (sl_rm s v)) := by
  intro k
  induction k with
  | zero => intro h; cases h
  | succ v ih =>
    intro h
    have h' : m ∈ (if s / 2 ^ v % 2 = 1 then sl_acc W Lr s v ++ sl_ext (W v (sl_rm s v)) v (Lr (sl_rm s v)) else sl_acc W Lr s v) := h
    by_cases e : s / 2 ^ v % 2 = 1
    · rw [if_pos e] at h'
      rcases List.mem_append.mp h' with z | z
      · obtain ⟨w, h1, h2, h3⟩ := ih z
        exact ⟨w, by omega, h2, h3⟩
      · exact ⟨v, by omega, e, z⟩
    · rw [if_neg e] at h'
      obtain ⟨w, h1, h2, h3⟩ := ih h'
      exact ⟨w, by omega, h2, h3⟩
theorem sl_f3 : ∀ s, s < 16 → ∀ v, v < 4 → s / 2 ^ v % 2 = 1 → sl_szk (sl_rm s v) 4 + 1 = sl_szk s 4 ∧ sl_rm s v < 16 ∧ sl_rm s v < s := by decide +kernel
theorem sl_f4a : ∀ s, s < 16 → ∀ v, v < 4 → ∀ m, m < 16 → m &&& sl_rm s v = m → m &&& s = m := by decide +kernel
theorem sl_f4b : ∀ s, s < 16 → ∀ v, v < 4 → s / 2 ^ v % 2 = 1 → ∀ m, m < 16 → m &&& sl_rm s v = m → m + 2 ^ v < 16 := by decide +kernel
theorem sl_f4c : ∀ s, s < 16 → ∀ v, v < 4 → s / 2 ^ v % 2 = 1 → ∀ m, m < 16 → m &&& sl_rm s v = m → (m + 2 ^ v) &&& s = m + 2 ^ v := by decide +kernel
theorem sl_f4d : ∀ s, s < 16 → ∀ v, v < 4 → s / 2 ^ v % 2 = 1 → ∀ m, m < 16 → m &&& sl_rm s v = m → m / 2 ^ v % 2 = 0 := by decide +kernel
theorem sl_f4 : ∀ s, s < 16 → ∀ v, v < 4 → s / 2 ^ v % 2 = 1 → ∀ m, m < 16 → m &&& sl_rm s v = m → m &&& s = m ∧ m + 2 ^ v < 16 ∧ (m + 2 ^ v) &&& s = m + 2 ^ v ∧ m / 2 ^ v % 2 = 0 :=
  fun s hs v hv b m hm e => ⟨sl_f4a s hs v hv m hm e, sl_f4b s hs v hv b m hm e, sl_f4c s hs v hv b m hm e, sl_f4d s hs v hv b m hm e⟩
theorem sl_f5 : ∀ s, s < 16 → ∀ v, v < 4 → ¬ s / 2 ^ v % 2 = 1 → sl_rm s v = s := by decide +kernel
theorem sl_L_mem {W : Nat → Nat → Nat} : ∀ n s, s < 16 → sl_szk s 4 = n → ∀ m, m ∈ sl_L W n s → m < 16 ∧ m &&& s = m := by
  intro n
  induction n with
  | zero =>
    intro s _ _ m hm
    have e : m = 0 := List.mem_singleton.mp hm
    rw [e]
    exact ⟨by decide, Nat.zero_and s⟩
  | succ n ih =>
    intro s hs hn m hm
    obtain ⟨v, hv, hb, hm2⟩ := sl_acc_mem 4 hm
    obtain ⟨f1, f2, _⟩ := sl_f3 s hs v hv hb
    have ih' := ih (sl_rm s v) f2 (by omega)
    unfold sl_ext at hm2
    by_cases e0 : W v (sl_rm s v) = 0
    · rw [if_pos e0] at hm2; cases hm2
    · rw [if_neg e0] at hm2
      by_cases e1 : W v (sl_rm s v) = 1
      · rw [if_pos e1] at hm2
        obtain ⟨a, b⟩ := ih' m hm2
        exact ⟨a, (sl_f4 s hs v hv hb m a b).1⟩
      · rw [if_neg e1] at hm2
        obtain ⟨k, hk, e⟩ := List.mem_map.mp hm2
        obtain ⟨a, b⟩ := ih' k hk
        have t := sl_f4 s hs v hv hb k a b
        rw [← e]
        exact ⟨t.2.1, t.2.2.1⟩
theorem sl_sn_add {x : Nat → Nat} {v : Nat} (hv : v < 4) : ∀ m, m < 16 → m / 2 ^ v % 2 = 0 → sl_sn x (m + 2 ^ v) = sl_sn x m + x v := by
  have c : v = 0 ∨ v = 1 ∨ v = 2 ∨ v = 3 := by omega
  rcases c with rfl | rfl | rfl | rfl <;> refine sl_16 ?_ ?_ ?_ ?_ ?_ ?_ ?_ ?_ ?_ ?_ ?_ ?_ ?_ ?_ ?_ ?_ <;> simp [sl_sn] <;> omega
theorem sl_L_add {W : Nat → Nat → Nat} {x : Nat → Nat} {s v : Nat} (hs : s < 16) (hv : v < 4) (hb : s / 2 ^ v % 2 = 1) : ∀ m, m ∈ sl_L W (sl_szk (sl_rm s v) 4) (sl_rm s v) → sl_sn x (m + 2 ^ v) = sl_sn x m + x v := by
  intro m hm
  obtain ⟨a, b⟩ := sl_L_mem _ _ (sl_f3 s hs v hv hb).2.1 rfl m hm
  exact sl_sn_add hv m a (sl_f4 s hs v hv hb m a b).2.2.2
/-- all orders of the four, under the settings -/
def sl_W (m : Nat) (F R X : Nat → Nat) (v : Nat) : Nat → Nat := sl_w (sl_g m (F v) (R v) (X v) v)
def sl_LL (m : Nat) (F R X : Nat → Nat) : List Nat := sl_L (sl_W m F R X) 4 15
end
section
/-! Ints: bits of numbers below 16, sums that fit, comparisons by toInt. -/
theorem sl_bit : ∀ p, p < 16 → ∀ v, v < 4 → ((nI p >>> (nI v &&& 31)) &&& 1) = nI (p / 2 ^ v % 2) := by decide +kernel
theorem sl_cl : ∀ p, p < 16 → ∀ v, v < 4 → nI p &&& (((1 : Int32) <<< (nI v &&& 31)) ^^^ (-1)) = nI (sl_rm p v) := by decide +kernel
theorem sl_shl : ∀ v, v < 4 → (1 : Int32) <<< (nI v &&& 31) = nI (2 ^ v) := by decide +kernel
theorem sl_and : ∀ p, p < 16 → ∀ q, q < 16 → nI p &&& nI q = nI (p &&& q) := by decide +kernel
theorem sl_or : ∀ p, p < 16 → ∀ q, q < 16 → nI p ||| nI q = nI (p ||| q) := by decide +kernel
theorem sl_rm16 : ∀ p, p < 16 → ∀ v, v < 4 → sl_rm p v < 16 := by decide +kernel
theorem sl_szle : ∀ p, p < 16 → sl_szk p 4 ≤ 4 := by decide +kernel
theorem sl_ix (v p : Nat) : nI v * 16 + nI p = nI (v * 16 + p) := by
  rw [show (16 : Int32) = nI 16 from rfl, pk_mul, nI_add]
theorem sl_add {a b : Int32} (h1 : -2147483648 ≤ a.toInt + b.toInt) (h2 : a.toInt + b.toInt < 2147483648) : (a + b).toInt = a.toInt + b.toInt := by
  rw [Int32.toInt_add]
  exact Int.bmod_eq_of_le (by omega) (by omega)
theorem sl_sub {a b : Int32} (h1 : -2147483648 ≤ a.toInt - b.toInt) (h2 : a.toInt - b.toInt < 2147483648) : (a - b).toInt = a.toInt - b.toInt := by
  rw [Int32.toInt_sub]
  exact Int.bmod_eq_of_le (by omega) (by omega)
theorem sl_le {a b : Int32} {x y : Int} (ha : a.toInt = x) (hb : b.toInt = y) : a ≤ b ↔ x ≤ y := by
  rw [Int32.le_iff_toInt_le, ha, hb]
theorem sl_eq {a b : Int32} {x y : Int} (ha : a.toInt = x) (hb : b.toInt = y) : a = b ↔ x = y := by
  rw [← Int32.toInt_inj, ha, hb]
theorem sl_m1 : (-100000 : Int32).toInt = -100000 := by decide
theorem sl_1t : (1 : Int32).toInt = 1 := by decide
theorem sl_0t : (0 : Int32).toInt = 0 := by decide
theorem sl_and0 {p q : Nat} (hp : p < 16) : (p &&& q) < 16 := Nat.lt_of_le_of_lt Nat.and_le_left hp
/-- a store seen from its place, and from another one -/
theorem sl_us {f : Nat → Int32} {i : Int32} {k : Nat} {y : Int32} (h : i.toNatClampNeg = k) : upd f i.toNatClampNeg y = upd f k y := by rw [h]
end
section
/-! bad, badParents, size, isAllowed -/
theorem sl_bad {post : Int32 → Prop} {v : Nat} (hv : v < 4) (H : post 0) : wpX_bad post () (nI v) :=
  pk_lt v 0 (fun z => absurd z (by omega)) (fun _ => pk_lt v 4 (fun _ => H) (fun z => absurd z (by omega)))
theorem sl_bp {post : Int32 → Prop} {v p : Nat} (hv : v < 4) (hp : p < 16) (h1 : p / 2 ^ v % 2 = 1 → post 1) (h0 : p / 2 ^ v % 2 ≠ 1 → post 0) : wpX_badParents post () (nI v) (nI p) :=
  pk_lt p 0 (fun z => absurd z (by omega)) (fun _ => pk_le 16 p (fun z => absurd z (by omega)) (fun _ => pk_eq (p / 2 ^ v % 2) 1 h1 h0 (sl_bit p hp v hv)))
theorem sl_size {post : Int32 → Prop} {p : Nat} (hp : p < 16) (H : post (nI (sl_szk p 4))) : wpX_size post () (nI p) :=
  pk_loop (fun n i s => wX_size_4 post (nI p) n s (nI i)) (fun i s => s = nI (sl_szk p i)) 4 0 0 (by omega) rfl
    (fun n s h => pk_le 4 4 (fun _ => by rw [h]; exact H) (fun z => absurd z (by omega)))
    (fun n i s hi h hw => pk_le 4 i (fun z => absurd z (by omega)) (fun _ => nm_r (e' := nI (sl_szk p (i + 1))) (by rw [h, sl_bit p hp i hi, nI_add]; rfl) (nm_r (nI_1 i) (hw _ rfl))))
/-- the settings of a question in numbers: the limit; what v may not have (two arrays, joined), what it needs (two arrays, joined), what it is fixed to (16: not) -/
def sl_R (m : Nat) (F R X : Nat → Nat) (f0 : Int32) (a2 a3 a4 a5 a6 : Nat → Int32) : Prop :=
  f0 = nI m ∧ m ≤ 3 ∧ ∀ v, v < 4 → F v < 16 ∧ R v < 16 ∧ a2 v ||| a6 v = nI (F v) ∧ a3 v ||| a5 v = nI (R v) ∧ ((X v = 16 ∧ a4 v = -1) ∨ (X v < 16 ∧ a4 v = nI (X v)))
theorem sl_31 {post : Int32 → Prop} {m v p : Nat} {F R X : Nat → Nat} {f0 : Int32} {a1 a2 a3 a4 a5 a6 a7 a8 a9 : Nat → Int32} (h : sl_R m F R X f0 a2 a3 a4 a5 a6) (hv : v < 4) (hp : p < 16)
    (h1 : (sl_szk p 4 ≤ m ∧ p &&& F v = 0 ∧ p &&& R v = R v) → post 1) (h0 : ¬ (sl_szk p 4 ≤ m ∧ p &&& F v = 0 ∧ p &&& R v = R v) → post 0) :
    wX_isAllowed_31 post (nI v) (nI p) f0 a1 a2 a3 a4 a5 a6 a7 a8 a9 := by
  obtain ⟨hm, hm3, h⟩ := h
  obtain ⟨hF, hR, eF, eR, _⟩ := h v hv
  have hc : (nI v).toNatClampNeg = v := nI_clamp (by omega)
  have hz := sl_szle p hp
  have aF : (nI p &&& (a2 (nI v).toNatClampNeg ||| a6 (nI v).toNatClampNeg)) = nI (p &&& F v) := by
    rw [hc, eF, sl_and p hp (F v) hF]
  have aR : (a3 (nI v).toNatClampNeg ||| a5 (nI v).toNatClampNeg) = nI (R v) := by
    rw [hc, eR]
  have b1 := sl_and0 (q := F v) hp
  have b2 := sl_and0 (q := R v) hp
  unfold wX_isAllowed_31
  refine sl_size hp ⟨pk_in v 4 hv, pk_in v 4 hv, nm_r aR ?_⟩
  refine pk_lt m (sl_szk p 4) (fun z => h0 (fun t => absurd t.1 (by omega))) (fun z => ⟨pk_in v 4 hv, pk_in v 4 hv, ?_⟩) hm
  refine pk_eq (p &&& F v) 0 (fun z1 => ?_) (fun z1 => h0 (fun t => z1 t.2.1)) aF
  exact pk_eq (p &&& R v) (R v) (fun z2 => h1 ⟨z, z1, z2⟩) (fun z2 => h0 (fun t => z2 t.2.2)) (sl_and p hp (R v) hR)
theorem sl_allowed {post : Int32 → Prop} {m v p : Nat} {F R X : Nat → Nat} {f0 : Int32} {a1 a2 a3 a4 a5 a6 a7 a8 a9 : Nat → Int32} (h : sl_R m F R X f0 a2 a3 a4 a5 a6) (hv : v < 4) (hp : p < 16)
    (h1 : sl_al m (F v) (R v) (X v) v p = true → post 1) (h0 : ¬ sl_al m (F v) (R v) (X v) v p = true → post 0) :
    wpX_isAllowed post (f0, a1, a2, a3, a4, a5, a6, a7, a8, a9) (nI v) (nI p) := by
  rw [sl_al_iff] at h1 h0
  have hc : (nI v).toNatClampNeg = v := nI_clamp (by omega)
  obtain ⟨_, _, _, _, hX⟩ := h.2.2 v hv
  unfold wpX_isAllowed
  refine sl_bp hv hp (fun z => br_f (by decide) (h0 (fun t => absurd t.1 (by omega)))) (fun z => br_t rfl ⟨pk_in v 4 hv, ?_⟩)
  have z' : p / 2 ^ v % 2 = 0 := by omega
  rcases hX with ⟨x16, e4⟩ | ⟨x16, e4⟩
  · have e4' : a4 (nI v).toNatClampNeg < 0 := by
      rw [hc, e4]
      decide
    exact br_t e4' (sl_31 h hv hp (fun t => h1 ⟨z', Or.inl x16, t⟩) (fun t => h0 (fun k => t k.2.2)))
  · have e4' : a4 (nI v).toNatClampNeg = nI (X v) := by rw [hc, e4]
    refine pk_lt (X v) 0 (fun t => absurd t (by omega)) (fun _ => ⟨pk_in v 4 hv, ?_⟩) e4'
    refine pk_eq (X v) p (fun ex => ?_) (fun ex => h0 (fun k => ?_)) e4'
    · exact sl_31 h hv hp (fun t => h1 ⟨z', Or.inr ex, t⟩) (fun t => h0 (fun k => t k.2.2))
    · rcases k.2.1 with y | y
      · omega
      · exact ex y
end
section
/-! fillWithin: after it the row of v in the table 'within' holds the best within each set -/
/-- the four scores: x 0 for variable 0 with parents 8, x 1 for 1 with 1, x 2 for 2 with 2, x 3 for 3 with 4; all others 0 -/
def sl_S (x : Nat → Nat) (a1 : Nat → Int32) : Prop := ∀ v, v < 4 → 1 ≤ x v ∧ x v ≤ 200 ∧ ∀ p, p < 16 → (a1 (v * 16 + p)).toInt = if p = sl_key v then (x v : Int) else 0
theorem sl_40 {post : St2 → Prop} {J2 : Int32 → (Nat → Int32) → (Nat → Int32) → (Nat → Int32) → (Nat → Int32) → (Nat → Int32) → (Nat → Int32) → (Nat → Int32) → (Nat → Int32) → (Nat → Int32) → Prop}
    {x : Nat → Nat} {g : Nat → Nat} {v s : Nat} {f0 x4 : Int32} {a1 a2 a3 a4 a5 a6 a7 a8 a9 : Nat → Int32} (hv : v < 4) (hs : s < 16) (hx : 1 ≤ x v) (hg : ∀ p, g p ≤ 2)
    (h4 : x4.toInt = sl_k x v (g s)) (h7 : ∀ q, q < s → (a7 (v * 16 + q)).toInt = sl_k x v (sl_w g q))
    (H : ∀ y : Int32, y.toInt = sl_k x v (sl_w g s) → J2 (nI (s + 1)) a1 a2 a3 a4 a5 a6 (upd a7 (v * 16 + s) y) a8 a9) :
    ∃ n, wX_fillWithin_40 post J2 (nI v) (nI s) f0 a1 a2 a3 a4 a5 a6 a7 a8 a9 n x4 0 := by
  refine pk_loop (fun n i y => wX_fillWithin_40 post J2 (nI v) (nI s) f0 a1 a2 a3 a4 a5 a6 a7 a8 a9 n y (nI i)) (fun i y => y.toInt = sl_k x v (sl_in g s i)) 4 0 x4 (by omega) h4 ?_ ?_
  · intro n y hy
    rw [sl_in_4 hs] at hy
    exact pk_le 4 4 (fun _ => ⟨pk_in (v * 16 + s) 64 (by omega) (sl_ix v s), nm_r (sl_us (pk_cl (v * 16 + s) (sl_ix v s))) (nm_r (nI_1 s) (H y hy))⟩) (fun z => absurd z (by omega))
  · intro n i y hi hy hw
    have hr := sl_rm16 s hs i hi
    refine pk_le 4 i (fun z => absurd z (by omega)) (fun _ => nm_r (sl_cl s hs i hi) ?_)
    refine pk_eq (sl_rm s i) s (fun e => nm_r (nI_1 i) (hw y ?_)) (fun ne => ⟨pk_in (v * 16 + sl_rm s i) 64 (by omega) (sl_ix v _), ?_⟩)
    · have nb : ¬ s / 2 ^ i % 2 = 1 := fun b => absurd (sl_f3 s hs i hi b).2.2 (by omega)
      show y.toInt = sl_k x v (if s / 2 ^ i % 2 = 1 then max (sl_in g s i) (sl_w g (sl_rm s i)) else sl_in g s i)
      rw [if_neg nb]
      exact hy
    · have b : s / 2 ^ i % 2 = 1 := Decidable.byContradiction (fun b => ne (sl_f5 s hs i hi b))
      have e7 : (a7 ((nI v * 16) + nI (sl_rm s i)).toNatClampNeg).toInt = sl_k x v (sl_w g (sl_rm s i)) := by
        rw [pk_cl (v * 16 + sl_rm s i) (sl_ix v _)]
        exact h7 _ (sl_f3 s hs i hi b).2.2
      have em : sl_in g s (i + 1) = max (sl_in g s i) (sl_w g (sl_rm s i)) := if_pos b
      have km := sl_k_max (v := v) hx (sl_in_2 hg s i) (sl_w_2 hg (sl_rm s i))
      refine ek_if (sl_le e7 hy) (fun z => nm_r (nI_1 i) (hw y ?_)) (fun z => ⟨pk_in (v * 16 + sl_rm s i) 64 (by omega) (sl_ix v _), nm_e (nm_r (nI_1 i) (hw _ ?_))⟩)
      · show y.toInt = sl_k x v (sl_in g s (i + 1))
        rw [em, km.1 z]
        exact hy
      · show _ = sl_k x v (sl_in g s (i + 1))
        rw [em, km.2 z]
        exact e7
theorem sl_fill {post : St2 → Prop} {x : Nat → Nat} {m v : Nat} {F R X : Nat → Nat} {f0 : Int32} {a1 a2 a3 a4 a5 a6 a7 a8 a9 : Nat → Int32} (hS : sl_S x a1) (h : sl_R m F R X f0 a2 a3 a4 a5 a6) (hv : v < 4)
    (H : ∀ a : Nat → Int32, (∀ s, s < 16 → (a (v * 16 + s)).toInt = sl_k x v (sl_W m F R X v s)) → (∀ j, j < v * 16 → a j = a7 j) → post (f0, a1, a2, a3, a4, a5, a6, a, a8, a9)) :
    wpX_fillWithin post (f0, a1, a2, a3, a4, a5, a6, a7, a8, a9) (nI v) := by
  obtain ⟨hx1, hx2, hsc⟩ := hS v hv
  refine pk_loop (fun n i a => wX_fillWithin_2 post (nI v) f0 n (nI i) a1 a2 a3 a4 a5 a6 a a8 a9) (fun i a => (∀ s, s < i → (a (v * 16 + s)).toInt = sl_k x v (sl_W m F R X v s)) ∧ (∀ j, j < v * 16 → a j = a7 j)) 16 0 a7 (by omega) ⟨fun s hs => absurd hs (by omega), fun _ _ => rfl⟩ ?_ ?_
  · intro n a ha
    exact pk_le 16 16 (fun _ => H a ha.1 ha.2) (fun z => absurd z (by omega))
  · intro n i a hi ha hw
    have hg := sl_g_le m (F v) (R v) (X v) v
    have next : ∀ y : Int32, y.toInt = sl_k x v (sl_w (sl_g m (F v) (R v) (X v) v) i) → wX_fillWithin_2 post (nI v) f0 n (nI (i + 1)) a1 a2 a3 a4 a5 a6 (upd a (v * 16 + i) y) a8 a9 := by
      intro y hy
      refine hw _ ⟨fun s hs => ?_, fun j hj => ?_⟩
      · by_cases e : s = i
        · rw [e, pk_us]
          exact hy
        · rw [pk_un (by omega)]
          exact ha.1 s (by omega)
      · rw [pk_un (by omega)]
        exact ha.2 j hj
    refine pk_le 16 i (fun z => absurd z (by omega)) (fun _ => sl_allowed h hv hi (fun z => br_f (by decide) ⟨pk_in (v * 16 + i) 64 (by omega) (sl_ix v i), nm_e ?_⟩) (fun z => br_t rfl ?_))
    · refine sl_40 hv hi hx1 hg ?_ ha.1 next
      rw [pk_cl (v * 16 + i) (sl_ix v i), hsc i hi]
      unfold sl_g sl_k
      rw [if_pos z]
      by_cases e : i = sl_key v
      · rw [if_pos e, if_pos e]; rfl
      · rw [if_neg e, if_neg e]; rfl
    · refine sl_40 hv hi hx1 hg ?_ ha.1 next
      rw [sl_m1]
      unfold sl_g sl_k
      rw [if_neg z]
      rfl
end
section
/-! tryLast, solve: after it the place 15 of 'bestOf' is the greatest worth of the orders, the place 15 of 'ways' says how many orders are worth it -/
/-- a list with another one put behind -/
theorem sl_join {x : Nat → Nat} (l k : List Nat) :
    (sl_b x k < sl_b x l → sl_b x (l ++ k) = sl_b x l ∧ sl_ct x (sl_b x (l ++ k)) (l ++ k) = sl_ct x (sl_b x l) l) ∧
    (sl_b x k = sl_b x l → sl_b x (l ++ k) = sl_b x l ∧ sl_ct x (sl_b x (l ++ k)) (l ++ k) = sl_ct x (sl_b x l) l + sl_ct x (sl_b x k) k) ∧
    (sl_b x l < sl_b x k → sl_b x (l ++ k) = sl_b x k ∧ sl_ct x (sl_b x (l ++ k)) (l ++ k) = sl_ct x (sl_b x k) k) := by
  rw [sl_b_app, sl_ct_app]
  refine ⟨fun z => ?_, fun z => ?_, fun z => ?_⟩
  · rw [show max (sl_b x l) (sl_b x k) = sl_b x l by omega, sl_ct_gt k z]
    exact ⟨rfl, rfl⟩
  · rw [show max (sl_b x l) (sl_b x k) = sl_b x l by omega, z]
    exact ⟨rfl, rfl⟩
  · rw [show max (sl_b x l) (sl_b x k) = sl_b x k by omega, sl_ct_gt l z]
    exact ⟨rfl, by omega⟩
/-- the place s of the two tables stands for the list l -/
def sl_ok (x : Nat → Nat) (b c : Nat → Int32) (s : Nat) (l : List Nat) : Prop := (b s).toInt = sl_b x l ∧ (c s).toInt = (sl_ct x (sl_b x l) l : Nat)
theorem sl_try {post : St2 → Prop} {x : Nat → Nat} {s v o : Nat} {l k : List Nat} {f0 : Int32} {a1 a2 a3 a4 a5 a6 a7 a8 a9 : Nat → Int32} (hx : ∀ w, w < 4 → x w ≤ 200) (hs : s < 16) (hv : v < 4) (hb : s / 2 ^ v % 2 = 1) (hx1 : 1 ≤ x v)
    (h7 : (a7 (v * 16 + sl_rm s v)).toInt = sl_k x v o) (hl : sl_ok x a8 a9 s l) (hk : sl_ok x a8 a9 (sl_rm s v) k) (nl : l.length ≤ 1024) (nk : k.length ≤ 1024)
    (ha : ∀ m, m ∈ k → sl_sn x (m + 2 ^ v) = sl_sn x m + x v)
    (H : ∀ b c : Nat → Int32, sl_ok x b c s (l ++ sl_ext o v k) → (∀ j, j ≠ s → b j = a8 j ∧ c j = a9 j) → post (f0, a1, a2, a3, a4, a5, a6, a7, b, c)) :
    wpX_tryLast post (f0, a1, a2, a3, a4, a5, a6, a7, a8, a9) (nI s) (nI v) := by
  obtain ⟨hl8, hl9⟩ := hl
  obtain ⟨hk8, hk9⟩ := hk
  obtain ⟨_, hq, hqs⟩ := sl_f3 s hs v hv hb
  have cs : (nI s).toNatClampNeg = s := nI_clamp (by omega)
  have cq : (nI (sl_rm s v)).toNatClampNeg = sl_rm s v := nI_clamp (by omega)
  have e7 : (a7 ((nI v * 16) + nI (sl_rm s v)).toNatClampNeg).toInt = sl_k x v o := by
    rw [pk_cl (v * 16 + sl_rm s v) (sl_ix v _)]
    exact h7
  have e8 : (a8 (nI (sl_rm s v)).toNatClampNeg).toInt = sl_b x k := by rw [cq]; exact hk8
  have e9 : (a9 (nI (sl_rm s v)).toNatClampNeg).toInt = (sl_ct x (sl_b x k) k : Nat) := by rw [cq]; exact hk9
  have s8 : (a8 (nI s).toNatClampNeg).toInt = sl_b x l := by rw [cs]; exact hl8
  have bk1 := sl_b_lo (x := x) k
  have bk2 := sl_b_hi hx k
  have ck := sl_ct_len (x := x) (B := sl_b x k) k
  have cl := sl_ct_len (x := x) (B := sl_b x l) l
  have xv := hx v hv
  refine nm_r (sl_cl s hs v hv) ⟨pk_in (v * 16 + sl_rm s v) 64 (by omega) (sl_ix v _), nm_e ?_⟩
  have ko : sl_k x v o = -100000 ↔ o = 0 := by
    unfold sl_k
    by_cases z : o = 0
    · rw [if_pos z]; exact ⟨fun _ => z, fun _ => rfl⟩
    · rw [if_neg z]
      by_cases z1 : o = 1
      · rw [if_pos z1]; exact ⟨fun t => absurd t (by decide), fun t => absurd t z⟩
      · rw [if_neg z1]; exact ⟨fun t => absurd t (by omega), fun t => absurd t z⟩
  refine ek_if ((sl_eq e7 sl_m1).trans ko) (fun z => ?_) (fun zo => ⟨pk_in (sl_rm s v) 16 hq, ?_⟩)
  · refine H a8 a9 ?_ (fun j _ => ⟨rfl, rfl⟩)
    have e : sl_ext o v k = [] := if_pos z
    rw [e, List.append_nil]
    exact ⟨hl8, hl9⟩
  have kb : sl_b x k = -100000 ↔ k = [] := by
    constructor
    · intro t
      exact Decidable.byContradiction (fun n => absurd (sl_b_pos (x := x) k n) (by omega))
    · intro t
      rw [t]
      rfl
  refine ek_if ((sl_eq e8 sl_m1).trans kb) (fun z => ?_) (fun zk => ⟨pk_in (sl_rm s v) 16 hq, nm_e ⟨pk_in s 16 hs, ?_⟩⟩)
  · refine H a8 a9 ?_ (fun j _ => ⟨rfl, rfl⟩)
    rw [z, sl_ext_nil, List.append_nil]
    exact ⟨hl8, hl9⟩
  obtain ⟨eb, ec⟩ := sl_b_ext (x := x) zo zk ha
  have kk : 0 ≤ sl_k x v o ∧ sl_k x v o ≤ 200 := by
    unfold sl_k
    rw [if_neg zo]
    split <;> omega
  have ew : (a8 (nI (sl_rm s v)).toNatClampNeg + a7 ((nI v * 16) + nI (sl_rm s v)).toNatClampNeg).toInt = sl_b x (sl_ext o v k) := by
    rw [sl_add (by rw [e8, e7]; omega) (by rw [e8, e7]; omega), e8, e7, eb]
  obtain ⟨j1, j2, j3⟩ := sl_join (x := x) l (sl_ext o v k)
  have un : ∀ (f : Nat → Int32) (y : Int32) (j : Nat), j ≠ s → upd f (nI s).toNatClampNeg y j = f j := fun f y j hj => by rw [cs, pk_un hj]
  have us : ∀ (f : Nat → Int32) (y : Int32), upd f (nI s).toNatClampNeg y s = y := fun f y => by rw [cs, pk_us]
  refine ek_if (sl_le ew s8) (fun z => ⟨pk_in s 16 hs, ?_⟩) (fun z => ⟨pk_in s 16 hs, nm_e ⟨pk_in s 16 hs, nm_e ⟨pk_in s 16 hs, ?_⟩⟩⟩)
  · refine ek_if (sl_eq ew s8) (fun z2 => ⟨pk_in s 16 hs, pk_in (sl_rm s v) 16 hq, pk_in s 16 hs, nm_e ?_⟩) (fun z2 => ?_)
    · refine H _ _ ⟨?_, ?_⟩ (fun j hj => ⟨rfl, un _ _ _ hj⟩)
      · rw [(j2 z2).1]; exact hl8
      · rw [(j2 z2).2, us, sl_add (by rw [e9, cs, hl9]; omega) (by rw [e9, cs, hl9]; omega), e9, cs, hl9, ec]
        omega
    · have z3 : sl_b x (sl_ext o v k) < sl_b x l := by omega
      refine H _ _ ⟨?_, ?_⟩ (fun j hj => ⟨rfl, rfl⟩)
      · rw [(j1 z3).1]; exact hl8
      · rw [(j1 z3).2]; exact hl9
  · have z3 : sl_b x l < sl_b x (sl_ext o v k) := by omega
    have cq' : (nI (sl_rm s v)).toNatClampNeg ≠ s := by rw [cq]; omega
    refine br_t ?_ ⟨pk_in s 16 hs, pk_in (sl_rm s v) 16 hq, pk_in s 16 hs, nm_e ?_⟩
    · rw [cs, pk_us]
    · refine H _ _ ⟨?_, ?_⟩ (fun j hj => ⟨un _ _ _ hj, ?_⟩)
      · rw [(j3 z3).1, us]; exact ew
      · rw [(j3 z3).2, us, un _ _ _ cq', cs, pk_us, Int32.zero_add, e9, ec]
      · rw [un _ _ _ hj, un _ _ _ hj]
end
section
/-! solve -/
/-- a place of the tables under W -/
def sl_T (x : Nat → Nat) (W : Nat → Nat → Nat) (b c : Nat → Int32) (s : Nat) : Prop := sl_ok x b c s (sl_L W (sl_szk s 4) s)
theorem sl_f6 : ∀ s, s < 16 → s ≠ 0 → ∃ n, sl_szk s 4 = n + 1 ∧ n ≤ 3 := by
  intro s hs h0
  have t : ∀ s, s < 16 → s ≠ 0 → 1 ≤ sl_szk s 4 ∧ sl_szk s 4 ≤ 4 := by decide +kernel
  have t := t s hs h0
  exact ⟨sl_szk s 4 - 1, by omega, by omega⟩
theorem sl_Llen {W : Nat → Nat → Nat} {q : Nat} (hq : q < 16) : (sl_L W (sl_szk q 4) q).length ≤ 1024 := by
  have a := sl_L_len (W := W) (sl_szk q 4) q
  have b : 4 ^ sl_szk q 4 ≤ 4 ^ 4 := Nat.pow_le_pow_right (by decide) (sl_szle q hq)
  omega
theorem sl_acclen {W : Nat → Nat → Nat} {s n i : Nat} (hn : n ≤ 3) (hi : i ≤ 4) : (sl_acc W (sl_L W n) s i).length ≤ 1024 := by
  have a := sl_acc_len (W := W) (s := s) (sl_L_len (W := W) n) i
  have b : 4 ^ n ≤ 4 ^ 3 := Nat.pow_le_pow_right (by decide) hn
  have c : i * 4 ^ n ≤ 4 * 4 ^ 3 := Nat.mul_le_mul hi b
  omega
theorem sl_57 {post : St2 → Prop} {J34 : Int32 → Int32 → (Nat → Int32) → (Nat → Int32) → (Nat → Int32) → (Nat → Int32) → (Nat → Int32) → (Nat → Int32) → (Nat → Int32) → (Nat → Int32) → (Nat → Int32) → Prop}
    {x : Nat → Nat} {W : Nat → Nat → Nat} {s : Nat} {f0 : Int32} {a1 a2 a3 a4 a5 a6 a7 b c : Nat → Int32} (hx : ∀ w, w < 4 → 1 ≤ x w ∧ x w ≤ 200) (hs : s < 16) (h0 : s ≠ 0)
    (h7 : ∀ v, v < 4 → ∀ q, q < 16 → (a7 (v * 16 + q)).toInt = sl_k x v (W v q)) (hT : ∀ q, q < s → sl_T x W b c q) (he : sl_ok x b c s [])
    (H : ∀ b' c' : Nat → Int32, (∀ q, q < s + 1 → sl_T x W b' c' q) → J34 (nI (s + 1)) f0 a1 a2 a3 a4 a5 a6 a7 b' c') :
    ∃ n, wX_solve_57 post J34 (nI s) n 0 f0 a1 a2 a3 a4 a5 a6 a7 b c := by
  obtain ⟨z, hz, hz3⟩ := sl_f6 s hs h0
  refine pk_loop (σ := (Nat → Int32) × (Nat → Int32)) (fun n i u => wX_solve_57 post J34 (nI s) n (nI i) f0 a1 a2 a3 a4 a5 a6 a7 u.1 u.2) (fun i u => sl_ok x u.1 u.2 s (sl_acc W (sl_L W z) s i) ∧ ∀ q, q < s → sl_T x W u.1 u.2 q) 4 0 (b, c) (by omega) ⟨he, hT⟩ ?_ ?_
  · intro n u hu
    refine pk_le 4 4 (fun _ => nm_r (nI_1 s) (H u.1 u.2 (fun q hq => ?_))) (fun t => absurd t (by omega))
    by_cases e : q = s
    · rw [e]
      unfold sl_T
      rw [hz]
      exact hu.1
    · exact hu.2 q (by omega)
  · intro n i u hi hu hw
    have es : ∀ (b1 : s / 2 ^ i % 2 = 1), sl_acc W (sl_L W z) s (i + 1) = sl_acc W (sl_L W z) s i ++ sl_ext (W i (sl_rm s i)) i (sl_L W z (sl_rm s i)) := fun b1 => if_pos b1
    have en : ∀ (b1 : ¬ s / 2 ^ i % 2 = 1), sl_acc W (sl_L W z) s (i + 1) = sl_acc W (sl_L W z) s i := fun b1 => if_neg b1
    refine pk_le 4 i (fun t => absurd t (by omega)) (fun _ => ?_)
    refine pk_eq (s / 2 ^ i % 2) 1 (fun b1 => ?_) (fun b1 => nm_r (nI_1 i) (hw u ?_)) (sl_bit s hs i hi)
    · obtain ⟨f1, f2, f3⟩ := sl_f3 s hs i hi b1
      have ez : sl_szk (sl_rm s i) 4 = z := by omega
      have hk : sl_ok x u.1 u.2 (sl_rm s i) (sl_L W z (sl_rm s i)) := by
        have t := hu.2 (sl_rm s i) f3
        unfold sl_T at t
        rw [ez] at t
        exact t
      have hkl : (sl_L W z (sl_rm s i)).length ≤ 1024 := by
        have t := sl_Llen (W := W) f2
        rw [ez] at t
        exact t
      have hka : ∀ m, m ∈ sl_L W z (sl_rm s i) → sl_sn x (m + 2 ^ i) = sl_sn x m + x i := by
        have t := sl_L_add (W := W) (x := x) hs hi b1
        rw [ez] at t
        exact t
      refine sl_try (fun w hw' => (hx w hw').2) hs hi b1 (hx i hi).1 (h7 i hi _ f2) hu.1 hk (sl_acclen hz3 (by omega)) hkl hka (fun b' c' hok hne => nm_r (nI_1 i) (hw (b', c') ⟨?_, fun q hq => ?_⟩))
      · show sl_ok x b' c' s (sl_acc W (sl_L W z) s (i + 1))
        rw [es b1]
        exact hok
      · have t := hu.2 q hq
        obtain ⟨e1, e2⟩ := hne q (by omega)
        show sl_ok x b' c' q _
        unfold sl_ok
        rw [e1, e2]
        exact t
    · refine ⟨?_, hu.2⟩
      show sl_ok x u.1 u.2 s (sl_acc W (sl_L W z) s (i + 1))
      rw [en b1]
      exact hu.1
theorem sl_34 {post : St2 → Prop} {x : Nat → Nat} {W : Nat → Nat → Nat} {f0 : Int32} {a1 a2 a3 a4 a5 a6 a7 b c : Nat → Int32} (hx : ∀ w, w < 4 → 1 ≤ x w ∧ x w ≤ 200)
    (h7 : ∀ v, v < 4 → ∀ q, q < 16 → (a7 (v * 16 + q)).toInt = sl_k x v (W v q)) (hT : sl_T x W b c 0)
    (H : ∀ b' c' : Nat → Int32, sl_T x W b' c' 15 → post (f0, a1, a2, a3, a4, a5, a6, a7, b', c')) :
    ∃ n, wX_solve_34 post n 1 f0 a1 a2 a3 a4 a5 a6 a7 b c := by
  refine pk_loop (σ := (Nat → Int32) × (Nat → Int32)) (fun n i u => wX_solve_34 post n (nI i) f0 a1 a2 a3 a4 a5 a6 a7 u.1 u.2) (fun i u => 1 ≤ i ∧ ∀ q, q < i → sl_T x W u.1 u.2 q) 16 1 (b, c) (by omega) ⟨Nat.le_refl _, fun q hq => ?_⟩ ?_ ?_
  · rw [show q = 0 by omega]
    exact hT
  · intro n u hu
    exact pk_le 16 16 (fun _ => H u.1 u.2 (hu.2 15 (by omega))) (fun t => absurd t (by omega))
  · intro n i u hi hu hw
    have cs : (nI i).toNatClampNeg = i := nI_clamp (by omega)
    refine pk_le 16 i (fun t => absurd t (by omega)) (fun _ => ⟨pk_in i 16 hi, nm_r (sl_us cs) ⟨pk_in i 16 hi, nm_r (sl_us cs) ?_⟩⟩)
    refine sl_57 hx hi (by omega) h7 (fun q hq => ?_) ⟨?_, ?_⟩ (fun b' c' h => hw (b', c') ⟨by omega, h⟩)
    · have t := hu.2 q hq
      unfold sl_T sl_ok
      rw [pk_un (by omega), pk_un (by omega)]
      exact t
    · rw [pk_us]
      exact sl_m1
    · rw [pk_us]
      exact sl_0t
theorem sl_solve {post : St2 → Prop} {x : Nat → Nat} {m : Nat} {F R X : Nat → Nat} {f0 : Int32} {a1 a2 a3 a4 a5 a6 a7 a8 a9 : Nat → Int32} (hS : sl_S x a1) (h : sl_R m F R X f0 a2 a3 a4 a5 a6)
    (H : ∀ a b c : Nat → Int32, sl_ok x b c 15 (sl_LL m F R X) → post (f0, a1, a2, a3, a4, a5, a6, a, b, c)) :
    wpX_solve post (f0, a1, a2, a3, a4, a5, a6, a7, a8, a9) := by
  refine pk_loop (fun n i a => wX_solve_2 post n (nI i) f0 a1 a2 a3 a4 a5 a6 a a8 a9) (fun i a => ∀ v, v < i → ∀ q, q < 16 → (a (v * 16 + q)).toInt = sl_k x v (sl_W m F R X v q)) 4 0 a7 (by omega) (fun v hv => absurd hv (by omega)) ?_ ?_
  · intro n a ha
    refine pk_le 4 4 (fun _ => nm_e (nm_e ?_)) (fun t => absurd t (by omega))
    refine sl_34 (x := x) (W := sl_W m F R X) (fun w hw => ⟨(hS w hw).1, (hS w hw).2.1⟩) ha ⟨?_, ?_⟩ (fun b' c' t => H a b' c' t)
    · rw [pk_us]
      show (0 : Int32).toInt = max ((sl_sn x 0 : Nat) : Int) (-100000)
      have e : sl_sn x 0 = 0 := by simp [sl_sn]
      rw [e]
      decide
    · rw [pk_us]
      show (1 : Int32).toInt = ((sl_ct x (max ((sl_sn x 0 : Nat) : Int) (-100000)) [0] : Nat) : Int)
      have e : sl_sn x 0 = 0 := by simp [sl_sn]
      show (1 : Int32).toInt = (((if (sl_sn x 0 : Int) = max ((sl_sn x 0 : Nat) : Int) (-100000) then 1 else 0) + 0 : Nat) : Int)
      rw [e]
      decide
  · intro n i a hi ha hw
    refine pk_le 4 i (fun t => absurd t (by omega)) (fun _ => ?_)
    refine sl_fill hS h hi (fun a' h1 h2 => nm_r (nI_1 i) (hw a' (fun v hv q hq => ?_)))
    by_cases e : v = i
    · rw [e]
      exact h1 q hq
    · rw [h2 _ (by omega)]
      exact ha v (by omega) q hq
end
section
/-! noDemands, best, bestWith, bestWithout, orders -/
/-- no demands stand -/
def sl_N (b4 b5 b6 : Nat → Int32) : Prop := ∀ v, v < 4 → b4 v = -1 ∧ b5 v = 0 ∧ b6 v = 0
theorem sl_nod {post : St2 → Prop} {f0 : Int32} {a1 a2 a3 a4 a5 a6 a7 a8 a9 : Nat → Int32}
    (H : ∀ b4 b5 b6 : Nat → Int32, sl_N b4 b5 b6 → post (f0, a1, a2, a3, b4, b5, b6, a7, a8, a9)) :
    wpX_noDemands post (f0, a1, a2, a3, a4, a5, a6, a7, a8, a9) := by
  refine pk_loop (σ := (Nat → Int32) × (Nat → Int32) × (Nat → Int32)) (fun n i u => wX_noDemands_2 post f0 n (nI i) a1 a2 a3 u.1 u.2.1 u.2.2 a7 a8 a9) (fun i u => ∀ v, v < i → u.1 v = -1 ∧ u.2.1 v = 0 ∧ u.2.2 v = 0) 4 0 (a4, a5, a6) (by omega) (fun v hv => absurd hv (by omega)) ?_ ?_
  · intro n u hu
    exact pk_le 4 4 (fun _ => H u.1 u.2.1 u.2.2 hu) (fun t => absurd t (by omega))
  · intro n i u hi hu hw
    have ci : (nI i).toNatClampNeg = i := nI_clamp (by omega)
    have nx : ∀ v, v < i + 1 → upd u.1 i (-1) v = -1 ∧ upd u.2.1 i 0 v = 0 ∧ upd u.2.2 i 0 v = 0 := by
      intro v hv
      by_cases e : v = i
      · rw [e]
        exact ⟨pk_us, pk_us, pk_us⟩
      · have t := hu v (by omega)
        rw [pk_un e, pk_un e, pk_un e]
        exact t
    exact pk_le 4 i (fun t => absurd t (by omega)) (fun _ => ⟨pk_in i 4 hi, nm_r (sl_us ci) ⟨pk_in i 4 hi, nm_r (sl_us ci) ⟨pk_in i 4 hi, nm_r (sl_us ci) (nm_r (nI_1 i) (hw (upd u.1 i (-1), upd u.2.1 i 0, upd u.2.2 i 0) nx))⟩⟩⟩)
/-- the object between two questions: the limit, what is forbidden, what is required -/
def sl_A (m : Nat) (f r : Nat → Nat) (f0 : Int32) (a2 a3 : Nat → Int32) : Prop := f0 = nI m ∧ m ≤ 3 ∧ ∀ v, v < 4 → f v < 16 ∧ r v < 16 ∧ a2 v = nI (f v) ∧ a3 v = nI (r v)
/-- nothing fixed -/
def sl_X0 (_ : Nat) : Nat := 16
theorem sl_or0 {p : Nat} (hp : p < 16) : nI p ||| 0 = nI p := by
  have t := sl_or p hp 0 (by decide)
  rw [Nat.or_zero] at t
  exact t
theorem sl_RA {m : Nat} {f r : Nat → Nat} {f0 : Int32} {a2 a3 b4 b5 b6 : Nat → Int32} (h : sl_A m f r f0 a2 a3) (n : sl_N b4 b5 b6) : sl_R m f r sl_X0 f0 a2 a3 b4 b5 b6 := by
  refine ⟨h.1, h.2.1, fun v hv => ?_⟩
  obtain ⟨h1, h2, h3, h4⟩ := h.2.2 v hv
  obtain ⟨n1, n2, n3⟩ := n v hv
  refine ⟨h1, h2, ?_, ?_, Or.inl ⟨rfl, n1⟩⟩
  · rw [h3, n3, sl_or0 h1]
  · rw [h4, n2, sl_or0 h2]
theorem sl_best {post : Int32 → St2 → Prop} {x : Nat → Nat} {m : Nat} {f r : Nat → Nat} {f0 : Int32} {a1 a2 a3 a4 a5 a6 a7 a8 a9 : Nat → Int32} (hS : sl_S x a1) (h : sl_A m f r f0 a2 a3)
    (H : ∀ (y : Int32) (b4 b5 b6 b7 b8 b9 : Nat → Int32), sl_N b4 b5 b6 → y.toInt = sl_b x (sl_LL m f r sl_X0) → post y (f0, a1, a2, a3, b4, b5, b6, b7, b8, b9)) :
    wpX_best post (f0, a1, a2, a3, a4, a5, a6, a7, a8, a9) := by
  unfold wpX_best
  exact sl_nod (fun b4 b5 b6 n => sl_solve hS (sl_RA h n) (fun a b c ok => H _ b4 b5 b6 a b c n ok.1))
theorem sl_orders {post : Int32 → St2 → Prop} {x : Nat → Nat} {m : Nat} {f r : Nat → Nat} {f0 : Int32} {a1 a2 a3 a4 a5 a6 a7 a8 a9 : Nat → Int32} (hS : sl_S x a1) (h : sl_A m f r f0 a2 a3)
    (H0 : sl_b x (sl_LL m f r sl_X0) = -100000 → ∀ (b4 b5 b6 b7 b8 b9 : Nat → Int32), post 0 (f0, a1, a2, a3, b4, b5, b6, b7, b8, b9))
    (H : sl_b x (sl_LL m f r sl_X0) ≠ -100000 → ∀ (y : Int32) (b4 b5 b6 b7 b8 b9 : Nat → Int32), y.toInt = (sl_ct x (sl_b x (sl_LL m f r sl_X0)) (sl_LL m f r sl_X0) : Nat) → post y (f0, a1, a2, a3, b4, b5, b6, b7, b8, b9)) :
    wpX_orders post (f0, a1, a2, a3, a4, a5, a6, a7, a8, a9) := by
  unfold wpX_orders
  exact sl_nod (fun b4 b5 b6 n => sl_solve hS (sl_RA h n) (fun a b c ok => ek_if (sl_eq ok.1 sl_m1) (fun z => H0 z b4 b5 b6 a b c) (fun z => H z _ b4 b5 b6 a b c ok.2)))
theorem sl_bestWith {post : Int32 → St2 → Prop} {x : Nat → Nat} {m u v : Nat} {f r R : Nat → Nat} {f0 : Int32} {a1 a2 a3 a4 a5 a6 a7 a8 a9 : Nat → Int32} (hS : sl_S x a1) (h : sl_A m f r f0 a2 a3)
    (hu : u < 4) (hv : v < 4) (huv : u ≠ v) (hR : ∀ w, w < 4 → R w < 16 ∧ R w = r w ||| (if w = v then 2 ^ u else 0))
    (H : ∀ (y : Int32) (b4 b5 b6 b7 b8 b9 : Nat → Int32), y.toInt = sl_b x (sl_LL m f R sl_X0) → post y (f0, a1, a2, a3, b4, b5, b6, b7, b8, b9)) :
    wpX_bestWith post (f0, a1, a2, a3, a4, a5, a6, a7, a8, a9) (nI u) (nI v) := by
  unfold wpX_bestWith
  refine sl_bad hu (br_t rfl (sl_bad hv (br_t rfl (pk_eq u v (fun z => absurd z huv) (fun _ => sl_nod (fun b4 b5 b6 n => ⟨pk_in v 4 hv, nm_r (sl_us (nI_clamp (by omega))) (sl_solve (F := f) (R := R) (X := sl_X0) hS ?_ (fun a b c ok => H _ b4 _ b6 a b c ok.1))⟩))))))
  have t := sl_RA h n
  refine ⟨t.1, t.2.1, fun w hw => ?_⟩
  obtain ⟨t1, t2, t3, t4, t5⟩ := t.2.2 w hw
  obtain ⟨r1, r2⟩ := hR w hw
  refine ⟨t1, r1, t3, ?_, t5⟩
  have p2 : ∀ u, u < 4 → 2 ^ u < 16 := by decide
  by_cases e : w = v
  · rw [if_pos e] at r2
    rw [r2, e, pk_us, (h.2.2 v hv).2.2.2, sl_shl u hu]
    exact sl_or _ (h.2.2 v hv).2.1 _ (p2 u hu)
  · rw [if_neg e, Nat.or_zero] at r2
    rw [pk_un e, t4, r2]
theorem sl_bestWithout {post : Int32 → St2 → Prop} {x : Nat → Nat} {m u v : Nat} {f r F : Nat → Nat} {f0 : Int32} {a1 a2 a3 a4 a5 a6 a7 a8 a9 : Nat → Int32} (hS : sl_S x a1) (h : sl_A m f r f0 a2 a3)
    (hu : u < 4) (hv : v < 4) (huv : u ≠ v) (hF : ∀ w, w < 4 → F w < 16 ∧ F w = f w ||| (if w = v then 2 ^ u else 0))
    (H : ∀ (y : Int32) (b4 b5 b6 b7 b8 b9 : Nat → Int32), y.toInt = sl_b x (sl_LL m F r sl_X0) → post y (f0, a1, a2, a3, b4, b5, b6, b7, b8, b9)) :
    wpX_bestWithout post (f0, a1, a2, a3, a4, a5, a6, a7, a8, a9) (nI u) (nI v) := by
  unfold wpX_bestWithout
  refine sl_bad hu (br_t rfl (sl_bad hv (br_t rfl (pk_eq u v (fun z => absurd z huv) (fun _ => sl_nod (fun b4 b5 b6 n => ⟨pk_in v 4 hv, nm_r (sl_us (nI_clamp (by omega))) (sl_solve (F := F) (R := r) (X := sl_X0) hS ?_ (fun a b c ok => H _ b4 b5 _ a b c ok.1))⟩))))))
  have t := sl_RA h n
  refine ⟨t.1, t.2.1, fun w hw => ?_⟩
  obtain ⟨t1, t2, t3, t4, t5⟩ := t.2.2 w hw
  obtain ⟨r1, r2⟩ := hF w hw
  refine ⟨r1, t2, ?_, t4, t5⟩
  have p2 : ∀ u, u < 4 → 2 ^ u < 16 := by decide
  by_cases e : w = v
  · rw [if_pos e] at r2
    rw [r2, e, pk_us, (h.2.2 v hv).2.2.1, sl_shl u hu]
    exact sl_or _ (h.2.2 v hv).1 _ (p2 u hu)
  · rw [if_neg e, Nat.or_zero] at r2
    rw [pk_un e, t3, r2]
end
section
/-! findFirst, parents, edges -/
/-- the variables below v fixed to t, v to p -/
def sl_X (t : Nat → Nat) (v p w : Nat) : Nat := if w < v then t w else if w = v then p else 16
/-- what findFirst finds: for each variable the first parents with which B can still be had -/
def sl_F (x : Nat → Nat) (m : Nat) (f r t : Nat → Nat) (B : Int) : Prop :=
  ∀ v, v < 4 → t v < 16 ∧ (∀ p, p < t v → sl_b x (sl_LL m f r (sl_X t v p)) ≠ B) ∧ sl_b x (sl_LL m f r (sl_X t v (t v))) = B
/-- the variables below v are fixed to t, none else -/
def sl_P (t : Nat → Nat) (v : Nat) (b4 : Nat → Int32) : Prop := ∀ w, w < 4 → (w < v → b4 w = nI (t w)) ∧ (v < w → b4 w = -1)
theorem sl_25 {post : Int32 → St2 → Prop} {J15 : Int32 → Int32 → (Nat → Int32) → (Nat → Int32) → (Nat → Int32) → (Nat → Int32) → (Nat → Int32) → (Nat → Int32) → (Nat → Int32) → (Nat → Int32) → (Nat → Int32) → Prop}
    {x : Nat → Nat} {m v : Nat} {f r t : Nat → Nat} {B : Int} {x1 f0 : Int32} {a1 a2 a3 a4 a5 a6 a7 a8 a9 : Nat → Int32} (hS : sl_S x a1) (h : sl_A m f r f0 a2 a3) (h56 : ∀ w, w < 4 → a5 w = 0 ∧ a6 w = 0)
    (hB : x1.toInt = B) (hF : sl_F x m f r t B) (hv : v < 4) (hP : sl_P t v a4)
    (H : ∀ b4 b7 b8 b9 : Nat → Int32, sl_P t v b4 → b4 v = nI (t v) → J15 (nI (v + 1)) f0 a1 a2 a3 b4 a5 a6 b7 b8 b9) :
    ∃ n, wX_findFirst_25 post J15 x1 (nI v) n 0 0 f0 a1 a2 a3 a4 a5 a6 a7 a8 a9 := by
  obtain ⟨ht, hlo, hat⟩ := hF v hv
  have cv : (nI v).toNatClampNeg = v := nI_clamp (by omega)
  have key := pk_loop (σ := (Nat → Int32) × (Nat → Int32) × (Nat → Int32) × (Nat → Int32)) (fun n i u => wX_findFirst_25 post J15 x1 (nI v) n (nI (i - t v)) (nI i) f0 a1 a2 a3 u.1 a5 a6 u.2.1 u.2.2.1 u.2.2.2)
    (fun i u => sl_P t v u.1 ∧ (i = t v + 1 → u.1 v = nI (t v))) (t v + 1) 0 (a4, a7, a8, a9) (by omega) ⟨hP, fun z => absurd z (by omega)⟩ ?_ ?_
  · obtain ⟨n, hn⟩ := key
    have hn' : wX_findFirst_25 post J15 x1 (nI v) n (nI (0 - t v)) (nI 0) f0 a1 a2 a3 a4 a5 a6 a7 a8 a9 := hn
    rw [Nat.zero_sub] at hn'
    exact ⟨n, hn'⟩
  · intro n u hu
    refine pk_le 16 (t v + 1) (fun _ => nm_r (nI_1 v) (H _ _ _ _ hu.1 (hu.2 rfl))) (fun _ => ?_)
    exact pk_eq (t v + 1 - t v) 0 (fun z => absurd z (by omega)) (fun _ => nm_r (nI_1 v) (H _ _ _ _ hu.1 (hu.2 rfl)))
  · intro n i u hi hu hw
    refine pk_le 16 i (fun z => absurd z (by omega)) (fun _ => ?_)
    refine pk_eq (i - t v) 0 (fun _ => ⟨pk_in v 4 hv, nm_r (sl_us cv) ?_⟩) (fun z => absurd z (by omega))
    have hP' : sl_P t v (upd u.1 v (nI i)) := by
      intro w hw'
      have q := hu.1 w hw'
      refine ⟨fun z => ?_, fun z => ?_⟩
      · rw [pk_un (by omega)]; exact q.1 z
      · rw [pk_un (by omega)]; exact q.2 z
    have hR : sl_R m f r (sl_X t v i) f0 a2 a3 (upd u.1 v (nI i)) a5 a6 := by
      refine ⟨h.1, h.2.1, fun w hw' => ?_⟩
      obtain ⟨q1, q2, q3, q4⟩ := h.2.2 w hw'
      obtain ⟨n5, n6⟩ := h56 w hw'
      refine ⟨q1, q2, by rw [q3, n6, sl_or0 q1], by rw [q4, n5, sl_or0 q2], ?_⟩
      have q := hu.1 w hw'
      by_cases e : w = v
      · right
        have e' : sl_X t v i w = i := by
          unfold sl_X
          rw [if_neg (by omega), if_pos e]
        rw [e', e, pk_us]
        exact ⟨by omega, rfl⟩
      · by_cases e2 : w < v
        · right
          have e' : sl_X t v i w = t w := if_pos e2
          rw [e', pk_un e]
          exact ⟨(hF w hw').1, q.1 e2⟩
        · left
          have e' : sl_X t v i w = 16 := by
            unfold sl_X
            rw [if_neg e2, if_neg e]
          rw [e', pk_un e]
          exact ⟨rfl, q.2 (by omega)⟩
    refine sl_solve hS hR (fun a b c ok => ?_)
    have eB : b 15 = x1 ↔ i = t v := by
      rw [sl_eq ok.1 hB]
      constructor
      · intro z
        by_cases e : i = t v
        · exact e
        · exact absurd z (hlo i (by omega))
      · intro z
        rw [z]
        exact hat
    have go := hw (upd u.1 v (nI i), a, b, c) ⟨hP', fun z => by show upd u.1 v (nI i) v = _; rw [pk_us, show i = t v by omega]⟩
    refine ek_if eB (fun z => nm_r (nI_1 i) ?_) (fun z => nm_r (nI_1 i) ?_)
    · have go' : wX_findFirst_25 post J15 x1 (nI v) n (nI (i + 1 - t v)) (nI (i + 1)) f0 a1 a2 a3 (upd u.1 v (nI i)) a5 a6 a b c := go
      rw [show i + 1 - t v = 1 by omega] at go'
      exact go'
    · have go' : wX_findFirst_25 post J15 x1 (nI v) n (nI (i + 1 - t v)) (nI (i + 1)) f0 a1 a2 a3 (upd u.1 v (nI i)) a5 a6 a b c := go
      rw [show i + 1 - t v = 0 by omega] at go'
      exact go'
theorem sl_findNo {post : Int32 → St2 → Prop} {x : Nat → Nat} {m : Nat} {f r : Nat → Nat} {f0 : Int32} {a1 a2 a3 a4 a5 a6 a7 a8 a9 : Nat → Int32} (hS : sl_S x a1) (h : sl_A m f r f0 a2 a3)
    (hN : sl_b x (sl_LL m f r sl_X0) = -100000) (H : ∀ (b4 b5 b6 b7 b8 b9 : Nat → Int32), post 0 (f0, a1, a2, a3, b4, b5, b6, b7, b8, b9)) :
    wpX_findFirst post (f0, a1, a2, a3, a4, a5, a6, a7, a8, a9) := by
  unfold wpX_findFirst
  exact sl_best hS h (fun y b4 b5 b6 b7 b8 b9 n e => br_t ((sl_eq e sl_m1).mpr hN) (H b4 b5 b6 b7 b8 b9))
theorem sl_find {post : Int32 → St2 → Prop} {x : Nat → Nat} {m : Nat} {f r t : Nat → Nat} {f0 : Int32} {a1 a2 a3 a4 a5 a6 a7 a8 a9 : Nat → Int32} (hS : sl_S x a1) (h : sl_A m f r f0 a2 a3)
    (hN : sl_b x (sl_LL m f r sl_X0) ≠ -100000) (hF : sl_F x m f r t (sl_b x (sl_LL m f r sl_X0)))
    (H : ∀ (b4 b5 b6 b7 b8 b9 : Nat → Int32), (∀ w, w < 4 → b4 w = nI (t w)) → post 1 (f0, a1, a2, a3, b4, b5, b6, b7, b8, b9)) :
    wpX_findFirst post (f0, a1, a2, a3, a4, a5, a6, a7, a8, a9) := by
  unfold wpX_findFirst
  refine sl_best hS h (fun y b4 b5 b6 b7 b8 b9 n e => br_f (fun z => hN ((sl_eq e sl_m1).mp z)) ?_)
  refine pk_loop (σ := (Nat → Int32) × (Nat → Int32) × (Nat → Int32) × (Nat → Int32)) (fun k i u => wX_findFirst_15 post y k (nI i) f0 a1 a2 a3 u.1 b5 b6 u.2.1 u.2.2.1 u.2.2.2)
    (fun i u => ∀ w, w < 4 → (w < i → u.1 w = nI (t w)) ∧ (i ≤ w → u.1 w = -1)) 4 0 (b4, b7, b8, b9) (by omega) (fun w hw => ⟨fun z => absurd z (by omega), fun _ => (n w hw).1⟩) ?_ ?_
  · intro k u hu
    exact pk_le 4 4 (fun _ => H _ _ _ _ _ _ (fun w hw => (hu w hw).1 hw)) (fun z => absurd z (by omega))
  · intro k i u hi hu hw
    refine pk_le 4 i (fun z => absurd z (by omega)) (fun _ => ?_)
    refine sl_25 hS h (fun w hw' => (n w hw').2) e hF hi (fun w hw' => ⟨(hu w hw').1, fun z => (hu w hw').2 (by omega)⟩) (fun c4 c7 c8 c9 hP hc => hw (c4, c7, c8, c9) (fun w hw' => ⟨fun z => ?_, fun z => (hP w hw').2 (by omega)⟩))
    by_cases q : w = i
    · rw [q]; exact hc
    · exact (hP w hw').1 (by omega)
theorem sl_parentsNo {post : Int32 → St2 → Prop} {x : Nat → Nat} {m v : Nat} {f r : Nat → Nat} {f0 : Int32} {a1 a2 a3 a4 a5 a6 a7 a8 a9 : Nat → Int32} (hS : sl_S x a1) (h : sl_A m f r f0 a2 a3) (hv : v < 4)
    (hN : sl_b x (sl_LL m f r sl_X0) = -100000) (H : ∀ (b4 b5 b6 b7 b8 b9 : Nat → Int32), post (-100000) (f0, a1, a2, a3, b4, b5, b6, b7, b8, b9)) :
    wpX_parents post (f0, a1, a2, a3, a4, a5, a6, a7, a8, a9) (nI v) := by
  unfold wpX_parents
  exact sl_bad hv (br_t rfl (sl_findNo hS h hN (fun b4 b5 b6 b7 b8 b9 => br_t rfl (H b4 b5 b6 b7 b8 b9))))
theorem sl_parents {post : Int32 → St2 → Prop} {x : Nat → Nat} {m v : Nat} {f r t : Nat → Nat} {f0 : Int32} {a1 a2 a3 a4 a5 a6 a7 a8 a9 : Nat → Int32} (hS : sl_S x a1) (h : sl_A m f r f0 a2 a3) (hv : v < 4)
    (hN : sl_b x (sl_LL m f r sl_X0) ≠ -100000) (hF : sl_F x m f r t (sl_b x (sl_LL m f r sl_X0)))
    (H : ∀ (b4 b5 b6 b7 b8 b9 : Nat → Int32), post (nI (t v)) (f0, a1, a2, a3, b4, b5, b6, b7, b8, b9)) :
    wpX_parents post (f0, a1, a2, a3, a4, a5, a6, a7, a8, a9) (nI v) := by
  unfold wpX_parents
  refine sl_bad hv (br_t rfl (sl_find hS h hN hF (fun b4 b5 b6 b7 b8 b9 hb => br_f (by decide) ⟨pk_in v 4 hv, ?_⟩)))
  rw [nI_clamp (show v < 2 ^ 31 by omega), hb v hv]
  exact H b4 b5 b6 b7 b8 b9
/-- how many edges t has below i -/
def sl_E (t : Nat → Nat) : Nat → Nat
  | 0 => 0
  | i + 1 => sl_E t i + sl_szk (t i) 4
theorem sl_edgesNo {post : Int32 → St2 → Prop} {x : Nat → Nat} {m : Nat} {f r : Nat → Nat} {f0 : Int32} {a1 a2 a3 a4 a5 a6 a7 a8 a9 : Nat → Int32} (hS : sl_S x a1) (h : sl_A m f r f0 a2 a3)
    (hN : sl_b x (sl_LL m f r sl_X0) = -100000) (H : ∀ (b4 b5 b6 b7 b8 b9 : Nat → Int32), post (-100000) (f0, a1, a2, a3, b4, b5, b6, b7, b8, b9)) :
    wpX_edges post (f0, a1, a2, a3, a4, a5, a6, a7, a8, a9) := by
  unfold wpX_edges
  exact sl_findNo hS h hN (fun b4 b5 b6 b7 b8 b9 => br_t rfl (H b4 b5 b6 b7 b8 b9))
theorem sl_edges {post : Int32 → St2 → Prop} {x : Nat → Nat} {m : Nat} {f r t : Nat → Nat} {f0 : Int32} {a1 a2 a3 a4 a5 a6 a7 a8 a9 : Nat → Int32} (hS : sl_S x a1) (h : sl_A m f r f0 a2 a3)
    (hN : sl_b x (sl_LL m f r sl_X0) ≠ -100000) (hF : sl_F x m f r t (sl_b x (sl_LL m f r sl_X0)))
    (H : ∀ (b4 b5 b6 b7 b8 b9 : Nat → Int32), post (nI (sl_E t 4)) (f0, a1, a2, a3, b4, b5, b6, b7, b8, b9)) :
    wpX_edges post (f0, a1, a2, a3, a4, a5, a6, a7, a8, a9) := by
  unfold wpX_edges
  refine sl_find hS h hN hF (fun b4 b5 b6 b7 b8 b9 hb => br_f (by decide) ?_)
  refine pk_loop (fun n i y => wX_edges_16 post f0 a1 a2 a3 b4 b5 b6 b7 b8 b9 n y (nI i)) (fun i y => y = nI (sl_E t i)) 4 0 0 (by omega) rfl ?_ ?_
  · intro n y hy
    exact pk_le 4 4 (fun _ => by rw [hy]; exact H b4 b5 b6 b7 b8 b9) (fun z => absurd z (by omega))
  · intro n i y hi hy hw
    refine pk_le 4 i (fun z => absurd z (by omega)) (fun _ => ⟨pk_in i 4 hi, ?_⟩)
    rw [nI_clamp (show i < 2 ^ 31 by omega), hb i hi]
    exact sl_size (hF i hi).1 (nm_r (e' := nI (sl_E t (i + 1))) (by rw [hy, nI_add]; rfl) (nm_r (nI_1 i) (hw _ rfl)))
end
section
/-! the settings: limit, edge, score, the making of an object -/
theorem sl_limit {post : Int32 → St2 → Prop} {p : Nat} {f0 : Int32} {a1 a2 a3 a4 a5 a6 a7 a8 a9 : Nat → Int32} (hp : p ≤ 3) (H : post f0 (nI p, a1, a2, a3, a4, a5, a6, a7, a8, a9)) :
    wpX_limit post (f0, a1, a2, a3, a4, a5, a6, a7, a8, a9) (nI p) :=
  pk_lt p 0 (fun z => absurd z (by omega)) (fun _ => pk_le p 3 (fun _ => H) (fun z => absurd z (by omega)))
theorem sl_A_limit {m p : Nat} {f r : Nat → Nat} {f0 : Int32} {a2 a3 : Nat → Int32} (h : sl_A m f r f0 a2 a3) (hp : p ≤ 3) : sl_A p f r (nI p) a2 a3 := ⟨rfl, hp, h.2.2⟩
theorem sl_bt0 : ∀ p, p < 16 → ∀ u, u < 4 → ((nI p &&& nI (2 ^ u)) = 0 ↔ ¬ p / 2 ^ u % 2 = 1) := by decide +kernel
theorem sl_cl2 {p u : Nat} (hp : p < 16) (hu : u < 4) : nI p &&& (nI (2 ^ u) ^^^ (-1)) = nI (sl_rm p u) := by
  rw [← sl_shl u hu]
  exact sl_cl p hp u hu
theorem sl_p16 : ∀ u, u < 4 → 2 ^ u < 16 := by decide
theorem sl_or16 : ∀ p, p < 16 → ∀ u, u < 4 → p ||| 2 ^ u < 16 := by decide +kernel
theorem sl_59a {post : Int32 → St2 → Prop} {m u v : Nat} {f r f' r' : Nat → Nat} {old f0 : Int32} {a1 a2 a3 a4 a5 a6 a7 a8 a9 : Nat → Int32} (h : sl_A m f r f0 a2 a3) (hu : u < 4) (hv : v < 4)
    (hf : ∀ w, w < 4 → f' w = if w = v then sl_rm (f v) u else f w) (hr : ∀ w, w < 4 → r' w = if w = v then sl_rm (r v) u ||| 2 ^ u else r w)
    (H : ∀ b2 b3 : Nat → Int32, sl_A m f' r' f0 b2 b3 → post old (f0, a1, b2, b3, a4, a5, a6, a7, a8, a9)) :
    wX_edge_59 post (nI v) 2 (nI (2 ^ u)) old f0 a1 a2 a3 a4 a5 a6 a7 a8 a9 := by
  have cv : (nI v).toNatClampNeg = v := nI_clamp (by omega)
  obtain ⟨hfv, hrv, e2, e3⟩ := h.2.2 v hv
  have g2 : upd a2 (nI v).toNatClampNeg (a2 (nI v).toNatClampNeg &&& (nI (2 ^ u) ^^^ (-1))) = upd a2 v (nI (sl_rm (f v) u)) := by
    rw [cv, e2, sl_cl2 hfv hu]
  have g3 : upd a3 (nI v).toNatClampNeg (a3 (nI v).toNatClampNeg &&& (nI (2 ^ u) ^^^ (-1))) = upd a3 v (nI (sl_rm (r v) u)) := by
    rw [cv, e3, sl_cl2 hrv hu]
  have hrm := sl_rm16 (r v) hrv u hu
  have g4 : upd (upd a3 v (nI (sl_rm (r v) u))) (nI v).toNatClampNeg (upd a3 v (nI (sl_rm (r v) u)) (nI v).toNatClampNeg ||| nI (2 ^ u)) = upd (upd a3 v (nI (sl_rm (r v) u))) v (nI (sl_rm (r v) u ||| 2 ^ u)) := by
    rw [cv, pk_us, sl_or _ hrm _ (sl_p16 u hu)]
  unfold wX_edge_59
  refine ⟨pk_in v 4 hv, pk_in v 4 hv, nm_r g2 ⟨pk_in v 4 hv, pk_in v 4 hv, nm_r g3 (br_f (by decide) ?_)⟩⟩
  unfold wX_edge_105
  refine br_t (by decide) ⟨pk_in v 4 hv, pk_in v 4 hv, nm_r g4 (H _ _ ⟨h.1, h.2.1, fun w hw => ?_⟩)⟩
  obtain ⟨w1, w2, w3, w4⟩ := h.2.2 w hw
  rw [hf w hw, hr w hw]
  by_cases e : w = v
  · rw [if_pos e, if_pos e, e, pk_us, pk_us]
    exact ⟨sl_rm16 _ hfv u hu, sl_or16 _ hrm u hu, rfl, rfl⟩
  · rw [if_neg e, if_neg e, pk_un e, pk_un e, pk_un e]
    exact ⟨w1, w2, w3, w4⟩
theorem sl_59b {post : Int32 → St2 → Prop} {m u v : Nat} {f r f' r' : Nat → Nat} {old f0 : Int32} {a1 a2 a3 a4 a5 a6 a7 a8 a9 : Nat → Int32} (h : sl_A m f r f0 a2 a3) (hu : u < 4) (hv : v < 4)
    (hf : ∀ w, w < 4 → f' w = if w = v then sl_rm (f v) u ||| 2 ^ u else f w) (hr : ∀ w, w < 4 → r' w = if w = v then sl_rm (r v) u else r w)
    (H : ∀ b2 b3 : Nat → Int32, sl_A m f' r' f0 b2 b3 → post old (f0, a1, b2, b3, a4, a5, a6, a7, a8, a9)) :
    wX_edge_59 post (nI v) 1 (nI (2 ^ u)) old f0 a1 a2 a3 a4 a5 a6 a7 a8 a9 := by
  have cv : (nI v).toNatClampNeg = v := nI_clamp (by omega)
  obtain ⟨hfv, hrv, e2, e3⟩ := h.2.2 v hv
  have g2 : upd a2 (nI v).toNatClampNeg (a2 (nI v).toNatClampNeg &&& (nI (2 ^ u) ^^^ (-1))) = upd a2 v (nI (sl_rm (f v) u)) := by
    rw [cv, e2, sl_cl2 hfv hu]
  have g3 : upd a3 (nI v).toNatClampNeg (a3 (nI v).toNatClampNeg &&& (nI (2 ^ u) ^^^ (-1))) = upd a3 v (nI (sl_rm (r v) u)) := by
    rw [cv, e3, sl_cl2 hrv hu]
  have hrm := sl_rm16 (f v) hfv u hu
  have g4 : upd (upd a2 v (nI (sl_rm (f v) u))) (nI v).toNatClampNeg (upd a2 v (nI (sl_rm (f v) u)) (nI v).toNatClampNeg ||| nI (2 ^ u)) = upd (upd a2 v (nI (sl_rm (f v) u))) v (nI (sl_rm (f v) u ||| 2 ^ u)) := by
    rw [cv, pk_us, sl_or _ hrm _ (sl_p16 u hu)]
  unfold wX_edge_59
  refine ⟨pk_in v 4 hv, pk_in v 4 hv, nm_r g2 ⟨pk_in v 4 hv, pk_in v 4 hv, nm_r g3 (br_t (by decide) ⟨pk_in v 4 hv, pk_in v 4 hv, nm_r g4 ?_⟩)⟩⟩
  unfold wX_edge_105
  refine br_f (by decide) (H _ _ ⟨h.1, h.2.1, fun w hw => ?_⟩)
  obtain ⟨w1, w2, w3, w4⟩ := h.2.2 w hw
  rw [hf w hw, hr w hw]
  by_cases e : w = v
  · rw [if_pos e, if_pos e, e, pk_us, pk_us]
    exact ⟨sl_or16 _ hrm u hu, sl_rm16 _ hrv u hu, rfl, rfl⟩
  · rw [if_neg e, if_neg e, pk_un e, pk_un e, pk_un e]
    exact ⟨w1, w2, w3, w4⟩
/-- what edge answers -/
def sl_old (f r u : Nat) : Nat := if f / 2 ^ u % 2 = 1 then 1 else if r / 2 ^ u % 2 = 1 then 2 else 0
theorem sl_edge {post : Int32 → St2 → Prop} {m u v : Nat} {f r : Nat → Nat} {how f0 : Int32} {a1 a2 a3 a4 a5 a6 a7 a8 a9 : Nat → Int32} (h : sl_A m f r f0 a2 a3) (hu : u < 4) (hv : v < 4) (huv : u ≠ v)
    (H : wX_edge_59 post (nI v) how (nI (2 ^ u)) (nI (sl_old (f v) (r v) u)) f0 a1 a2 a3 a4 a5 a6 a7 a8 a9) :
    wpX_edge post (f0, a1, a2, a3, a4, a5, a6, a7, a8, a9) (nI u) (nI v) how := by
  have cv : (nI v).toNatClampNeg = v := nI_clamp (by omega)
  obtain ⟨hfv, hrv, e2, e3⟩ := h.2.2 v hv
  have g2 : (a2 (nI v).toNatClampNeg &&& nI (2 ^ u)) = 0 ↔ ¬ f v / 2 ^ u % 2 = 1 := by rw [cv, e2]; exact sl_bt0 _ hfv u hu
  have g3 : (a3 (nI v).toNatClampNeg &&& nI (2 ^ u)) = 0 ↔ ¬ r v / 2 ^ u % 2 = 1 := by rw [cv, e3]; exact sl_bt0 _ hrv u hu
  unfold wpX_edge
  refine sl_bad hu (br_t rfl (sl_bad hv (br_t rfl (pk_eq u v (fun z => absurd z huv) (fun _ => nm_r (sl_shl u hu) ⟨pk_in v 4 hv, ?_⟩)))))
  refine ek_if g2 (fun z => ⟨pk_in v 4 hv, ek_if g3 (fun z3 => ?_) (fun z3 => ?_)⟩) (fun z => ?_)
  · unfold sl_old at H
    rw [if_neg z, if_neg z3] at H
    exact H
  · unfold sl_old at H
    rw [if_neg z, if_pos (Decidable.not_not.mp z3)] at H
    exact H
  · unfold sl_old at H
    rw [if_pos (Decidable.not_not.mp z)] at H
    exact H
theorem sl_score {post : Int32 → St2 → Prop} {v p k : Nat} {f0 : Int32} {a1 a2 a3 a4 a5 a6 a7 a8 a9 : Nat → Int32} (hv : v < 4) (hp : p < 16) (hb : p / 2 ^ v % 2 ≠ 1) (hk : k ≤ 1000)
    (H : post 0 (f0, upd a1 (v * 16 + p) (nI k), a2, a3, a4, a5, a6, a7, a8, a9)) :
    wpX_score post (f0, a1, a2, a3, a4, a5, a6, a7, a8, a9) (nI v) (nI p) (nI k) := by
  unfold wpX_score
  refine sl_bad hv (br_t rfl (sl_bp hv hp (fun z => absurd z hb) (fun _ => br_t rfl (br_f ?_ (pk_le k 1000 (fun _ => ⟨pk_in (v * 16 + p) 64 (by omega) (sl_ix v p), nm_r (sl_us (pk_cl (v * 16 + p) (sl_ix v p))) H⟩) (fun z => absurd z (by omega)))))))
  rw [Int32.lt_iff_toInt_lt, nI_toInt (by omega), show (-1000 : Int32).toInt = -1000 by decide]
  omega
theorem sl_init {post : St2 → Prop} {f0 : Int32} (H : ∀ b4 b5 b6 : Nat → Int32, post (3, (fun _ => 0), (fun _ => 0), (fun _ => 0), b4, b5, b6, (fun _ => 0), (fun _ => 0), (fun _ => 0))) : wpX_init post 9 180 f0 := by
  unfold wpX_init
  refine ⟨by decide, by decide, by decide, by decide, by decide, by decide, by decide, by decide, by decide, by decide, by decide, by decide, by decide, by decide, by decide, by decide, by decide, by decide, sl_nod (fun b4 b5 b6 _ => H b4 b5 b6)⟩
end
section
/-! the lists of masks of the questions that the law asks, by computing -/
def sl_sbs (l s : List Nat) : Bool := l.all (fun m => s.contains m)
theorem sl_sbs_mem {l s : List Nat} (h : sl_sbs l s = true) : ∀ m, m ∈ l → m ∈ s := by
  intro m hm
  have t := List.all_eq_true.mp h m hm
  exact List.contains_iff_mem.mp t
theorem sl_con {l : List Nat} {m : Nat} (h : l.contains m = true) : m ∈ l := List.contains_iff_mem.mp h
/-- what is computed for findFirst: below t only masks of lo, at t only masks of hi and the mask top -/
def sl_C (m : Nat) (f r t : Nat → Nat) (lo hi : List Nat) (top : Nat) : Prop :=
  ∀ v, v < 4 → t v < 16 ∧ (∀ p, p < t v → sl_sbs (sl_LL m f r (sl_X t v p)) lo = true) ∧ sl_sbs (sl_LL m f r (sl_X t v (t v))) hi = true ∧ (sl_LL m f r (sl_X t v (t v))).contains top = true
theorem sl_F_of {x : Nat → Nat} {m : Nat} {f r t : Nat → Nat} {lo hi : List Nat} {top : Nat} {B : Int} (h : sl_C m f r t lo hi top) (hl : ∀ m, m ∈ lo → (sl_sn x m : Int) < B) (hh : ∀ m, m ∈ hi → (sl_sn x m : Int) ≤ B) (ht : (sl_sn x top : Int) = B) : sl_F x m f r t B := by
  intro v hv
  obtain ⟨h1, h2, h3, h4⟩ := h v hv
  refine ⟨h1, fun p hp => ?_, ?_⟩
  · have t := sl_b_lt (x := x) (B := B) (by omega) _ (fun m hm => hl m (sl_sbs_mem (h2 p hp) m hm))
    omega
  · exact sl_b_eq (sl_con h4) ht (fun m hm => hh m (sl_sbs_mem h3 m hm))
/-- nothing forbidden, nothing required -/
def sl_z (_ : Nat) : Nat := 0
def sl_all : List Nat := [0, 1, 2, 3, 4, 5, 6, 7, 8, 9, 10, 11, 12, 13, 14]
/-- what findFirst finds at first: all scores but that of k -/
def sl_t (k v : Nat) : Nat := if v = k then 0 else sl_key v
def sl_lo (k : Nat) : List Nat := match k with
  | 0 => [0, 1, 2, 3, 4, 5, 6, 8, 9, 10, 12]
  | 1 => [0, 1, 2, 3, 4, 5, 6, 8, 9, 10, 12, 14]
  | 2 => [0, 1, 2, 3, 4, 5, 6, 8, 9, 10, 12, 14, 13]
  | _ => [0, 1, 2, 3, 4, 5, 6, 8, 9, 10, 12, 14, 13, 11]
theorem sl_c1 : sl_sbs (sl_LL 3 sl_z sl_z sl_X0) sl_all = true ∧ (sl_LL 3 sl_z sl_z sl_X0).contains 14 = true ∧ (sl_LL 3 sl_z sl_z sl_X0).contains 13 = true ∧ (sl_LL 3 sl_z sl_z sl_X0).contains 11 = true ∧ (sl_LL 3 sl_z sl_z sl_X0).contains 7 = true := by decide +kernel
theorem sl_c1w : sl_sbs (sl_LL 3 sl_z (sl_q 0 1 0 0) sl_X0) [2, 3, 6, 7, 10, 11, 14] = true ∧ (sl_LL 3 sl_z (sl_q 0 1 0 0) sl_X0).contains 14 = true ∧ (sl_LL 3 sl_z (sl_q 0 1 0 0) sl_X0).contains 11 = true ∧ (sl_LL 3 sl_z (sl_q 0 1 0 0) sl_X0).contains 7 = true := by decide +kernel
theorem sl_c1o : sl_sbs (sl_LL 3 (sl_q 0 1 0 0) sl_z sl_X0) [0, 1, 4, 5, 8, 9, 12, 13] = true ∧ (sl_LL 3 (sl_q 0 1 0 0) sl_z sl_X0).contains 13 = true := by decide +kernel
theorem sl_c1f : ∀ k, k < 4 → sl_C 3 sl_z sl_z (sl_t k) (sl_lo k) sl_all (15 - 2 ^ k) := by
  unfold sl_C
  decide +kernel
theorem sl_c1t : (sl_LL 3 sl_z sl_z sl_X0).filter (fun m => [7, 11, 13, 14].contains m) = [13, 11, 7, 14] := by decide +kernel
theorem sl_c2 : sl_sbs (sl_LL 0 sl_z sl_z sl_X0) [0] = true ∧ (sl_LL 0 sl_z sl_z sl_X0).contains 0 = true ∧ (sl_LL 0 sl_z sl_z sl_X0).length = 24 := by decide +kernel
theorem sl_c2f : sl_C 0 sl_z sl_z sl_z [] [0] 0 := by
  unfold sl_C
  decide +kernel
theorem sl_c3 : sl_LL 0 sl_z (sl_q 4 0 0 0) sl_X0 = [] := by decide +kernel
theorem sl_c4 : sl_sbs (sl_LL 1 sl_z (sl_q 4 0 0 0) sl_X0) [0, 2, 4, 8, 10, 12] = true ∧ (sl_LL 1 sl_z (sl_q 4 0 0 0) sl_X0).contains 10 = true ∧ (sl_LL 1 sl_z (sl_q 4 0 0 0) sl_X0).contains 12 = true := by decide +kernel
theorem sl_c4a : sl_C 1 sl_z (sl_q 4 0 0 0) (sl_q 4 0 2 4) [0, 2, 4, 8] [0, 2, 4, 8, 10, 12] 12 := by
  unfold sl_C
  decide +kernel
theorem sl_c4b : sl_C 1 sl_z (sl_q 4 0 0 0) (sl_q 4 1 0 4) [0, 2, 4, 8, 12] [0, 2, 4, 8, 10, 12] 10 := by
  unfold sl_C
  decide +kernel
theorem sl_c4o : sl_LL 1 (sl_q 4 0 0 0) (sl_q 4 0 0 0) sl_X0 = [] := by decide +kernel
theorem sl_c5 : sl_sbs (sl_LL 1 (sl_q 4 0 0 0) (sl_q 0 1 1 0) sl_X0) [2, 3, 10] = true ∧ (sl_LL 1 (sl_q 4 0 0 0) (sl_q 0 1 1 0) sl_X0).contains 3 = true ∧ (sl_LL 1 (sl_q 4 0 0 0) (sl_q 0 1 1 0) sl_X0).contains 10 = true := by decide +kernel
theorem sl_c5a : sl_C 1 (sl_q 4 0 0 0) (sl_q 0 1 1 0) (sl_q 0 1 1 4) [2] [2, 10] 10 := by
  unfold sl_C
  decide +kernel
theorem sl_c5b : sl_C 1 (sl_q 4 0 0 0) (sl_q 0 1 1 0) (sl_q 8 1 1 0) [2, 10] [3] 3 := by
  unfold sl_C
  decide +kernel
theorem sl_c6 : sl_LL 1 (sl_q 4 0 0 0) (sl_q 2 1 1 0) sl_X0 = [] := by decide +kernel
end
section
/-! what the questions answer, in numbers: e, a, b, d the scores of the variables 0, 1, 2, 3 -/
theorem sl_v1 {e a b d l : Nat} (he : l ≤ e) (ha : l ≤ a) (hb : l ≤ b) (hd : l ≤ d) (hl : l = e ∨ l = a ∨ l = b ∨ l = d) : sl_b (sl_q e a b d) (sl_LL 3 sl_z sl_z sl_X0) = (e : Int) + a + b + d - l := by
  obtain ⟨c0, c1, c2, c3, c4⟩ := sl_c1
  have up : ∀ m, m ∈ sl_all → (sl_sn (sl_q e a b d) m : Int) ≤ (e : Int) + a + b + d - l := by
    simp [sl_all, sl_sn, sl_q]
    omega
  have up' := fun m hm => up m (sl_sbs_mem c0 m hm)
  rcases hl with h | h | h | h
  · exact sl_b_eq (sl_con c1) (by simp [sl_sn, sl_q]; omega) up'
  · exact sl_b_eq (sl_con c2) (by simp [sl_sn, sl_q]; omega) up'
  · exact sl_b_eq (sl_con c3) (by simp [sl_sn, sl_q]; omega) up'
  · exact sl_b_eq (sl_con c4) (by simp [sl_sn, sl_q]; omega) up'
theorem sl_v1w {e a b d l : Nat} (he : l ≤ e) (hb : l ≤ b) (hd : l ≤ d) (hl : l = e ∨ l = b ∨ l = d) : sl_b (sl_q e a b d) (sl_LL 3 sl_z (sl_q 0 1 0 0) sl_X0) = (e : Int) + a + b + d - l := by
  obtain ⟨c0, c1, c3, c4⟩ := sl_c1w
  have up : ∀ m, m ∈ [2, 3, 6, 7, 10, 11, 14] → (sl_sn (sl_q e a b d) m : Int) ≤ (e : Int) + a + b + d - l := by
    simp [sl_sn, sl_q]
    omega
  have up' := fun m hm => up m (sl_sbs_mem c0 m hm)
  rcases hl with h | h | h
  · exact sl_b_eq (sl_con c1) (by simp [sl_sn, sl_q]; omega) up'
  · exact sl_b_eq (sl_con c3) (by simp [sl_sn, sl_q]; omega) up'
  · exact sl_b_eq (sl_con c4) (by simp [sl_sn, sl_q]; omega) up'
theorem sl_v1o {e a b d : Nat} : sl_b (sl_q e a b d) (sl_LL 3 (sl_q 0 1 0 0) sl_z sl_X0) = (e : Int) + a + b + d - a := by
  obtain ⟨c0, c1⟩ := sl_c1o
  have up : ∀ m, m ∈ [0, 1, 4, 5, 8, 9, 12, 13] → (sl_sn (sl_q e a b d) m : Int) ≤ (e : Int) + a + b + d - a := by
    simp [sl_sn, sl_q]
    omega
  exact sl_b_eq (sl_con c1) (by simp [sl_sn, sl_q]; omega) (fun m hm => up m (sl_sbs_mem c0 m hm))
/-- which of the four is dropped: the least, of several the first -/
def sl_D (e a b d k : Nat) : Prop := (k = 0 ∧ e ≤ a ∧ e ≤ b ∧ e ≤ d) ∨ (k = 1 ∧ a < e ∧ a ≤ b ∧ a ≤ d) ∨ (k = 2 ∧ b < e ∧ b < a ∧ b ≤ d) ∨ (k = 3 ∧ d < e ∧ d < a ∧ d < b)
theorem sl_v1f {e a b d l k : Nat} (h1 : 1 ≤ e ∧ 1 ≤ a ∧ 1 ≤ b ∧ 1 ≤ d) (he : l ≤ e) (ha : l ≤ a) (hb : l ≤ b) (hd : l ≤ d) (hl : l = e ∨ l = a ∨ l = b ∨ l = d) (hk : sl_D e a b d k) :
    sl_F (sl_q e a b d) 3 sl_z sl_z (sl_t k) (sl_b (sl_q e a b d) (sl_LL 3 sl_z sl_z sl_X0)) := by
  rw [sl_v1 he ha hb hd hl]
  rcases hk with ⟨rfl, h⟩ | ⟨rfl, h⟩ | ⟨rfl, h⟩ | ⟨rfl, h⟩
  · refine sl_F_of (sl_c1f 0 (by decide)) ?_ ?_ ?_ <;> simp [sl_lo, sl_all, sl_sn, sl_q] <;> omega
  · refine sl_F_of (sl_c1f 1 (by decide)) ?_ ?_ ?_ <;> simp [sl_lo, sl_all, sl_sn, sl_q] <;> omega
  · refine sl_F_of (sl_c1f 2 (by decide)) ?_ ?_ ?_ <;> simp [sl_lo, sl_all, sl_sn, sl_q] <;> omega
  · refine sl_F_of (sl_c1f 3 (by decide)) ?_ ?_ ?_ <;> simp [sl_lo, sl_all, sl_sn, sl_q] <;> omega
theorem sl_E1 : ∀ k, k < 4 → sl_E (sl_t k) 4 = 3 := by decide +kernel
theorem sl_ct_fil {x : Nat → Nat} {B : Int} {p : Nat → Bool} : ∀ l, (∀ m, m ∈ l → p m = false → (sl_sn x m : Int) ≠ B) → sl_ct x B l = sl_ct x B (l.filter p) := by
  intro l
  induction l with
  | nil => intro _; rfl
  | cons m l ih =>
    intro h
    have t := ih (fun k hk => h k (List.mem_cons_of_mem _ hk))
    by_cases e : p m = true
    · rw [List.filter_cons_of_pos e]
      show (if (sl_sn x m : Int) = B then 1 else 0) + sl_ct x B l = (if (sl_sn x m : Int) = B then 1 else 0) + sl_ct x B (l.filter p)
      rw [t]
    · rw [List.filter_cons_of_neg e]
      show (if (sl_sn x m : Int) = B then 1 else 0) + sl_ct x B l = sl_ct x B (l.filter p)
      rw [t, if_neg (h m (List.mem_cons_self ..) (Bool.eq_false_iff.mpr e))]
      omega
theorem sl_v1t {e a b d l : Nat} (h1 : 1 ≤ e ∧ 1 ≤ a ∧ 1 ≤ b ∧ 1 ≤ d) (he : l ≤ e) (ha : l ≤ a) (hb : l ≤ b) (hd : l ≤ d) (hl : l = e ∨ l = a ∨ l = b ∨ l = d) :
    sl_ct (sl_q e a b d) (sl_b (sl_q e a b d) (sl_LL 3 sl_z sl_z sl_X0)) (sl_LL 3 sl_z sl_z sl_X0) = (if a = l then 1 else 0) + (if b = l then 1 else 0) + (if d = l then 1 else 0) + (if e = l then 1 else 0) := by
  rw [sl_v1 he ha hb hd hl]
  have lo : ∀ m, m ∈ sl_all → [7, 11, 13, 14].contains m = false → (sl_sn (sl_q e a b d) m : Int) ≠ (e : Int) + a + b + d - l := by
    simp [sl_all, sl_sn, sl_q]
    omega
  rw [sl_ct_fil (p := fun m => [7, 11, 13, 14].contains m) _ (fun m hm => lo m (sl_sbs_mem sl_c1.1 m hm)), sl_c1t]
  have g13 : ((sl_sn (sl_q e a b d) 13 : Nat) : Int) = (e : Int) + a + b + d - l ↔ a = l := by simp [sl_sn, sl_q]; omega
  have g11 : ((sl_sn (sl_q e a b d) 11 : Nat) : Int) = (e : Int) + a + b + d - l ↔ b = l := by simp [sl_sn, sl_q]; omega
  have g7 : ((sl_sn (sl_q e a b d) 7 : Nat) : Int) = (e : Int) + a + b + d - l ↔ d = l := by simp [sl_sn, sl_q]; omega
  have g14 : ((sl_sn (sl_q e a b d) 14 : Nat) : Int) = (e : Int) + a + b + d - l ↔ e = l := by simp [sl_sn, sl_q]; omega
  simp only [sl_ct, g13, g11, g7, g14]
  omega
theorem sl_sn0 (x : Nat → Nat) : sl_sn x 0 = 0 := by simp [sl_sn]
theorem sl_v2 {x : Nat → Nat} : sl_b x (sl_LL 0 sl_z sl_z sl_X0) = 0 := by
  refine sl_b_eq (sl_con sl_c2.2.1) (by rw [sl_sn0]; rfl) (fun m hm => ?_)
  rw [List.mem_singleton.mp (sl_sbs_mem sl_c2.1 m hm), sl_sn0]
  decide
theorem sl_ct_all {x : Nat → Nat} {B : Int} : ∀ l, (∀ m, m ∈ l → (sl_sn x m : Int) = B) → sl_ct x B l = l.length := by
  intro l
  induction l with
  | nil => intro _; rfl
  | cons m l ih =>
    intro h
    show (if (sl_sn x m : Int) = B then 1 else 0) + sl_ct x B l = l.length + 1
    rw [if_pos (h m (List.mem_cons_self ..)), ih (fun k hk => h k (List.mem_cons_of_mem _ hk))]
    omega
theorem sl_v2t {x : Nat → Nat} : sl_ct x (sl_b x (sl_LL 0 sl_z sl_z sl_X0)) (sl_LL 0 sl_z sl_z sl_X0) = 24 := by
  rw [sl_v2, sl_ct_all, sl_c2.2.2]
  intro m hm
  rw [List.mem_singleton.mp (sl_sbs_mem sl_c2.1 m hm), sl_sn0]
  rfl
theorem sl_v2f {x : Nat → Nat} : sl_F x 0 sl_z sl_z sl_z (sl_b x (sl_LL 0 sl_z sl_z sl_X0)) := by
  rw [sl_v2]
  refine sl_F_of sl_c2f (fun m hm => ?_) (fun m hm => ?_) ?_
  · cases hm
  · rw [List.mem_singleton.mp hm, sl_sn0]; decide
  · rw [sl_sn0]; rfl
theorem sl_v3 {x : Nat → Nat} : sl_b x (sl_LL 0 sl_z (sl_q 4 0 0 0) sl_X0) = -100000 := by rw [sl_c3]; rfl
theorem sl_v4 {e a b d l : Nat} (ha : a ≤ l) (hb : b ≤ l) (hl : l = a ∨ l = b) : sl_b (sl_q e a b d) (sl_LL 1 sl_z (sl_q 4 0 0 0) sl_X0) = (d : Int) + l := by
  obtain ⟨c0, c1, c2⟩ := sl_c4
  have up : ∀ m, m ∈ [0, 2, 4, 8, 10, 12] → (sl_sn (sl_q e a b d) m : Int) ≤ (d : Int) + l := by
    simp [sl_sn, sl_q]
    omega
  have up' := fun m hm => up m (sl_sbs_mem c0 m hm)
  rcases hl with h | h
  · exact sl_b_eq (sl_con c1) (by simp [sl_sn, sl_q]; omega) up'
  · exact sl_b_eq (sl_con c2) (by simp [sl_sn, sl_q]; omega) up'
theorem sl_v4f {e a b d : Nat} (h1 : 1 ≤ e ∧ 1 ≤ a ∧ 1 ≤ b ∧ 1 ≤ d) : ∃ t, t 0 = 4 ∧ sl_F (sl_q e a b d) 1 sl_z (sl_q 4 0 0 0) t (sl_b (sl_q e a b d) (sl_LL 1 sl_z (sl_q 4 0 0 0) sl_X0)) := by
  by_cases h : a ≤ b
  · refine ⟨sl_q 4 0 2 4, rfl, ?_⟩
    rw [sl_v4 (l := b) h (Nat.le_refl _) (Or.inr rfl)]
    refine sl_F_of sl_c4a ?_ ?_ ?_ <;> simp [sl_sn, sl_q] <;> omega
  · refine ⟨sl_q 4 1 0 4, rfl, ?_⟩
    rw [sl_v4 (l := a) (Nat.le_refl _) (by omega) (Or.inl rfl)]
    refine sl_F_of sl_c4b ?_ ?_ ?_ <;> simp [sl_sn, sl_q] <;> omega
theorem sl_v4o {x : Nat → Nat} : sl_b x (sl_LL 1 (sl_q 4 0 0 0) (sl_q 4 0 0 0) sl_X0) = -100000 := by rw [sl_c4o]; rfl
theorem sl_v5 {e a b d l : Nat} (he : e ≤ l) (hd : d ≤ l) (hl : l = e ∨ l = d) : sl_b (sl_q e a b d) (sl_LL 1 (sl_q 4 0 0 0) (sl_q 0 1 1 0) sl_X0) = (a : Int) + l := by
  obtain ⟨c0, c1, c2⟩ := sl_c5
  have up : ∀ m, m ∈ [2, 3, 10] → (sl_sn (sl_q e a b d) m : Int) ≤ (a : Int) + l := by
    simp [sl_sn, sl_q]
    omega
  have up' := fun m hm => up m (sl_sbs_mem c0 m hm)
  rcases hl with h | h
  · exact sl_b_eq (sl_con c1) (by simp [sl_sn, sl_q]; omega) up'
  · exact sl_b_eq (sl_con c2) (by simp [sl_sn, sl_q]; omega) up'
theorem sl_v5a {e a b d : Nat} (h1 : 1 ≤ e ∧ 1 ≤ a ∧ 1 ≤ b ∧ 1 ≤ d) (h : e ≤ d) : sl_F (sl_q e a b d) 1 (sl_q 4 0 0 0) (sl_q 0 1 1 0) (sl_q 0 1 1 4) (sl_b (sl_q e a b d) (sl_LL 1 (sl_q 4 0 0 0) (sl_q 0 1 1 0) sl_X0)) := by
  rw [sl_v5 (l := d) h (Nat.le_refl _) (Or.inr rfl)]
  refine sl_F_of sl_c5a ?_ ?_ ?_ <;> simp [sl_sn, sl_q] <;> omega
theorem sl_v5b {e a b d : Nat} (h1 : 1 ≤ e ∧ 1 ≤ a ∧ 1 ≤ b ∧ 1 ≤ d) (h : d < e) : sl_F (sl_q e a b d) 1 (sl_q 4 0 0 0) (sl_q 0 1 1 0) (sl_q 8 1 1 0) (sl_b (sl_q e a b d) (sl_LL 1 (sl_q 4 0 0 0) (sl_q 0 1 1 0) sl_X0)) := by
  rw [sl_v5 (l := e) (Nat.le_refl _) (by omega) (Or.inl rfl)]
  refine sl_F_of sl_c5b ?_ ?_ ?_ <;> simp [sl_sn, sl_q] <;> omega
theorem sl_v6 {x : Nat → Nat} : sl_b x (sl_LL 1 (sl_q 4 0 0 0) (sl_q 2 1 1 0) sl_X0) = -100000 := by rw [sl_c6]; rfl
end
section
/-! the law, from its end to its beginning; e, a, b, d: the scores of the variables 0, 1, 2, 3 -/
def sl_G (e a b d : Nat) : Prop := (1 ≤ e ∧ e ≤ 200) ∧ (1 ≤ a ∧ a ≤ 200) ∧ (1 ≤ b ∧ b ≤ 200) ∧ (1 ≤ d ∧ d ≤ 200)
theorem sl_G1 {e a b d : Nat} (h : sl_G e a b d) : 1 ≤ e ∧ 1 ≤ a ∧ 1 ≤ b ∧ 1 ≤ d := ⟨h.1.1, h.2.1.1, h.2.2.1.1, h.2.2.2.1⟩
/-- l is the least -/
def sl_M (e a b d l : Nat) : Prop := l ≤ e ∧ l ≤ a ∧ l ≤ b ∧ l ≤ d ∧ (l = e ∨ l = a ∨ l = b ∨ l = d)
theorem sl_of {y : Int32} {n : Nat} (h : y.toInt = (n : Int)) (hn : n < 2147483648) : y = nI n := Int32.toInt_inj.mp (by rw [h, nI_toInt (by omega)])
theorem sl_M1 {e a b d l : Nat} (hl : sl_M e a b d l) : sl_b (sl_q e a b d) (sl_LL 3 sl_z sl_z sl_X0) = (e : Int) + a + b + d - l := sl_v1 hl.1 hl.2.1 hl.2.2.1 hl.2.2.2.1 hl.2.2.2.2
theorem sl_M2 {e a b d l : Nat} (hl : sl_M e a b d l) : sl_b (sl_q e a b d) (sl_LL 3 sl_z sl_z sl_X0) ≠ -100000 := by
  rw [sl_M1 hl]
  have t := hl.1
  omega
theorem sl_M3 {e a b d l k : Nat} (hG : sl_G e a b d) (hl : sl_M e a b d l) (hk : sl_D e a b d k) : sl_F (sl_q e a b d) 3 sl_z sl_z (sl_t k) (sl_b (sl_q e a b d) (sl_LL 3 sl_z sl_z sl_X0)) := sl_v1f (sl_G1 hG) hl.1 hl.2.1 hl.2.2.1 hl.2.2.2.1 hl.2.2.2.2 hk
theorem sl_718 {post : Int32 → St0 → Prop} {mc ms kc ks a b d e : Nat} {f0 : Int32} {a1 a2 a3 b4 b5 b6 b7 b8 b9 : Nat → Int32} (H : post 1 ()) (hG : sl_G e a b d) (hS : sl_S (sl_q e a b d) a1) (hA : sl_A 1 (sl_q 4 0 0 0) (sl_q 0 1 1 0) f0 a2 a3) {z0 z1 : Int32} (hz : z1 = z0) : wL_lawOf_718 post mc ms z0 z1 kc ks f0 a1 a2 a3 b4 b5 b6 b7 b8 b9 := by
  unfold wL_lawOf_718
  refine br_t hz (sl_edge (u := 1) (v := 0) hA (by decide) (by decide) (by decide) (sl_59a (f' := sl_q 4 0 0 0) (r' := sl_q 2 1 1 0) hA (by decide) (by decide) (by decide) (by decide) (fun d2 d3 hB => br_t rfl ?_)))
  exact sl_best hS hB (fun y c4 c5 c6 c7 c8 c9 _ q => br_t ((sl_eq q sl_m1).mpr sl_v6) (sl_orders hS hB (fun _ c4 c5 c6 c7 c8 c9 => br_t rfl H) (fun z => absurd sl_v6 z)))
theorem sl_v5n {e a b d : Nat} : sl_b (sl_q e a b d) (sl_LL 1 (sl_q 4 0 0 0) (sl_q 0 1 1 0) sl_X0) ≠ -100000 := by
  by_cases h : e ≤ d
  · rw [sl_v5 (l := d) h (Nat.le_refl _) (Or.inr rfl)]; omega
  · rw [sl_v5 (l := e) (Nat.le_refl _) (by omega) (Or.inl rfl)]; omega
theorem sl_696 {post : Int32 → St0 → Prop} {mc ms kc ks a b d e : Nat} {f0 : Int32} {a1 a2 a3 b4 b5 b6 b7 b8 b9 : Nat → Int32} (H : post 1 ()) (hG : sl_G e a b d) (hS : sl_S (sl_q e a b d) a1) (hA : sl_A 1 (sl_q 4 0 0 0) (sl_q 0 1 1 0) f0 a2 a3) {z0 z1 : Int32} (hz : z1 = z0) : wL_lawOf_696 post mc ms (nI d) (nI e) z0 z1 kc ks f0 a1 a2 a3 b4 b5 b6 b7 b8 b9 := by
  have hb := hG
  obtain ⟨⟨_, _⟩, ⟨_, _⟩, ⟨_, _⟩, ⟨_, _⟩⟩ := hb
  unfold wL_lawOf_696
  by_cases h : e ≤ d
  · exact br_t hz (sl_parents (v := 0) hS hA (by decide) sl_v5n (sl_v5a (sl_G1 hG) h) (fun c4 c5 c6 c7 c8 c9 => pk_le e d (fun _ => sl_718 H hG hS hA rfl) (fun z => absurd z (by omega))))
  · exact br_t hz (sl_parents (v := 0) hS hA (by decide) sl_v5n (sl_v5b (sl_G1 hG) (by omega)) (fun c4 c5 c6 c7 c8 c9 => pk_le e d (fun z => absurd z (by omega)) (fun _ => sl_718 H hG hS hA rfl)))
theorem sl_662 {post : Int32 → St0 → Prop} {mc ms kc ks a b d e : Nat} {f0 : Int32} {a1 a2 a3 b4 b5 b6 b7 b8 b9 : Nat → Int32} (H : post 1 ()) (hG : sl_G e a b d) (hS : sl_S (sl_q e a b d) a1) (hA : sl_A 1 (sl_q 4 0 0 0) (sl_q 0 1 1 0) f0 a2 a3) {z0 z1 z2 : Int32} (hz : z2 = z1 + z0) : wL_lawOf_662 post mc ms (nI d) (nI e) z0 z1 z2 kc ks f0 a1 a2 a3 b4 b5 b6 b7 b8 b9 := by
  have hb := hG
  obtain ⟨⟨_, _⟩, ⟨_, _⟩, ⟨_, _⟩, ⟨_, _⟩⟩ := hb
  unfold wL_lawOf_662
  by_cases h : e ≤ d
  · refine br_t hz (sl_parents (v := 2) hS hA (by decide) sl_v5n (sl_v5a (sl_G1 hG) h) (fun c4 c5 c6 c7 c8 c9 => br_t rfl ?_))
    exact sl_parents (v := 3) hS hA (by decide) sl_v5n (sl_v5a (sl_G1 hG) h) (fun c4 c5 c6 c7 c8 c9 => pk_le e d (fun _ => sl_696 H hG hS hA rfl) (fun z => absurd z (by omega)))
  · refine br_t hz (sl_parents (v := 2) hS hA (by decide) sl_v5n (sl_v5b (sl_G1 hG) (by omega)) (fun c4 c5 c6 c7 c8 c9 => br_t rfl ?_))
    exact sl_parents (v := 3) hS hA (by decide) sl_v5n (sl_v5b (sl_G1 hG) (by omega)) (fun c4 c5 c6 c7 c8 c9 => pk_le e d (fun z => absurd z (by omega)) (fun _ => sl_696 H hG hS hA rfl))
theorem sl_v4n {e a b d : Nat} : sl_b (sl_q e a b d) (sl_LL 1 sl_z (sl_q 4 0 0 0) sl_X0) ≠ -100000 := by
  by_cases h : a ≤ b
  · rw [sl_v4 (l := b) h (Nat.le_refl _) (Or.inr rfl)]; omega
  · rw [sl_v4 (l := a) (Nat.le_refl _) (by omega) (Or.inl rfl)]; omega
theorem sl_579 {post : Int32 → St0 → Prop} {mc ms kc ks a b d e : Nat} {f0 : Int32} {a1 a2 a3 b4 b5 b6 b7 b8 b9 : Nat → Int32} (H : post 1 ()) (hG : sl_G e a b d) (hS : sl_S (sl_q e a b d) a1) (hA : sl_A 1 sl_z (sl_q 4 0 0 0) f0 a2 a3) {z0 z1 z2 : Int32} (hz : z2 = z1 + z0) : wL_lawOf_579 post mc ms (nI a) (nI d) (nI e) z0 z1 z2 kc ks f0 a1 a2 a3 b4 b5 b6 b7 b8 b9 := by
  have hb := hG
  obtain ⟨⟨_, _⟩, ⟨_, _⟩, ⟨_, _⟩, ⟨_, _⟩⟩ := hb
  obtain ⟨t, t0, ht⟩ := sl_v4f (sl_G1 hG)
  unfold wL_lawOf_579
  refine br_t hz (sl_parents (v := 0) hS hA (by decide) sl_v4n ht (fun c4 c5 c6 c7 c8 c9 => br_t (by rw [t0]; rfl) ?_))
  refine sl_bestWithout (u := 2) (v := 0) (F := sl_q 4 0 0 0) hS hA (by decide) (by decide) (by decide) (by decide) (fun y c4 c5 c6 c7 c8 c9 q => br_t ((sl_eq q sl_m1).mpr sl_v4o) ?_)
  refine sl_edge (u := 2) (v := 0) hA (by decide) (by decide) (by decide) (sl_59b (f' := sl_q 4 0 0 0) (r' := sl_z) hA (by decide) (by decide) (by decide) (by decide) (fun d2 d3 hB => br_t rfl ?_))
  refine sl_edge (u := 0) (v := 2) hB (by decide) (by decide) (by decide) (sl_59a (f' := sl_q 4 0 0 0) (r' := sl_q 0 0 1 0) hB (by decide) (by decide) (by decide) (by decide) (fun d4 d5 hC => br_t rfl ?_))
  refine sl_edge (u := 0) (v := 1) hC (by decide) (by decide) (by decide) (sl_59a (f' := sl_q 4 0 0 0) (r' := sl_q 0 1 1 0) hC (by decide) (by decide) (by decide) (by decide) (fun d6 d7 hD => br_t rfl ?_))
  refine sl_best hS hD (fun y c4 c5 c6 c7 c8 c9 _ q => pk_le e d (fun h => sl_662 H hG hS hD ?_) (fun h => sl_662 H hG hS hD ?_))
  · rw [sl_v5 (l := d) h (Nat.le_refl _) (Or.inr rfl)] at q
    rw [nI_add]
    exact sl_of (by omega) (by omega)
  · rw [sl_v5 (l := e) (Nat.le_refl _) (by omega) (Or.inl rfl)] at q
    rw [nI_add]
    exact sl_of (by omega) (by omega)
theorem sl_443 {post : Int32 → St0 → Prop} {mc ms kc ks a b d e : Nat} {f0 : Int32} {a1 a2 a3 b4 b5 b6 b7 b8 b9 : Nat → Int32} (H : post 1 ()) (hG : sl_G e a b d) (hS : sl_S (sl_q e a b d) a1) {l : Nat} (hl : sl_M e a b d l) (hA : sl_A 3 sl_z sl_z f0 a2 a3) {z0 z1 : Int32} (hz : (z1 + z0).toInt = (((if a = l then 1 else 0) + (if b = l then 1 else 0) + (if d = l then 1 else 0) + (if e = l then 1 else 0) : Nat) : Int)) : wL_lawOf_443 post mc ms (nI a) (nI b) (nI d) (nI e) z0 z1 kc ks f0 a1 a2 a3 b4 b5 b6 b7 b8 b9 := by
  have hb := hG
  obtain ⟨⟨_, _⟩, ⟨_, _⟩, ⟨_, _⟩, ⟨_, _⟩⟩ := hb
  have h2 := sl_A_limit (p := 0) hA (by decide)
  unfold wL_lawOf_443
  refine nm_e (sl_orders hS hA (fun z => absurd z (sl_M2 hl)) (fun _ y c4 c5 c6 c7 c8 c9 q => br_t ?_ (sl_limit (p := 0) (by decide) (br_t hA.1 ?_))))
  · rw [sl_v1t (sl_G1 hG) hl.1 hl.2.1 hl.2.2.1 hl.2.2.2.1 hl.2.2.2.2] at q
    exact Int32.toInt_inj.mp (q.trans hz.symm)
  refine sl_best hS h2 (fun y c4 c5 c6 c7 c8 c9 _ q => br_t ((sl_eq q sl_0t).mpr sl_v2) ?_)
  refine sl_edges (t := sl_z) hS h2 (by rw [sl_v2]; decide) sl_v2f (fun c4 c5 c6 c7 c8 c9 => br_t rfl ?_)
  refine sl_orders hS h2 (fun z => absurd (sl_v2.symm.trans z) (by decide)) (fun _ y c4 c5 c6 c7 c8 c9 q => br_t ?_ ?_)
  · rw [sl_v2t] at q
    exact sl_of q (by decide)
  refine sl_edge (u := 2) (v := 0) h2 (by decide) (by decide) (by decide) (sl_59a (f' := sl_z) (r' := sl_q 4 0 0 0) h2 (by decide) (by decide) (by decide) (by decide) (fun d2 d3 h3 => br_t rfl ?_))
  have h4 := sl_A_limit (p := 1) h3 (by decide)
  refine sl_best hS h3 (fun y c4 c5 c6 c7 c8 c9 _ q => br_t ((sl_eq q sl_m1).mpr sl_v3) ?_)
  refine sl_orders hS h3 (fun _ c4 c5 c6 c7 c8 c9 => br_t rfl ?_) (fun z => absurd sl_v3 z)
  refine sl_edgesNo hS h3 sl_v3 (fun c4 c5 c6 c7 c8 c9 => br_t rfl ?_)
  refine sl_bestWith (u := 2) (v := 0) (R := sl_q 4 0 0 0) hS h3 (by decide) (by decide) (by decide) (by decide) (fun y c4 c5 c6 c7 c8 c9 q => br_t ((sl_eq q sl_m1).mpr sl_v3) ?_)
  refine sl_limit (p := 1) (by decide) (br_t rfl ?_)
  refine sl_best hS h4 (fun y c4 c5 c6 c7 c8 c9 _ q => pk_le a b (fun h => sl_579 H hG hS h4 ?_) (fun h => sl_579 H hG hS h4 ?_))
  · rw [sl_v4 (l := b) h (Nat.le_refl _) (Or.inr rfl)] at q
    rw [nI_add]
    exact sl_of (by omega) (by omega)
  · rw [sl_v4 (l := a) (Nat.le_refl _) (by omega) (Or.inl rfl)] at q
    rw [nI_add]
    exact sl_of (by omega) (by omega)
theorem sl_430 {post : Int32 → St0 → Prop} {mc ms kc ks a b d e : Nat} {f0 : Int32} {a1 a2 a3 b4 b5 b6 b7 b8 b9 : Nat → Int32} (H : post 1 ()) (hG : sl_G e a b d) (hS : sl_S (sl_q e a b d) a1) {l : Nat} (hl : sl_M e a b d l) (hA : sl_A 3 sl_z sl_z f0 a2 a3) : wL_lawOf_430 post mc ms (nI a) (nI b) (nI d) (nI e) (nI l) (nI (if d = l then 1 else 0)) (nI (if a = l then 1 else 0) + nI (if b = l then 1 else 0)) kc ks f0 a1 a2 a3 b4 b5 b6 b7 b8 b9 := by
  have hb := hG
  have hm := hl
  obtain ⟨⟨_, _⟩, ⟨_, _⟩, ⟨_, _⟩, ⟨_, _⟩⟩ := hb
  obtain ⟨_, _, _, _, _⟩ := hm
  have i1 : ∀ (c : Prop) [Decidable c], (if c then 1 else 0 : Nat) ≤ 1 := by
    intro c _
    split <;> omega
  have g1 := i1 (a = l)
  have g2 := i1 (b = l)
  have g3 := i1 (d = l)
  have key : ∀ i, i = (if e = l then 1 else 0) → ((nI (if a = l then 1 else 0) + nI (if b = l then 1 else 0) + nI (if d = l then 1 else 0)) + nI i).toInt = (((if a = l then 1 else 0) + (if b = l then 1 else 0) + (if d = l then 1 else 0) + (if e = l then 1 else 0) : Nat) : Int) := by
    intro i hi
    have g4 := i1 (e = l)
    rw [nI_add, nI_add, nI_add, nI_toInt (by omega), hi]
  unfold wL_lawOf_430
  exact pk_eq e l (fun h => sl_443 H hG hS hl hA (key 1 (if_pos h).symm)) (fun h => sl_443 H hG hS hl hA (key 0 (if_neg h).symm))
theorem sl_417 {post : Int32 → St0 → Prop} {mc ms kc ks a b d e : Nat} {f0 : Int32} {a1 a2 a3 b4 b5 b6 b7 b8 b9 : Nat → Int32} (H : post 1 ()) (hG : sl_G e a b d) (hS : sl_S (sl_q e a b d) a1) {l : Nat} (hl : sl_M e a b d l) (hA : sl_A 3 sl_z sl_z f0 a2 a3) : wL_lawOf_417 post mc ms (nI a) (nI b) (nI d) (nI e) (nI l) (nI (if b = l then 1 else 0)) (nI (if a = l then 1 else 0)) kc ks f0 a1 a2 a3 b4 b5 b6 b7 b8 b9 := by
  have hb := hG
  have hm := hl
  obtain ⟨⟨_, _⟩, ⟨_, _⟩, ⟨_, _⟩, ⟨_, _⟩⟩ := hb
  obtain ⟨_, _, _, _, _⟩ := hm
  have t := sl_430 (mc := mc) (ms := ms) (kc := kc) (ks := ks) (b4 := b4) (b5 := b5) (b6 := b6) (b7 := b7) (b8 := b8) (b9 := b9) H hG hS hl hA
  unfold wL_lawOf_417
  refine pk_eq d l (fun h => ?_) (fun h => ?_)
  · rw [if_pos h] at t
    exact t
  · rw [if_neg h] at t
    exact t
theorem sl_405 {post : Int32 → St0 → Prop} {mc ms kc ks a b d e : Nat} {f0 : Int32} {a1 a2 a3 b4 b5 b6 b7 b8 b9 : Nat → Int32} (H : post 1 ()) (hG : sl_G e a b d) (hS : sl_S (sl_q e a b d) a1) {l : Nat} (hl : sl_M e a b d l) (hA : sl_A 3 sl_z sl_z f0 a2 a3) : wL_lawOf_405 post mc ms (nI a) (nI b) (nI d) (nI e) (nI l) (nI (if a = l then 1 else 0)) kc ks f0 a1 a2 a3 b4 b5 b6 b7 b8 b9 := by
  have hb := hG
  have hm := hl
  obtain ⟨⟨_, _⟩, ⟨_, _⟩, ⟨_, _⟩, ⟨_, _⟩⟩ := hb
  obtain ⟨_, _, _, _, _⟩ := hm
  have t := sl_417 (mc := mc) (ms := ms) (kc := kc) (ks := ks) (b4 := b4) (b5 := b5) (b6 := b6) (b7 := b7) (b8 := b8) (b9 := b9) H hG hS hl hA
  unfold wL_lawOf_405
  refine pk_eq b l (fun h => ?_) (fun h => ?_)
  · rw [if_pos h] at t
    exact t
  · rw [if_neg h] at t
    exact t
theorem sl_378 {post : Int32 → St0 → Prop} {mc ms kc ks a b d e : Nat} {f0 : Int32} {a1 a2 a3 b4 b5 b6 b7 b8 b9 : Nat → Int32} (H : post 1 ()) (hG : sl_G e a b d) (hS : sl_S (sl_q e a b d) a1) {l : Nat} (hl : sl_M e a b d l) (hA : sl_A 3 sl_z sl_z f0 a2 a3) {z0 z1 : Int32} (hz : z1 = z0) : wL_lawOf_378 post mc ms (nI a) (nI b) (nI d) (nI e) (nI l) z0 z1 kc ks f0 a1 a2 a3 b4 b5 b6 b7 b8 b9 := by
  have hb := hG
  have hm := hl
  obtain ⟨⟨_, _⟩, ⟨_, _⟩, ⟨_, _⟩, ⟨_, _⟩⟩ := hb
  obtain ⟨_, _, _, _, _⟩ := hm
  have t := sl_405 (mc := mc) (ms := ms) (kc := kc) (ks := ks) (b4 := b4) (b5 := b5) (b6 := b6) (b7 := b7) (b8 := b8) (b9 := b9) H hG hS hl hA
  unfold wL_lawOf_378
  refine br_t hz ?_
  unfold wpX_parents
  refine pk_lt 4 0 (fun z => absurd z (by omega)) (fun _ => pk_lt 4 4 (fun z => absurd z (by omega)) (fun _ => br_f (by decide) (br_t rfl ?_)))
  refine pk_eq a l (fun h => ?_) (fun h => ?_)
  · rw [if_pos h] at t
    exact t
  · rw [if_neg h] at t
    exact t
theorem sl_359 {post : Int32 → St0 → Prop} {mc ms kc ks a b d e : Nat} {f0 : Int32} {a1 a2 a3 b4 b5 b6 b7 b8 b9 : Nat → Int32} (H : post 1 ()) (hG : sl_G e a b d) (hS : sl_S (sl_q e a b d) a1) {l : Nat} (hl : sl_M e a b d l) {k : Nat} (hk : sl_D e a b d k) (hA : sl_A 3 sl_z sl_z f0 a2 a3) {x16 : Int32} (h3 : (x16 = 0 ∧ sl_t k 3 = 4) ∨ (x16 = 1 ∧ sl_t k 3 = 0)) {z0 z1 : Int32} (hz : z1 = z0) : wL_lawOf_359 post mc ms (nI a) (nI b) (nI d) (nI e) (nI l) x16 z0 z1 kc ks f0 a1 a2 a3 b4 b5 b6 b7 b8 b9 := by
  unfold wL_lawOf_359
  rcases h3 with ⟨g, w⟩ | ⟨g, w⟩
  · refine br_t hz (sl_parents (v := 3) hS hA (by decide) (sl_M2 hl) (sl_M3 hG hl hk) (fun c4 c5 c6 c7 c8 c9 => br_t g (sl_378 H hG hS hl hA ?_)))
    rw [w]
    rfl
  · refine br_t hz (sl_parents (v := 3) hS hA (by decide) (sl_M2 hl) (sl_M3 hG hl hk) (fun c4 c5 c6 c7 c8 c9 => br_f (by rw [g]; decide) (sl_378 H hG hS hl hA ?_)))
    rw [w]
    rfl
theorem sl_340 {post : Int32 → St0 → Prop} {mc ms kc ks a b d e : Nat} {f0 : Int32} {a1 a2 a3 b4 b5 b6 b7 b8 b9 : Nat → Int32} (H : post 1 ()) (hG : sl_G e a b d) (hS : sl_S (sl_q e a b d) a1) {l : Nat} (hl : sl_M e a b d l) {k : Nat} (hk : sl_D e a b d k) (hA : sl_A 3 sl_z sl_z f0 a2 a3) {x15 x16 : Int32} (h2 : (x15 = 0 ∧ sl_t k 2 = 2) ∨ (x15 = 1 ∧ sl_t k 2 = 0)) (h3 : (x16 = 0 ∧ sl_t k 3 = 4) ∨ (x16 = 1 ∧ sl_t k 3 = 0)) {z0 z1 : Int32} (hz : z1 = z0) : wL_lawOf_340 post mc ms (nI a) (nI b) (nI d) (nI e) (nI l) x15 x16 z0 z1 kc ks f0 a1 a2 a3 b4 b5 b6 b7 b8 b9 := by
  unfold wL_lawOf_340
  rcases h2 with ⟨g, w⟩ | ⟨g, w⟩
  · refine br_t hz (sl_parents (v := 2) hS hA (by decide) (sl_M2 hl) (sl_M3 hG hl hk) (fun c4 c5 c6 c7 c8 c9 => br_t g (sl_359 H hG hS hl hk hA h3 ?_)))
    rw [w]
    rfl
  · refine br_t hz (sl_parents (v := 2) hS hA (by decide) (sl_M2 hl) (sl_M3 hG hl hk) (fun c4 c5 c6 c7 c8 c9 => br_f (by rw [g]; decide) (sl_359 H hG hS hl hk hA h3 ?_)))
    rw [w]
    rfl
theorem sl_321 {post : Int32 → St0 → Prop} {mc ms kc ks a b d e : Nat} {f0 : Int32} {a1 a2 a3 b4 b5 b6 b7 b8 b9 : Nat → Int32} (H : post 1 ()) (hG : sl_G e a b d) (hS : sl_S (sl_q e a b d) a1) {l : Nat} (hl : sl_M e a b d l) {k : Nat} (hk : sl_D e a b d k) (hA : sl_A 3 sl_z sl_z f0 a2 a3) {x14 x15 x16 : Int32} (h1 : (x14 = 0 ∧ sl_t k 1 = 1) ∨ (x14 = 1 ∧ sl_t k 1 = 0)) (h2 : (x15 = 0 ∧ sl_t k 2 = 2) ∨ (x15 = 1 ∧ sl_t k 2 = 0)) (h3 : (x16 = 0 ∧ sl_t k 3 = 4) ∨ (x16 = 1 ∧ sl_t k 3 = 0)) {z0 z1 : Int32} (hz : z1 = z0) : wL_lawOf_321 post mc ms (nI a) (nI b) (nI d) (nI e) (nI l) x14 x15 x16 z0 z1 kc ks f0 a1 a2 a3 b4 b5 b6 b7 b8 b9 := by
  unfold wL_lawOf_321
  rcases h1 with ⟨g, w⟩ | ⟨g, w⟩
  · refine br_t hz (sl_parents (v := 1) hS hA (by decide) (sl_M2 hl) (sl_M3 hG hl hk) (fun c4 c5 c6 c7 c8 c9 => br_t g (sl_340 H hG hS hl hk hA h2 h3 ?_)))
    rw [w]
    rfl
  · refine br_t hz (sl_parents (v := 1) hS hA (by decide) (sl_M2 hl) (sl_M3 hG hl hk) (fun c4 c5 c6 c7 c8 c9 => br_f (by rw [g]; decide) (sl_340 H hG hS hl hk hA h2 h3 ?_)))
    rw [w]
    rfl
theorem sl_302 {post : Int32 → St0 → Prop} {mc ms kc ks a b d e : Nat} {f0 : Int32} {a1 a2 a3 b4 b5 b6 b7 b8 b9 : Nat → Int32} (H : post 1 ()) (hG : sl_G e a b d) (hS : sl_S (sl_q e a b d) a1) {l : Nat} (hl : sl_M e a b d l) {k : Nat} (hk : sl_D e a b d k) (hA : sl_A 3 sl_z sl_z f0 a2 a3) {x13 x14 x15 x16 : Int32} (h0 : (x13 = 0 ∧ sl_t k 0 = 8) ∨ (x13 = 1 ∧ sl_t k 0 = 0)) (h1 : (x14 = 0 ∧ sl_t k 1 = 1) ∨ (x14 = 1 ∧ sl_t k 1 = 0)) (h2 : (x15 = 0 ∧ sl_t k 2 = 2) ∨ (x15 = 1 ∧ sl_t k 2 = 0)) (h3 : (x16 = 0 ∧ sl_t k 3 = 4) ∨ (x16 = 1 ∧ sl_t k 3 = 0)) : wL_lawOf_302 post mc ms (nI a) (nI b) (nI d) (nI e) (nI l) x13 x14 x15 x16 kc ks f0 a1 a2 a3 b4 b5 b6 b7 b8 b9 := by
  unfold wL_lawOf_302
  rcases h0 with ⟨g, w⟩ | ⟨g, w⟩
  · refine sl_parents (v := 0) hS hA (by decide) (sl_M2 hl) (sl_M3 hG hl hk) (fun c4 c5 c6 c7 c8 c9 => br_t g (sl_321 H hG hS hl hk hA h1 h2 h3 ?_))
    rw [w]
    rfl
  · refine sl_parents (v := 0) hS hA (by decide) (sl_M2 hl) (sl_M3 hG hl hk) (fun c4 c5 c6 c7 c8 c9 => br_f (by rw [g]; decide) (sl_321 H hG hS hl hk hA h1 h2 h3 ?_))
    rw [w]
    rfl
theorem sl_237 {post : Int32 → St0 → Prop} {mc ms kc ks a b d e : Nat} {f0 : Int32} {a1 a2 a3 b4 b5 b6 b7 b8 b9 : Nat → Int32} (H : post 1 ()) (hG : sl_G e a b d) (hS : sl_S (sl_q e a b d) a1) {l : Nat} (hl : sl_M e a b d l) (hA : sl_A 3 sl_z sl_z f0 a2 a3) {z0 : Int32} (h0 : (z0 = 1 ∧ e = l) ∨ (z0 = 0 ∧ e ≠ l)) : wL_lawOf_237 post mc ms (nI a) (nI b) (nI d) (nI e) (nI l) z0 kc ks f0 a1 a2 a3 b4 b5 b6 b7 b8 b9 := by
  have hb := hG
  have hm := hl
  obtain ⟨⟨_, _⟩, ⟨_, _⟩, ⟨_, _⟩, ⟨_, _⟩⟩ := hb
  obtain ⟨_, _, _, _, _⟩ := hm
  have n1 : ¬ (1 : Int32) = 0 := by decide
  unfold wL_lawOf_237 wL_lawOf_255
  rcases h0 with ⟨g, w⟩ | ⟨g, w⟩
  · rw [g]
    refine br_f n1 ?_
    unfold wL_lawOf_256 wL_lawOf_279
    refine br_f n1 ?_
    unfold wL_lawOf_280 wL_lawOf_301
    refine br_f n1 ?_
    exact sl_302 (k := 0) H hG hS hl (Or.inl ⟨rfl, by omega, by omega, by omega⟩) hA (Or.inr ⟨rfl, rfl⟩) (Or.inl ⟨rfl, rfl⟩) (Or.inl ⟨rfl, rfl⟩) (Or.inl ⟨rfl, rfl⟩)
  · rw [g]
    refine br_t rfl (pk_eq a l (fun ha => ?_) (fun ha => ?_))
    · unfold wL_lawOf_256 wL_lawOf_279
      refine br_t rfl (br_f n1 ?_)
      unfold wL_lawOf_280 wL_lawOf_301
      refine br_t rfl (br_f n1 ?_)
      exact sl_302 (k := 1) H hG hS hl (Or.inr (Or.inl ⟨rfl, by omega, by omega, by omega⟩)) hA (Or.inl ⟨rfl, rfl⟩) (Or.inr ⟨rfl, rfl⟩) (Or.inl ⟨rfl, rfl⟩) (Or.inl ⟨rfl, rfl⟩)
    · unfold wL_lawOf_256 wL_lawOf_279
      refine br_t rfl (br_t rfl (pk_eq b l (fun hb => ?_) (fun hb => ?_)))
      · unfold wL_lawOf_280 wL_lawOf_301
        refine br_t rfl (br_t rfl (br_f n1 ?_))
        exact sl_302 (k := 2) H hG hS hl (Or.inr (Or.inr (Or.inl ⟨rfl, by omega, by omega, by omega⟩))) hA (Or.inl ⟨rfl, rfl⟩) (Or.inl ⟨rfl, rfl⟩) (Or.inr ⟨rfl, rfl⟩) (Or.inl ⟨rfl, rfl⟩)
      · unfold wL_lawOf_280 wL_lawOf_301
        refine br_t rfl (br_t rfl (br_t rfl ?_))
        exact sl_302 (k := 3) H hG hS hl (Or.inr (Or.inr (Or.inr ⟨rfl, by omega, by omega, by omega⟩))) hA (Or.inl ⟨rfl, rfl⟩) (Or.inl ⟨rfl, rfl⟩) (Or.inl ⟨rfl, rfl⟩) (Or.inr ⟨rfl, rfl⟩)
theorem sl_Dex (e a b d : Nat) : ∃ k, k < 4 ∧ sl_D e a b d k := by
  unfold sl_D
  by_cases h0 : e ≤ a ∧ e ≤ b ∧ e ≤ d
  · exact ⟨0, by decide, Or.inl ⟨rfl, h0⟩⟩
  · by_cases h1 : a < e ∧ a ≤ b ∧ a ≤ d
    · exact ⟨1, by decide, Or.inr (Or.inl ⟨rfl, h1⟩)⟩
    · by_cases h2 : b < e ∧ b < a ∧ b ≤ d
      · exact ⟨2, by decide, Or.inr (Or.inr (Or.inl ⟨rfl, h2⟩))⟩
      · exact ⟨3, by decide, Or.inr (Or.inr (Or.inr ⟨rfl, by omega, by omega, by omega⟩))⟩
theorem sl_195 {post : Int32 → St0 → Prop} {mc ms kc ks a b d e : Nat} {f0 : Int32} {a1 a2 a3 b4 b5 b6 b7 b8 b9 : Nat → Int32} (H : post 1 ()) (hG : sl_G e a b d) (hS : sl_S (sl_q e a b d) a1) {l : Nat} (hl : sl_M e a b d l) (hA : sl_A 3 sl_z sl_z f0 a2 a3) {z0 z1 z2 : Int32} (hz : z2 = z1 - z0) : wL_lawOf_195 post mc ms (nI a) (nI b) (nI d) (nI e) (nI (a + b + d + e)) (nI l) z0 z1 z2 kc ks f0 a1 a2 a3 b4 b5 b6 b7 b8 b9 := by
  have hb := hG
  have hm := hl
  obtain ⟨⟨_, _⟩, ⟨_, _⟩, ⟨_, _⟩, ⟨_, _⟩⟩ := hb
  obtain ⟨_, _, _, _, _⟩ := hm
  obtain ⟨k, k4, hk⟩ := sl_Dex e a b d
  unfold wL_lawOf_195
  refine br_t hz (sl_bestWithout (u := 0) (v := 1) (F := sl_q 0 1 0 0) hS hA (by decide) (by decide) (by decide) (by decide) (fun y c4 c5 c6 c7 c8 c9 q => br_t ?_ ?_))
  · rw [sl_v1o] at q
    rw [pk_sub (by omega)]
    exact sl_of (by omega) (by omega)
  refine sl_edges hS hA (sl_M2 hl) (sl_M3 hG hl hk) (fun c4 c5 c6 c7 c8 c9 => br_t (by rw [sl_E1 k k4]; rfl) ?_)
  exact pk_eq e l (fun h => sl_237 H hG hS hl hA (Or.inl ⟨rfl, h⟩)) (fun h => sl_237 H hG hS hl hA (Or.inr ⟨rfl, h⟩))
theorem sl_157 {post : Int32 → St0 → Prop} {mc ms kc ks a b d e : Nat} {f0 : Int32} {a1 a2 a3 b4 b5 b6 b7 b8 b9 : Nat → Int32} (H : post 1 ()) (hG : sl_G e a b d) (hS : sl_S (sl_q e a b d) a1) {l : Nat} (hl : sl_M e a b d l) (hA : sl_A 3 sl_z sl_z f0 a2 a3) {lo : Nat} (ho : lo ≤ d ∧ lo ≤ e ∧ (lo = d ∨ lo = e)) : wL_lawOf_157 post mc ms (nI a) (nI b) (nI d) (nI e) (nI (a + b + d + e)) (nI lo) (nI l) kc ks f0 a1 a2 a3 b4 b5 b6 b7 b8 b9 := by
  have hb := hG
  have hm := hl
  obtain ⟨⟨_, _⟩, ⟨_, _⟩, ⟨_, _⟩, ⟨_, _⟩⟩ := hb
  obtain ⟨_, _, _, _, _⟩ := hm
  obtain ⟨o1, o2, o3⟩ := ho
  unfold wL_lawOf_157
  refine sl_best hS hA (fun y c4 c5 c6 c7 c8 c9 _ q => br_t ?_ ?_)
  · rw [sl_M1 hl] at q
    rw [pk_sub (by omega)]
    exact sl_of (by omega) (by omega)
  refine sl_bestWith (u := 0) (v := 1) (R := sl_q 0 1 0 0) hS hA (by decide) (by decide) (by decide) (by decide) (fun y c4 c5 c6 c7 c8 c9 q => pk_le lo b (fun h => sl_195 H hG hS hl hA ?_) (fun h => sl_195 H hG hS hl hA ?_))
  · rw [sl_v1w (l := lo) o2 h o1 (by omega)] at q
    rw [pk_sub (by omega)]
    exact sl_of (by omega) (by omega)
  · rw [sl_v1w (l := b) (by omega) (Nat.le_refl _) (by omega) (Or.inr (Or.inl rfl))] at q
    rw [pk_sub (by omega)]
    exact sl_of (by omega) (by omega)
theorem sl_125 {post : Int32 → St0 → Prop} {mc ms kc ks a b d e : Nat} {f0 : Int32} {a1 a2 a3 b4 b5 b6 b7 b8 b9 : Nat → Int32} (H : post 1 ()) (hG : sl_G e a b d) (hS : sl_S (sl_q e a b d) a1) (hA : sl_A 3 sl_z sl_z f0 a2 a3) {le : Nat} (hle : le ≤ a ∧ le ≤ b ∧ (le = a ∨ le = b)) : wL_lawOf_125 post mc ms (nI a) (nI b) (nI d) (nI e) (nI (a + b + d + e)) (nI le) kc ks f0 a1 a2 a3 b4 b5 b6 b7 b8 b9 := by
  have hb := hG
  obtain ⟨⟨_, _⟩, ⟨_, _⟩, ⟨_, _⟩, ⟨_, _⟩⟩ := hb
  obtain ⟨l1, l2, l3⟩ := hle
  unfold wL_lawOf_125 wL_lawOf_141
  refine pk_le e d (fun h => pk_le e le (fun g => ?_) (fun g => ?_)) (fun h => pk_le d le (fun g => ?_) (fun g => ?_))
  · exact sl_157 H hG hS (l := e) ⟨by omega, by omega, by omega, by omega, by omega⟩ hA ⟨by omega, by omega, by omega⟩
  · exact sl_157 H hG hS (l := le) ⟨by omega, by omega, by omega, by omega, by omega⟩ hA ⟨by omega, by omega, by omega⟩
  · exact sl_157 H hG hS (l := d) ⟨by omega, by omega, by omega, by omega, by omega⟩ hA ⟨by omega, by omega, by omega⟩
  · exact sl_157 H hG hS (l := le) ⟨by omega, by omega, by omega, by omega, by omega⟩ hA ⟨by omega, by omega, by omega⟩
end
section
/-! the law's beginning, and what is owed -/
theorem sl_arg (p : Int32) : ∃ k : Nat, 1 ≤ k ∧ k ≤ 200 ∧ 1 + ((p &&& 2147483647) - (p &&& 2147483647) / 200 * 200) = nI k := by
  obtain ⟨j, hj, e⟩ := pk_andE p (m := 2147483647) 31 (by decide)
  have t : nI j - nI j / 200 * 200 = nI (j % 200) := pk_rem (d := 200) hj (by decide) (by decide)
  refine ⟨1 + j % 200, by omega, by omega, ?_⟩
  rw [e, t]
  exact nI_add 1 (j % 200)
theorem sl_Smade {e a b d : Nat} (hG : sl_G e a b d) : sl_S (sl_q e a b d) (upd (upd (upd (upd (fun _ => 0) (1 * 16 + 1) (nI a)) (2 * 16 + 2) (nI b)) (3 * 16 + 4) (nI d)) (0 * 16 + 8) (nI e)) := by
  obtain ⟨⟨e1, e2⟩, ⟨a1, a2⟩, ⟨b1, b2⟩, ⟨d1, d2⟩⟩ := hG
  intro v hv
  have c : v = 0 ∨ v = 1 ∨ v = 2 ∨ v = 3 := by omega
  rcases c with rfl | rfl | rfl | rfl
  · refine ⟨e1, e2, fun p hp => ?_⟩
    by_cases z : p = 8
    · rw [z, pk_us, nI_toInt (by omega)]; rfl
    · rw [pk_un (by omega), pk_un (by omega), pk_un (by omega), pk_un (by omega)]; exact (if_neg z).symm
  · refine ⟨a1, a2, fun p hp => ?_⟩
    by_cases z : p = 1
    · rw [z, pk_un (by omega), pk_un (by omega), pk_un (by omega), pk_us, nI_toInt (by omega)]; rfl
    · rw [pk_un (by omega), pk_un (by omega), pk_un (by omega), pk_un (by omega)]; exact (if_neg z).symm
  · refine ⟨b1, b2, fun p hp => ?_⟩
    by_cases z : p = 2
    · rw [z, pk_un (by omega), pk_un (by omega), pk_us, nI_toInt (by omega)]; rfl
    · rw [pk_un (by omega), pk_un (by omega), pk_un (by omega), pk_un (by omega)]; exact (if_neg z).symm
  · refine ⟨d1, d2, fun p hp => ?_⟩
    by_cases z : p = 4
    · rw [z, pk_un (by omega), pk_us, nI_toInt (by omega)]; rfl
    · rw [pk_un (by omega), pk_un (by omega), pk_un (by omega), pk_un (by omega)]; exact (if_neg z).symm
theorem sl_lawOf {post : Int32 → St0 → Prop} (p0 p1 p2 p3 : Int32) (H : post 1 ()) : wpL_lawOf post 116 1840 () p0 p1 p2 p3 := by
  obtain ⟨a, a1, a2, ea⟩ := sl_arg p0
  obtain ⟨b, b1, b2, eb⟩ := sl_arg p1
  obtain ⟨d, d1, d2, ed⟩ := sl_arg p2
  obtain ⟨e, e1, e2, ee⟩ := sl_arg p3
  have n2 : ¬ (200 : Int32) = 0 := by decide
  have hG : sl_G e a b d := ⟨⟨e1, e2⟩, ⟨a1, a2⟩, ⟨b1, b2⟩, ⟨d1, d2⟩⟩
  have hA : sl_A 3 sl_z sl_z 3 (fun _ => 0) (fun _ => 0) := ⟨rfl, by decide, fun v _ => ⟨(by decide : 0 < 16), (by decide : 0 < 16), rfl, rfl⟩⟩
  have hS := sl_Smade hG
  have es : nI a + nI b + nI d + nI e = nI (a + b + d + e) := by rw [nI_add, nI_add, nI_add]
  unfold wpL_lawOf
  refine ⟨by decide, by decide, 9, 180, by decide, by decide, sl_init (fun c4 c5 c6 => ⟨n2, nm_r ea ⟨n2, nm_r eb ⟨n2, nm_r ed ⟨n2, nm_r ee ?_⟩⟩⟩⟩)⟩
  refine sl_score (v := 1) (p := 1) (by decide) (by decide) (by decide) (by omega) ?_
  refine sl_score (v := 2) (p := 2) (by decide) (by decide) (by decide) (by omega) ?_
  refine sl_score (v := 3) (p := 4) (by decide) (by decide) (by decide) (by omega) ?_
  refine sl_score (v := 0) (p := 8) (by decide) (by decide) (by decide) (by omega) ?_
  refine nm_r es (pk_le b a (fun h => ?_) (fun h => ?_))
  · exact sl_125 H hG hS hA ⟨by omega, by omega, by omega⟩
  · exact sl_125 H hG hS hA ⟨by omega, by omega, by omega⟩
theorem sl_cell {post : Int32 → Prop} {L i : Nat} {xs : Nat → Int32} (hL : L ≤ 4) (hi : i < 4) (H : ∀ y, post y) : wpL_cellAt post L xs () (nI i) :=
  pk_le L i (fun _ => H 0) (fun h => ⟨pk_in i L h, H _⟩)
theorem i_vc (xs : Nat → Int32) (L : Nat) (hL : L ≤ 4) : wpL_law (fun r => r = 1) L xs := by
  unfold wpL_law
  exact sl_cell (i := 0) hL (by decide) (fun r1 => sl_cell (i := 1) hL (by decide) (fun r2 => sl_cell (i := 2) hL (by decide) (fun r3 => sl_cell (i := 3) hL (by decide) (fun r4 => ⟨116, 1840, by decide, by decide, sl_lawOf r1 r2 r3 r4 rfl⟩))))
end
