section
/-- the sum of the first n places -/
def ip_sm (f : Nat → Nat) : Nat → Nat
  | 0 => 0
  | n + 1 => ip_sm f n + f n
theorem ip_sm_le {f h : Nat → Nat} {n : Nat} (H : ∀ j, j < n → f j ≤ h j) : ip_sm f n ≤ ip_sm h n := by
  induction n with
  | zero => exact Nat.le_refl _
  | succ n ih =>
    have a := ih (fun j hj => H j (by omega))
    have b := H n (by omega)
    show ip_sm f n + f n ≤ ip_sm h n + h n
    omega
theorem ip_sm_cg {f h : Nat → Nat} {n : Nat} (H : ∀ j, j < n → f j = h j) : ip_sm f n = ip_sm h n := by
  induction n with
  | zero => rfl
  | succ n ih =>
    have a := ih (fun j hj => H j (by omega))
    have b := H n (by omega)
    show ip_sm f n + f n = ip_sm h n + h n
    omega
theorem ip_sm_ad {f h k : Nat → Nat} {n : Nat} (H : ∀ j, j < n → f j = h j + k j) : ip_sm f n = ip_sm h n + ip_sm k n := by
  induction n with
  | zero => rfl
  | succ n ih =>
    have a := ih (fun j hj => H j (by omega))
    have b := H n (by omega)
    show ip_sm f n + f n = (ip_sm h n + h n) + (ip_sm k n + k n)
    omega
theorem ip_sm_eq {f h : Nat → Nat} {n : Nat} (H : ∀ j, j < n → f j ≤ h j) (e : ip_sm h n ≤ ip_sm f n) : ∀ j, j < n → f j = h j := by
  induction n with
  | zero => intro j hj; omega
  | succ n ih =>
    have b := H n (by omega)
    have c : ip_sm f n ≤ ip_sm h n := ip_sm_le (fun j hj => H j (by omega))
    have e' : ip_sm h n + h n ≤ ip_sm f n + f n := e
    intro j hj
    by_cases q : j = n
    · subst q
      omega
    · exact ih (fun j hj => H j (by omega)) (by omega) j (by omega)
theorem ip_sm_3 (f : Nat → Nat) : ip_sm f 3 = f 0 + f 1 + f 2 := by
  show 0 + f 0 + f 1 + f 2 = _
  omega
theorem ip_sm_4 (f : Nat → Nat) : ip_sm f 4 = f 0 + f 1 + f 2 + f 3 := by
  show 0 + f 0 + f 1 + f 2 + f 3 = _
  omega
theorem ip_sm_bd {f : Nat → Nat} {n b i : Nat} (H : ∀ j, j < n → f j ≤ b) (hi : i ≤ n) (hn : n ≤ 4) (hb : b ≤ 1000) : ip_sm f i ≤ 4000 := by
  have a : ∀ k, k ≤ n → ip_sm f k ≤ k * 1000 := by
    intro k
    induction k with
    | zero => intro _; exact Nat.zero_le _
    | succ k ih =>
      intro hk
      have a := ih (by omega)
      have b := H k (by omega)
      show ip_sm f k + f k ≤ _
      omega
  have c := a i hi
  omega
/-- unit i of creditor c goes ahead of unit j of creditor d: least first -/
def ip_l0 (c i d j : Nat) : Prop := i < j ∨ (i = j ∧ c < d)
/-- the greatest missing first -/
def ip_l1 (x : Nat → Nat) (c i d j : Nat) : Prop := x d + i < x c + j ∨ (x d + i = x c + j ∧ c < d)
/-- the greatest quotient first -/
def ip_l2 (x : Nat → Nat) (c i d j : Nat) : Prop := x d * (i + 1) < x c * (j + 1) ∨ (x d * (i + 1) = x c * (j + 1) ∧ c < d)
/-- an order of units -/
def ip_Or (lt : Nat → Nat → Nat → Nat → Prop) (x : Nat → Nat) : Prop :=
  (∀ c i d j e k, lt c i d j → lt d j e k → lt c i e k) ∧ (∀ c i, ¬ lt c i c i) ∧ (∀ c i j, i < j → 0 < x c → lt c i c j) ∧ (∀ c i d j, c ≠ d → lt c i d j ∨ lt d j c i)
theorem ip_o0 (x : Nat → Nat) : ip_Or ip_l0 x := by
  unfold ip_Or ip_l0
  refine ⟨?_, ?_, ?_, ?_⟩
  · intro c i d j e k h1 h2; omega
  · intro c i; omega
  · intro c i j h1 h2; omega
  · intro c i d j h; omega
theorem ip_o1 (x y : Nat → Nat) : ip_Or (ip_l1 x) y := by
  unfold ip_Or ip_l1
  refine ⟨?_, ?_, ?_, ?_⟩
  · intro c i d j e k h1 h2; omega
  · intro c i; omega
  · intro c i j h1 h2; omega
  · intro c i d j h; omega
theorem ip_t1 {X Y Z I J K : Nat} (hJ : 0 < J) (h1 : Y * I ≤ X * J) (h2 : Z * J ≤ Y * K) : Z * I ≤ X * K := by
  have a : Z * J * I ≤ Y * K * I := Nat.mul_le_mul_right I h2
  have b : Y * I * K ≤ X * J * K := Nat.mul_le_mul_right K h1
  have e1 : Z * J * I = Z * I * J := Nat.mul_right_comm Z J I
  have e2 : Y * K * I = Y * I * K := Nat.mul_right_comm Y K I
  have e3 : X * J * K = X * K * J := Nat.mul_right_comm X J K
  refine Nat.le_of_mul_le_mul_right (c := J) ?_ hJ
  omega
theorem ip_t2 {X Y Z I J K : Nat} (hK : 0 < K) (h1 : Y * I < X * J) (h2 : Z * J ≤ Y * K) : Z * I < X * K := by
  have a : Z * J * I ≤ Y * K * I := Nat.mul_le_mul_right I h2
  have b : Y * I * K < X * J * K := Nat.mul_lt_mul_of_pos_right h1 hK
  have e1 : Z * J * I = Z * I * J := Nat.mul_right_comm Z J I
  have e2 : Y * K * I = Y * I * K := Nat.mul_right_comm Y K I
  have e3 : X * J * K = X * K * J := Nat.mul_right_comm X J K
  refine Nat.lt_of_mul_lt_mul_right (a := J) ?_
  omega
theorem ip_t3 {X Y Z I J K : Nat} (hI : 0 < I) (h1 : Y * I ≤ X * J) (h2 : Z * J < Y * K) : Z * I < X * K := by
  have a : Z * J * I < Y * K * I := Nat.mul_lt_mul_of_pos_right h2 hI
  have b : Y * I * K ≤ X * J * K := Nat.mul_le_mul_right K h1
  have e1 : Z * J * I = Z * I * J := Nat.mul_right_comm Z J I
  have e2 : Y * K * I = Y * I * K := Nat.mul_right_comm Y K I
  have e3 : X * J * K = X * K * J := Nat.mul_right_comm X J K
  refine Nat.lt_of_mul_lt_mul_right (a := J) ?_
  omega
theorem ip_o2 (x : Nat → Nat) : ip_Or (ip_l2 x) x := by
  unfold ip_Or ip_l2
  refine ⟨?_, ?_, ?_, ?_⟩
  · intro c i d j e k h1 h2
    rcases h1 with h1 | ⟨h1, h1'⟩
    · rcases h2 with h2 | ⟨h2, h2'⟩
      · exact Or.inl (ip_t2 (Nat.succ_pos k) h1 (Nat.le_of_lt h2))
      · exact Or.inl (ip_t2 (Nat.succ_pos k) h1 (Nat.le_of_eq h2))
    · rcases h2 with h2 | ⟨h2, h2'⟩
      · exact Or.inl (ip_t3 (Nat.succ_pos i) (Nat.le_of_eq h1) h2)
      · rcases Nat.lt_or_eq_of_le (ip_t1 (Nat.succ_pos j) (Nat.le_of_eq h1) (Nat.le_of_eq h2)) with h | h
        · exact Or.inl h
        · exact Or.inr ⟨h, Nat.lt_trans h1' h2'⟩
  · intro c i h
    rcases h with h | h
    · exact Nat.lt_irrefl _ h
    · exact Nat.lt_irrefl _ h.2
  · intro c i j h1 h2
    exact Or.inl (Nat.mul_lt_mul_of_pos_left (by omega) h2)
  · intro c i d j h
    rcases Nat.lt_trichotomy (x d * (i + 1)) (x c * (j + 1)) with z | z | z
    · exact Or.inl (Or.inl z)
    · rcases Nat.lt_or_gt_of_ne h with q | q
      · exact Or.inl (Or.inr ⟨z, q⟩)
      · exact Or.inr (Or.inr ⟨z.symm, q⟩)
    · exact Or.inr (Or.inl z)
/-- what is given goes ahead of what isn't -/
def ip_Sp (n : Nat) (lt : Nat → Nat → Nat → Nat → Prop) (x g : Nat → Nat) : Prop :=
  ∀ c d, c < n → d < n → c ≠ d → 0 < g c → g d < x d → lt c (g c - 1) d (g d)
theorem ip_Sp3 {lt : Nat → Nat → Nat → Nat → Prop} {x g : Nat → Nat} (h : ip_Sp 4 lt x g) : ip_Sp 3 lt x g :=
  fun c d hc hd => h c d (by omega) (by omega)
theorem ip_key {lt : Nat → Nat → Nat → Nat → Prop} {x g g' : Nat → Nat} (ho : ip_Or lt x) (h : ip_Sp 3 lt x g) (h' : ip_Sp 3 lt x g') (hx : ∀ c, c < 3 → g c ≤ x c) (hx' : ∀ c, c < 3 → g' c ≤ x c)
    {c d : Nat} (hc : c < 3) (hd : d < 3) (h1 : g' c < g c) (h2 : g d < g' d) : False := by
  obtain ⟨ht, hi, hm, _⟩ := ho
  have b1 := hx c hc
  have b2 := hx' d hd
  have ne : c ≠ d := fun e => by subst e; omega
  have k1 : lt c (g c - 1) d (g d) := h c d hc hd ne (by omega) (by omega)
  have k2 : lt d (g' d - 1) c (g' c) := h' d c hd hc (Ne.symm ne) (by omega) (by omega)
  have k3 : lt c (g c - 1) d (g' d - 1) := by
    by_cases e : g d = g' d - 1
    · rw [← e]; exact k1
    · exact ht _ _ _ _ _ _ k1 (hm d _ _ (by omega) (by omega))
  have k4 : lt c (g c - 1) c (g' c) := ht _ _ _ _ _ _ k3 k2
  by_cases e : g' c = g c - 1
  · rw [e] at k4; exact hi _ _ k4
  · exact hi _ _ (ht _ _ _ _ _ _ k4 (hm c _ _ (by omega) (by omega)))
/-- there is one such state of a given sum -/
theorem ip_uq {lt : Nat → Nat → Nat → Nat → Prop} {x g g' : Nat → Nat} (ho : ip_Or lt x) (h : ip_Sp 3 lt x g) (h' : ip_Sp 3 lt x g') (hx : ∀ c, c < 3 → g c ≤ x c) (hx' : ∀ c, c < 3 → g' c ≤ x c)
    (hs : ip_sm g 3 = ip_sm g' 3) : ∀ c, c < 3 → g c = g' c := by
  rw [ip_sm_3, ip_sm_3] at hs
  have k : ∀ c d, c < 3 → d < 3 → ¬ (g' c < g c ∧ g d < g' d) := fun c d hc hd z => ip_key ho h h' hx hx' hc hd z.1 z.2
  have k01 := k 0 1 (by omega) (by omega)
  have k02 := k 0 2 (by omega) (by omega)
  have k10 := k 1 0 (by omega) (by omega)
  have k12 := k 1 2 (by omega) (by omega)
  have k20 := k 2 0 (by omega) (by omega)
  have k21 := k 2 1 (by omega) (by omega)
  intro c hc
  have q : c = 0 ∨ c = 1 ∨ c = 2 := by omega
  rcases q with q | q | q <;> subst q <;> omega
/-- one unit more for c -/
def ip_up (g : Nat → Nat) (c : Nat) : Nat → Nat := fun j => if j = c then g j + 1 else g j
theorem ip_up_s (g : Nat → Nat) (c : Nat) : ip_up g c c = g c + 1 := if_pos rfl
theorem ip_up_n (g : Nat → Nat) {c j : Nat} (h : j ≠ c) : ip_up g c j = g j := if_neg h
theorem ip_up_sm (g : Nat → Nat) {c : Nat} (hc : c < 3) : ip_sm (ip_up g c) 3 = ip_sm g 3 + 1 := by
  rw [ip_sm_3, ip_sm_3]
  have q : c = 0 ∨ c = 1 ∨ c = 2 := by omega
  rcases q with q | q | q <;> subst q
  · rw [ip_up_s, ip_up_n g (show (1 : Nat) ≠ 0 by omega), ip_up_n g (show (2 : Nat) ≠ 0 by omega)]; omega
  · rw [ip_up_s, ip_up_n g (show (0 : Nat) ≠ 1 by omega), ip_up_n g (show (2 : Nat) ≠ 1 by omega)]; omega
  · rw [ip_up_s, ip_up_n g (show (0 : Nat) ≠ 2 by omega), ip_up_n g (show (1 : Nat) ≠ 2 by omega)]; omega
theorem ip_up_le {x g : Nat → Nat} {c : Nat} (h : ∀ j, j < 3 → g j ≤ x j) (hc : g c < x c) : ∀ j, j < 3 → ip_up g c j ≤ x j := by
  intro j hj
  by_cases e : j = c
  · subst e; rw [ip_up_s]; omega
  · rw [ip_up_n g e]; exact h j hj
/-- a greedy step keeps it -/
theorem ip_st {lt : Nat → Nat → Nat → Nat → Prop} {x g : Nat → Nat} {c : Nat} (ho : ip_Or lt x) (h : ip_Sp 3 lt x g) (hc : c < 3) (hb : ∀ d, d < 3 → d ≠ c → g d < x d → lt c (g c) d (g d)) : ip_Sp 3 lt x (ip_up g c) := by
  obtain ⟨ht, hi, hm, _⟩ := ho
  intro a d ha hd ne h0 h1
  by_cases ea : a = c
  · subst ea
    rw [ip_up_s] at h0 ⊢
    rw [ip_up_n g (Ne.symm ne)] at h1 ⊢
    exact hb d hd (Ne.symm ne) h1
  · rw [ip_up_n g ea] at h0 ⊢
    by_cases ed : d = c
    · subst ed
      rw [ip_up_s] at h1 ⊢
      exact ht _ _ _ _ _ _ (h a d ha hd ne h0 (by omega)) (hm d _ _ (by omega) (by omega))
    · rw [ip_up_n g ed] at h1 ⊢
      exact h a d ha hd ne h0 h1
end
section
/-- half of a claim, rounded up -/
def ip_h (x : Nat → Nat) : Nat → Nat := fun c => (x c + 1) / 2
/-- rule 3: a first round up to the halves, then the losses -/
def ip_S3 (x g : Nat → Nat) : Prop := ∃ g1 : Nat → Nat, ip_sm g1 3 = min (ip_sm g 3) ((ip_sm x 3 + 1) / 2) ∧ (∀ c, c < 3 → g1 c ≤ ip_h x c) ∧ ip_Sp 3 ip_l0 (ip_h x) g1 ∧ (∀ c, c < 3 → g1 c ≤ g c) ∧ ip_Sp 3 (ip_l1 (fun c => x c - g1 c)) (fun c => x c - g1 c) (fun c => g c - g1 c)
/-- what a rule makes of the sum of g -/
def ip_R (r : Nat) (x g : Nat → Nat) : Prop := (∀ c, c < 3 → g c ≤ x c) ∧ (r = 0 → ip_Sp 3 ip_l0 x g) ∧ (r = 1 → ip_Sp 3 (ip_l1 x) x g) ∧ (r = 2 → ip_Sp 3 (ip_l2 x) x g) ∧ (r = 3 → ip_S3 x g)
theorem ip_uq3 {x g g' : Nat → Nat} (h : ip_S3 x g) (h' : ip_S3 x g') (hx : ∀ c, c < 3 → g c ≤ x c) (hx' : ∀ c, c < 3 → g' c ≤ x c) (hs : ip_sm g 3 = ip_sm g' 3) : ∀ c, c < 3 → g c = g' c := by
  obtain ⟨u, u1, u2, u3, u4, u5⟩ := h
  obtain ⟨v, v1, v2, v3, v4, v5⟩ := h'
  have e : ∀ c, c < 3 → u c = v c := ip_uq (ip_o0 _) u3 v3 u2 v2 (by rw [u1, v1, hs])
  have w5 : ip_Sp 3 (ip_l1 (fun c => x c - u c)) (fun c => x c - u c) (fun c => g' c - u c) := by
    intro c d hc hd ne h0 h1
    have t := v5 c d hc hd ne
    dsimp only [ip_l1] at t h0 h1 ⊢
    rw [← e c hc, ← e d hd] at t
    exact t h0 h1
  have k : ∀ c, c < 3 → g c - u c = g' c - u c := by
    refine ip_uq (x := fun c => x c - u c) (g := fun c => g c - u c) (g' := fun c => g' c - u c) (ip_o1 _ _) u5 w5 (fun c hc => ?_) (fun c hc => ?_) ?_
    · have := hx c hc
      show g c - u c ≤ x c - u c
      omega
    · have := hx' c hc
      show g' c - u c ≤ x c - u c
      omega
    · rw [ip_sm_3] at hs ⊢
      rw [ip_sm_3] at hs ⊢
      have a0 := u4 0 (by omega)
      have a1 := u4 1 (by omega)
      have a2 := u4 2 (by omega)
      have b0 := v4 0 (by omega)
      have b1 := v4 1 (by omega)
      have b2 := v4 2 (by omega)
      have c0 := e 0 (by omega)
      have c1 := e 1 (by omega)
      have c2 := e 2 (by omega)
      show (g 0 - u 0) + (g 1 - u 1) + (g 2 - u 2) = (g' 0 - u 0) + (g' 1 - u 1) + (g' 2 - u 2)
      omega
  intro c hc
  have a := k c hc
  have b := u4 c hc
  have d := v4 c hc
  have f := e c hc
  omega
theorem ip_Ru {r : Nat} {x g g' : Nat → Nat} (hr : r ≤ 3) (h : ip_R r x g) (h' : ip_R r x g') (hs : ip_sm g 3 = ip_sm g' 3) : ∀ c, c < 3 → g c = g' c := by
  obtain ⟨hx, h0, h1, h2, h3⟩ := h
  obtain ⟨hx', h0', h1', h2', h3'⟩ := h'
  have q : r = 0 ∨ r = 1 ∨ r = 2 ∨ r = 3 := by omega
  rcases q with q | q | q | q
  · exact ip_uq (ip_o0 x) (h0 q) (h0' q) hx hx' hs
  · exact ip_uq (ip_o1 x x) (h1 q) (h1' q) hx hx' hs
  · exact ip_uq (ip_o2 x) (h2 q) (h2' q) hx hx' hs
  · exact ip_uq3 (h3 q) (h3' q) hx hx' hs
/-- the search for the best one, at place i: k is -1 or the best so far -/
def ip_B (inn : Nat → Prop) (lt : Nat → Nat → Prop) (i : Nat) (k : Int32) : Prop := (k = -1 ∧ ∀ d, d < i → ¬ inn d) ∨ ∃ c, c < i ∧ k = nI c ∧ inn c ∧ ∀ d, d < i → d ≠ c → inn d → lt c d
theorem ip_B0 {inn : Nat → Prop} {lt : Nat → Nat → Prop} : ip_B inn lt 0 (-1) := Or.inl ⟨rfl, fun d hd => absurd hd (by omega)⟩
theorem ip_Bs {inn : Nat → Prop} {lt : Nat → Nat → Prop} {i : Nat} {k : Int32} (h : ip_B inn lt i k) (hn : ¬ inn i) : ip_B inn lt (i + 1) k := by
  rcases h with ⟨h, h'⟩ | ⟨c, h1, h2, h3, h4⟩
  · exact Or.inl ⟨h, lt_s h' hn⟩
  · exact Or.inr ⟨c, by omega, h2, h3, lt_s h4 (fun _ z => absurd z hn)⟩
theorem ip_Bn {inn : Nat → Prop} {lt : Nat → Nat → Prop} {i : Nat} (h : ∀ d, d < i → ¬ inn d) (hi : inn i) : ip_B inn lt (i + 1) (nI i) :=
  Or.inr ⟨i, by omega, rfl, hi, fun d hd ne z => absurd z (h d (by omega))⟩
theorem ip_Bk {inn : Nat → Prop} {lt : Nat → Nat → Prop} {i c : Nat} (hc : c < i) (h3 : inn c) (h4 : ∀ d, d < i → d ≠ c → inn d → lt c d) (hl : lt c i) : ip_B inn lt (i + 1) (nI c) :=
  Or.inr ⟨c, by omega, rfl, h3, lt_s h4 (fun _ _ => hl)⟩
theorem ip_Bt {inn : Nat → Prop} {lt : Nat → Nat → Prop} {i c : Nat} (ht : ∀ a b d, lt a b → lt b d → lt a d) (h4 : ∀ d, d < i → d ≠ c → inn d → lt c d) (hi : inn i) (hl : lt i c) : ip_B inn lt (i + 1) (nI i) :=
  Or.inr ⟨i, by omega, rfl, hi, fun d hd ne z => by
    by_cases e : d = c
    · rw [e]; exact hl
    · exact ht _ _ _ hl (h4 d (by omega) e z)⟩
/-- who may get the next unit (b = 1: the first round of rule 3) -/
def ip_in (b : Nat) (x g : Nat → Nat) (d : Nat) : Prop := (b = 0 ∧ g d < x d) ∨ (b = 1 ∧ 2 * g d < x d)
/-- who goes first -/
def ip_lt (r b : Nat) (x g : Nat → Nat) (c d : Nat) : Prop := ((r = 0 ∨ b = 1) ∧ ip_l0 c (g c) d (g d)) ∨ (¬ (r = 0 ∨ b = 1) ∧ r = 2 ∧ ip_l2 x c (g c) d (g d)) ∨ (¬ (r = 0 ∨ b = 1) ∧ r ≠ 2 ∧ ip_l1 x c (g c) d (g d))
/-- is it the first round of rule 3 -/
def ip_hf (r : Nat) (x g : Nat → Nat) (b : Nat) : Prop := (b = 1 ∧ r = 3 ∧ 2 * ip_sm g 3 < ip_sm x 3) ∨ (b = 0 ∧ ¬ (r = 3 ∧ 2 * ip_sm g 3 < ip_sm x 3))
/-- what 'chosen' answers -/
def ip_C (r : Nat) (x g : Nat → Nat) (k : Int32) : Prop := ∃ b, ip_hf r x g b ∧ ip_B (ip_in b x g) (ip_lt r b x g) 3 k
theorem ip_lt0 {r b : Nat} {x g : Nat → Nat} {c d : Nat} (h : ip_lt r b x g c d) (e : r = 0 ∨ b = 1) : ip_l0 c (g c) d (g d) := by
  rcases h with h | h | h
  · exact h.2
  · exact absurd e h.1
  · exact absurd e h.1
theorem ip_lt2 {r b : Nat} {x g : Nat → Nat} {c d : Nat} (h : ip_lt r b x g c d) (e : r = 2) (eb : b = 0) : ip_l2 x c (g c) d (g d) := by
  rcases h with h | h | h
  · exact absurd h.1 (by omega)
  · exact h.2.2
  · exact absurd e h.2.1
theorem ip_lt1 {r b : Nat} {x g : Nat → Nat} {c d : Nat} (h : ip_lt r b x g c d) (e : r ≠ 2) (e0 : r ≠ 0) (eb : b = 0) : ip_l1 x c (g c) d (g d) := by
  rcases h with h | h | h
  · exact absurd h.1 (by omega)
  · exact absurd h.2.1 e
  · exact h.2.2
theorem ip_st3 {x g : Nat → Nat} {c b : Nat} (h : ip_S3 x g) (hx : ∀ c, c < 3 → g c ≤ x c) (hc : c < 3) (hf : ip_hf 3 x g b) (hin : ip_in b x g c) (hl : ∀ d, d < 3 → d ≠ c → ip_in b x g d → ip_lt 3 b x g c d) : ip_S3 x (ip_up g c) := by
  obtain ⟨u, u1, u2, u3, u4, u5⟩ := h
  have us := ip_up_sm g hc
  rcases hf with ⟨eb, _, hh⟩ | ⟨eb, hh⟩
  · have su : ip_sm u 3 = ip_sm g 3 := by omega
    have e : ∀ j, j < 3 → u j = g j := ip_sm_eq u4 (by omega)
    have us' := ip_up_sm u hc
    have ic : 2 * g c < x c := by
      rcases hin with z | z
      · omega
      · exact z.2
    refine ⟨ip_up u c, by omega, ?_, ?_, ?_, ?_⟩
    · refine ip_up_le u2 ?_
      show u c < (x c + 1) / 2
      rw [e c hc]
      omega
    · refine ip_st (ip_o0 _) u3 hc (fun d hd ne z => ?_)
      have z' : u d < (x d + 1) / 2 := z
      rw [e d hd] at z' ⊢
      rw [e c hc]
      exact ip_lt0 (hl d hd ne (Or.inr ⟨eb, by omega⟩)) (Or.inr eb)
    · intro j hj
      by_cases ej : j = c
      · subst ej; rw [ip_up_s, ip_up_s, e j hj]; exact Nat.le_refl _
      · rw [ip_up_n _ ej, ip_up_n _ ej]; exact u4 j hj
    · intro a d ha hd ne h0 h1
      exfalso
      have h0' : 0 < ip_up g c a - ip_up u c a := h0
      by_cases ej : a = c
      · subst ej; rw [ip_up_s, ip_up_s, e a ha] at h0'; omega
      · rw [ip_up_n _ ej, ip_up_n _ ej, e a ha] at h0'; omega
  · have hg : ¬ 2 * ip_sm g 3 < ip_sm x 3 := fun z => hh ⟨rfl, z⟩
    have ic : g c < x c := by
      rcases hin with z | z
      · exact z.2
      · omega
    have key : ip_Sp 3 (ip_l1 (fun c => x c - u c)) (fun c => x c - u c) (ip_up (fun c => g c - u c) c) := by
      refine ip_st (ip_o1 _ _) u5 hc (fun d hd ne z => ?_)
      have z' : g d - u d < x d - u d := z
      have t := ip_lt1 (hl d hd ne (Or.inl ⟨eb, by omega⟩)) (by omega) (by omega) eb
      have a1 := u4 c hc
      have a2 := u4 d hd
      have a3 := hx c hc
      have a4 := hx d hd
      unfold ip_l1 at t ⊢
      dsimp only
      omega
    refine ⟨u, by omega, u2, u3, ?_, ?_⟩
    · intro j hj
      have := u4 j hj
      by_cases ej : j = c
      · subst ej; rw [ip_up_s]; omega
      · rw [ip_up_n _ ej]; exact this
    · have fe : (fun j => ip_up g c j - u j) = ip_up (fun c => g c - u c) c := by
        funext j
        by_cases ej : j = c
        · subst ej
          rw [ip_up_s, ip_up_s]
          have := u4 j hc
          omega
        · rw [ip_up_n _ ej, ip_up_n _ ej]
      rw [fe]
      exact key
/-- 'chosen' with something missing -/
theorem ip_Cs {r : Nat} {x g : Nat → Nat} {k : Int32} (h : ip_R r x g) (hC : ip_C r x g k) (hs : ip_sm g 3 < ip_sm x 3) : ∃ c, c < 3 ∧ k = nI c ∧ g c < x c ∧ ip_R r x (ip_up g c) := by
  obtain ⟨hx, h0, h1, h2, h3⟩ := h
  obtain ⟨b, hb, hB⟩ := hC
  rcases hB with ⟨_, hn⟩ | ⟨c, hc, hk, hin, hl⟩
  · exfalso
    have n0 := hn 0 (by omega)
    have n1 := hn 1 (by omega)
    have n2 := hn 2 (by omega)
    unfold ip_in at n0 n1 n2
    unfold ip_hf at hb
    rw [ip_sm_3, ip_sm_3] at hb hs
    omega
  · have ic : g c < x c := by
      unfold ip_in at hin
      omega
    refine ⟨c, hc, hk, ic, ip_up_le hx ic, fun e => ?_, fun e => ?_, fun e => ?_, fun e => ?_⟩
    · have eb : b = 0 := by unfold ip_hf at hb; omega
      exact ip_st (ip_o0 x) (h0 e) hc (fun d hd ne z => ip_lt0 (hl d hd ne (Or.inl ⟨eb, z⟩)) (Or.inl e))
    · have eb : b = 0 := by unfold ip_hf at hb; omega
      exact ip_st (ip_o1 x x) (h1 e) hc (fun d hd ne z => ip_lt1 (hl d hd ne (Or.inl ⟨eb, z⟩)) (by omega) (by omega) eb)
    · have eb : b = 0 := by unfold ip_hf at hb; omega
      exact ip_st (ip_o2 x) (h2 e) hc (fun d hd ne z => ip_lt2 (hl d hd ne (Or.inl ⟨eb, z⟩)) e eb)
    · subst e
      exact ip_st3 (h3 rfl) hx hc hb hin hl
/-- 'chosen' with nothing missing -/
theorem ip_Cn {r : Nat} {x g : Nat → Nat} {k : Int32} (h : ip_R r x g) (hC : ip_C r x g k) (hs : ip_sm x 3 ≤ ip_sm g 3) : k = -1 := by
  obtain ⟨hx, _⟩ := h
  obtain ⟨b, hb, hB⟩ := hC
  rcases hB with ⟨e, _⟩ | ⟨c, hc, hk, hin, hl⟩
  · exact e
  · exfalso
    have e := ip_sm_eq hx hs c hc
    unfold ip_in at hin
    omega
/-- nothing given yet -/
theorem ip_R0 (r : Nat) (x : Nat → Nat) : ip_R r x (fun _ => 0) := by
  refine ⟨fun c _ => Nat.zero_le _, fun _ c d _ _ _ h => absurd h (Nat.lt_irrefl 0), fun _ c d _ _ _ h => absurd h (Nat.lt_irrefl 0), fun _ c d _ _ _ h => absurd h (Nat.lt_irrefl 0), fun _ => ?_⟩
  refine ⟨fun _ => 0, ?_, fun c _ => Nat.zero_le _, fun c d _ _ _ h => absurd h (Nat.lt_irrefl 0), fun c _ => Nat.le_refl _, fun c d _ _ _ h => absurd h (Nat.lt_irrefl 0)⟩
  have z : ip_sm (fun _ => 0) 3 = 0 := rfl
  rw [z]
  exact (Nat.zero_min _).symm
end
section
/-- what is left for the one at place i, if each that p names takes one -/
def ip_rs (p : Nat → Bool) (q : Nat) : Nat → Nat
  | 0 => q
  | i + 1 => if p i = true then ip_rs p q i - 1 else ip_rs p q i
/-- what the one at place i takes -/
def ip_mo (p : Nat → Bool) (q i : Nat) : Nat := if p i = true ∧ 0 < ip_rs p q i then 1 else 0
theorem ip_mo_c (p : Nat → Bool) (q i : Nat) : (ip_mo p q i = 1 ∧ p i = true ∧ 0 < ip_rs p q i) ∨ (ip_mo p q i = 0 ∧ (p i = false ∨ ip_rs p q i = 0)) := by
  by_cases h : p i = true ∧ 0 < ip_rs p q i
  · exact Or.inl ⟨if_pos h, h⟩
  · refine Or.inr ⟨if_neg h, ?_⟩
    cases e : p i with
    | false => exact Or.inl rfl
    | true =>
      right
      rcases Nat.eq_zero_or_pos (ip_rs p q i) with z | z
      · exact z
      · exact absurd ⟨e, z⟩ h
theorem ip_rs_s (p : Nat → Bool) (q i : Nat) : ip_rs p q (i + 1) = ip_rs p q i - ip_mo p q i := by
  show (if p i = true then ip_rs p q i - 1 else ip_rs p q i) = _
  rcases ip_mo_c p q i with ⟨h, hp, _⟩ | ⟨h, hp | hz⟩
  · rw [if_pos hp, h]
  · rw [if_neg (by rw [hp]; exact Bool.false_ne_true), h]; rfl
  · rw [h, hz]
    split <;> rfl
theorem ip_mo_le (p : Nat → Bool) (q i : Nat) : ip_mo p q i ≤ 1 ∧ ip_mo p q i ≤ ip_rs p q i := by
  rcases ip_mo_c p q i with ⟨h, _, hz⟩ | ⟨h, _⟩
  · omega
  · omega
theorem ip_rs_an (p : Nat → Bool) (q : Nat) {i j : Nat} (h : i ≤ j) : ip_rs p q j ≤ ip_rs p q i := by
  induction j with
  | zero =>
    have e : i = 0 := by omega
    rw [e]
    exact Nat.le_refl _
  | succ j ih =>
    by_cases e : i = j + 1
    · rw [e]
      exact Nat.le_refl _
    · have a := ih (by omega)
      rw [ip_rs_s]
      omega
theorem ip_rs_sm (p : Nat → Bool) (q n : Nat) : ip_rs p q n + ip_sm (ip_mo p q) n = q := by
  induction n with
  | zero => rfl
  | succ n ih =>
    have a := ip_mo_le p q n
    rw [ip_rs_s]
    show ip_rs p q n - ip_mo p q n + (ip_sm (ip_mo p q) n + ip_mo p q n) = q
    omega
theorem ip_rs_z (p : Nat → Bool) (q n : Nat) : ip_rs p q n = q - ip_sm (fun i => if p i = true then 1 else 0) n := by
  induction n with
  | zero => rfl
  | succ n ih =>
    show (if p n = true then ip_rs p q n - 1 else ip_rs p q n) = q - (ip_sm (fun i => if p i = true then 1 else 0) n + (if p n = true then 1 else 0))
    rw [ih]
    by_cases e : p n = true
    · rw [if_pos e, if_pos e]; omega
    · rw [if_neg e, if_neg e]; omega
/-- what 'award' gives at the level L with q left over -/
def ip_ao (l : Nat → Nat) (L q i : Nat) : Nat := min (l i) L + ip_mo (fun i => decide (L < l i)) q i
theorem ip_aw {l : Nat → Nat} {n L u q : Nat} (hl : ∀ j, j < n → l j ≤ 150) (hu : u ≤ ip_sm l n) (h1 : ip_sm (fun j => min (l j) L) n ≤ u) (h2 : L = 150 ∨ u < ip_sm (fun j => min (l j) (L + 1)) n) (hq : q = u - ip_sm (fun j => min (l j) L) n) :
    (∀ j, j < n → ip_ao l L q j ≤ l j) ∧ ip_sm (ip_ao l L q) n = u ∧ ip_Sp n ip_l0 l (ip_ao l L q) := by
  have hz : ip_rs (fun i => decide (L < l i)) q n = 0 := by
    rcases h2 with h2 | h2
    · have e : ip_sm (fun j => min (l j) L) n = ip_sm l n := ip_sm_cg (fun j hj => by
        have := hl j hj
        show min (l j) L = l j
        omega)
      have a := ip_rs_an (fun i => decide (L < l i)) q (Nat.zero_le n)
      have b : ip_rs (fun i => decide (L < l i)) q 0 = q := rfl
      omega
    · have e : ip_sm (fun j => min (l j) (L + 1)) n = ip_sm (fun j => min (l j) L) n + ip_sm (fun i => if decide (L < l i) = true then 1 else 0) n := ip_sm_ad (fun j hj => by
        show min (l j) (L + 1) = min (l j) L + (if decide (L < l j) = true then 1 else 0)
        by_cases z : L < l j
        · rw [if_pos (decide_eq_true z)]; omega
        · rw [if_neg (by rw [decide_eq_true_eq]; exact z)]; omega)
      rw [ip_rs_z]
      omega
  refine ⟨fun j hj => ?_, ?_, fun c d hc hd ne h0 hd' => ?_⟩
  · unfold ip_ao
    rcases ip_mo_c (fun i => decide (L < l i)) q j with ⟨h, hp, _⟩ | ⟨h, _⟩
    · have hp' : L < l j := of_decide_eq_true hp
      omega
    · omega
  · have a : ip_sm (ip_ao l L q) n = ip_sm (fun j => min (l j) L) n + ip_sm (ip_mo (fun i => decide (L < l i)) q) n := ip_sm_ad (fun j _ => rfl)
    have b := ip_rs_sm (fun i => decide (L < l i)) q n
    omega
  · unfold ip_ao at h0 hd' ⊢
    unfold ip_l0
    rcases ip_mo_c (fun i => decide (L < l i)) q c with ⟨hC, pc, rc⟩ | ⟨hC, rc⟩
    · rcases ip_mo_c (fun i => decide (L < l i)) q d with ⟨hD, pd, rd⟩ | ⟨hD, rd⟩
      · have pd' : L < l d := of_decide_eq_true pd
        omega
      · have pc' : L < l c := of_decide_eq_true pc
        have pd' : L < l d := by omega
        have rd' : ip_rs (fun i => decide (L < l i)) q d = 0 := by
          rcases rd with rd | rd
          · exact absurd pd' (of_decide_eq_false rd)
          · exact rd
        have cd : c < d := by
          rcases Nat.lt_or_ge c d with z | z
          · exact z
          · have := ip_rs_an (fun i => decide (L < l i)) q z
            omega
        omega
    · have e : ip_mo (fun i => decide (L < l i)) q d ≤ 1 := (ip_mo_le _ q d).1
      omega
/-- what 'lose' gives at the level L with q left over -/
def ip_lo (l : Nat → Nat) (L q i : Nat) : Nat := (l i - L) + ip_mo (fun i => decide (L ≤ l i ∧ 0 < L)) q i
theorem ip_ls {l : Nat → Nat} {n L u q : Nat} (hu : u ≤ ip_sm l n) (h1 : ip_sm (fun j => l j - L) n ≤ u) (h2 : L = 0 ∨ u < ip_sm (fun j => l j - (L - 1)) n) (hq : q = u - ip_sm (fun j => l j - L) n) :
    (∀ j, j < n → ip_lo l L q j ≤ l j) ∧ ip_sm (ip_lo l L q) n = u ∧ ip_Sp n (ip_l1 l) l (ip_lo l L q) := by
  have hz : ip_rs (fun i => decide (L ≤ l i ∧ 0 < L)) q n = 0 := by
    rcases h2 with h2 | h2
    · have e : ip_sm (fun j => l j - L) n = ip_sm l n := ip_sm_cg (fun j hj => by
        show l j - L = l j
        omega)
      have a := ip_rs_an (fun i => decide (L ≤ l i ∧ 0 < L)) q (Nat.zero_le n)
      have b : ip_rs (fun i => decide (L ≤ l i ∧ 0 < L)) q 0 = q := rfl
      omega
    · by_cases L0 : L = 0
      · have e : ip_sm (fun j => l j - (L - 1)) n = ip_sm (fun j => l j - L) n := ip_sm_cg (fun j hj => by
          show l j - (L - 1) = l j - L
          omega)
        omega
      · have e : ip_sm (fun j => l j - (L - 1)) n = ip_sm (fun j => l j - L) n + ip_sm (fun i => if decide (L ≤ l i ∧ 0 < L) = true then 1 else 0) n := ip_sm_ad (fun j hj => by
          show l j - (L - 1) = (l j - L) + (if decide (L ≤ l j ∧ 0 < L) = true then 1 else 0)
          by_cases z : L ≤ l j ∧ 0 < L
          · rw [if_pos (decide_eq_true z)]; omega
          · rw [if_neg (by rw [decide_eq_true_eq]; exact z)]; omega)
        rw [ip_rs_z]
        omega
  refine ⟨fun j hj => ?_, ?_, fun c d hc hd ne h0 hd' => ?_⟩
  · unfold ip_lo
    rcases ip_mo_c (fun i => decide (L ≤ l i ∧ 0 < L)) q j with ⟨h, hp, _⟩ | ⟨h, _⟩
    · have hp' : L ≤ l j ∧ 0 < L := of_decide_eq_true hp
      omega
    · omega
  · have a : ip_sm (ip_lo l L q) n = ip_sm (fun j => l j - L) n + ip_sm (ip_mo (fun i => decide (L ≤ l i ∧ 0 < L)) q) n := ip_sm_ad (fun j _ => rfl)
    have b := ip_rs_sm (fun i => decide (L ≤ l i ∧ 0 < L)) q n
    omega
  · unfold ip_lo at h0 hd' ⊢
    unfold ip_l1
    rcases ip_mo_c (fun i => decide (L ≤ l i ∧ 0 < L)) q c with ⟨hC, pc, rc⟩ | ⟨hC, rc⟩
    · have pc' : L ≤ l c ∧ 0 < L := of_decide_eq_true pc
      rcases ip_mo_c (fun i => decide (L ≤ l i ∧ 0 < L)) q d with ⟨hD, pd, rd⟩ | ⟨hD, rd⟩
      · have pd' : L ≤ l d ∧ 0 < L := of_decide_eq_true pd
        omega
      · by_cases pd' : L ≤ l d ∧ 0 < L
        · have rd' : ip_rs (fun i => decide (L ≤ l i ∧ 0 < L)) q d = 0 := by
            rcases rd with rd | rd
            · exact absurd pd' (of_decide_eq_false rd)
            · exact rd
          have cd : c < d := by
            rcases Nat.lt_or_ge c d with z | z
            · exact z
            · have := ip_rs_an (fun i => decide (L ≤ l i ∧ 0 < L)) q z
              omega
          omega
        · omega
    · have e : ip_mo (fun i => decide (L ≤ l i ∧ 0 < L)) q d ≤ 1 := (ip_mo_le _ q d).1
      omega
/-- where 'quotas' starts -/
theorem ip_q0 {x : Nat → Nat} {u S : Nat} (hS : S = ip_sm x 3) (hu : u ≤ S) :
    (∀ j, j < 3 → u * x j / S ≤ x j) ∧ ip_sm (fun j => u * x j / S) 3 ≤ u ∧ u ≤ ip_sm (fun j => u * x j / S) 3 + 3 ∧ ip_Sp 3 (ip_l2 x) x (fun j => u * x j / S) := by
  rcases Nat.eq_zero_or_pos S with z | z
  · have u0 : u = 0 := by omega
    subst u0
    have e : ∀ j, 0 * x j / S = 0 := fun j => by rw [Nat.zero_mul, Nat.zero_div]
    refine ⟨fun j _ => by rw [e]; exact Nat.zero_le _, ?_, Nat.zero_le _, fun c d _ _ _ h => ?_⟩
    · rw [ip_sm_3]
      show 0 * x 0 / S + 0 * x 1 / S + 0 * x 2 / S ≤ 0
      rw [e, e, e]
      exact Nat.le_refl _
    · have h' : 0 < 0 * x c / S := h
      rw [e] at h'
      exact absurd h' (Nat.lt_irrefl 0)
  · have lo : ∀ j, S * (u * x j / S) ≤ u * x j := fun j => Nat.mul_div_le (u * x j) S
    have hi : ∀ j, u * x j < S * (u * x j / S + 1) := fun j => Nat.lt_mul_div_succ (u * x j) z
    have le : ∀ j, u * x j / S ≤ x j := fun j => Nat.div_le_of_le_mul (Nat.mul_le_mul_right (x j) hu)
    refine ⟨fun j _ => le j, ?_, ?_, fun c d _ _ ne h0 _ => ?_⟩
    · rw [ip_sm_3] at hS ⊢
      show u * x 0 / S + u * x 1 / S + u * x 2 / S ≤ u
      refine Nat.le_of_mul_le_mul_left (c := S) ?_ z
      have a0 := lo 0
      have a1 := lo 1
      have a2 := lo 2
      have m : S * (u * x 0 / S + u * x 1 / S + u * x 2 / S) = S * (u * x 0 / S) + S * (u * x 1 / S) + S * (u * x 2 / S) := by rw [Nat.mul_add, Nat.mul_add]
      have m' : S * u = u * x 0 + u * x 1 + u * x 2 := by rw [Nat.mul_comm S u, hS, Nat.mul_add, Nat.mul_add]
      rw [m, m']
      omega
    · rw [ip_sm_3] at hS ⊢
      show u ≤ u * x 0 / S + u * x 1 / S + u * x 2 / S + 3
      refine Nat.le_of_mul_le_mul_left (c := S) ?_ z
      have a0 := hi 0
      have a1 := hi 1
      have a2 := hi 2
      have m : S * (u * x 0 / S + u * x 1 / S + u * x 2 / S + 3) = S * (u * x 0 / S + 1) + S * (u * x 1 / S + 1) + S * (u * x 2 / S + 1) := by
        rw [← Nat.mul_add, ← Nat.mul_add]
        congr 1
        omega
      have m' : S * u = u * x 0 + u * x 1 + u * x 2 := by rw [Nat.mul_comm S u, hS, Nat.mul_add, Nat.mul_add]
      rw [m, m']
      omega
    · have h0' : 0 < u * x c / S := h0
      have xc : 0 < x c := by
        have := le c
        omega
      left
      show x d * (u * x c / S - 1 + 1) < x c * (u * x d / S + 1)
      rw [Nat.sub_add_cancel h0']
      refine Nat.lt_of_mul_lt_mul_left (a := S) ?_
      have e1 : S * (x d * (u * x c / S)) = x d * (S * (u * x c / S)) := Nat.mul_left_comm _ _ _
      have e2 : S * (x c * (u * x d / S + 1)) = x c * (S * (u * x d / S + 1)) := Nat.mul_left_comm _ _ _
      have e3 : x d * (u * x c) = x c * (u * x d) := by
        rw [Nat.mul_left_comm, Nat.mul_comm (x d) (x c), ← Nat.mul_left_comm]
      have b1 : x d * (S * (u * x c / S)) ≤ x d * (u * x c) := Nat.mul_le_mul_left (x d) (lo c)
      have b2 : x c * (u * x d) < x c * (S * (u * x d / S + 1)) := Nat.mul_lt_mul_of_pos_left (hi d) xc
      rw [e1, e2]
      rw [e3] at b1
      exact Nat.lt_of_le_of_lt b1 b2
end
section
section
variable {f1 f2 : Int32} {a1 a2 a3 a4 a5 a6 : Nat → Int32} {x rk g l : Nat → Nat}
/-- the first four places hold w -/
def ip_ar (f : Nat → Int32) (w : Nat → Nat) : Prop := ∀ j, j < 4 → f j = nI (w j)
theorem ip_c {i : Nat} (hi : i < 8) : (nI i).toNatClampNeg = i := nI_clamp (by omega)
theorem ip_fill {s : Nat → Int32} {w : Nat → Nat} {i : Nat} {v : Int32} (h : ∀ j, j < i → s j = nI (w j)) (hv : v = nI (w i)) : ∀ j, j < i + 1 → upd s i v j = nI (w j) := by
  intro j hj
  by_cases e : j = i
  · rw [e, pk_us, hv]
  · rw [pk_un e]
    exact h j (by omega)
theorem ip_keep {s : Nat → Int32} {w : Nat → Nat} {i : Nat} {v : Int32} (h : ∀ j, i ≤ j → j < 4 → s j = nI (w j)) : ∀ j, i + 1 ≤ j → j < 4 → upd s i v j = nI (w j) := by
  intro j hj hj'
  rw [pk_un (by omega)]
  exact h j (by omega) hj'
theorem ip_total {post : Int32 → Prop} {p : Nat} (h1 : ip_ar a1 x) (h2 : ip_ar a2 rk) (hk : ∀ j, j < 4 → rk j < 4) (hp : p < 4) (H : post (nI (ip_sm (fun j => if rk j = p then x j else 0) 4))) : wpX_total post (nI 4, f1, f2, a1, a2, a3, a4, a5, a6) (nI p) := by
  refine pk_loop (σ := Unit) (fun n i _ => wX_total_4 post (nI p) (nI 4) f1 f2 a1 a2 a3 a4 a5 a6 n (nI (ip_sm (fun j => if rk j = p then x j else 0) i)) (nI i)) (fun _ _ => True) 4 0 () (by omega) trivial ?_ ?_
  · intro n _ _
    exact pk_le 4 4 (fun _ => H) (fun z => absurd z (by omega))
  · intro n i _ hi _ hw
    have hw' := hw () trivial
    have c : (nI i).toNatClampNeg = i := ip_c (by omega)
    have hki := hk i hi
    refine pk_le 4 i (fun z => absurd z (by omega)) (fun _ => ⟨pk_in i 8 (by omega), ?_⟩)
    refine pk_eq (rk i) p (fun e => ⟨pk_in i 8 (by omega), nm_r ?_ (nm_r (nI_1 i) hw')⟩) (fun e => nm_r ?_ (nm_r (nI_1 i) hw')) (by rw [c]; exact h2 i hi) rfl
    · rw [c, h1 i hi, nI_add]
      show nI (_ + x i) = nI (_ + (if rk i = p then x i else 0))
      rw [if_pos e]
    · show nI _ + 0 = nI (_ + (if rk i = p then x i else 0))
      rw [if_neg e]
      exact nI_add _ 0
theorem ip_lim33 {post : St2 → Prop} {J : Int32 → (Nat → Int32) → (Nat → Int32) → (Nat → Int32) → (Nat → Int32) → (Nat → Int32) → (Nat → Int32) → Prop} {p i : Nat} {z xv : Int32} {m : Nat → Nat} (hi : i < 4) (h2 : a2 i = nI (rk i)) (h4 : a4 i = nI (g i)) (hk : rk i < 4) (hp : p < 4) (hz : z = nI (m i)) (hg : rk i = p → g i ≤ m i) (hl : l i = if rk i = p then m i - g i else 0)
    (HJ : J (nI (i + 1)) a1 a2 a3 a4 (upd a5 i (nI (l i))) a6) : wX_takeLimits_33 post J (nI p) xv (nI i) z (nI 4) f1 f2 a1 a2 a3 a4 a5 a6 := by
  have c : (nI i).toNatClampNeg = i := ip_c (by omega)
  unfold wX_takeLimits_33
  refine ⟨pk_in i 8 (by omega), pk_eq (rk i) p (fun e => ⟨pk_in i 8 (by omega), pk_in i 8 (by omega), nm_r ?_ (nm_r (nI_1 i) HJ)⟩) (fun e => ⟨pk_in i 8 (by omega), nm_r ?_ (nm_r (nI_1 i) HJ)⟩) (by rw [c]; exact h2) rfl⟩
  · rw [c, hz, h4, pk_sub (hg e), hl, if_pos e]
  · rw [c, hl, if_neg e, nI_0]
theorem ip_limits {post : St2 → Prop} {p v : Nat} {m : Nat → Nat} (h1 : ip_ar a1 x) (h2 : ip_ar a2 rk) (h4 : ip_ar a4 g) (hk : ∀ j, j < 4 → rk j < 4) (hp : p < 4) (hx : ∀ j, j < 4 → x j ≤ 150) (hm : (v = 0 ∧ m = x) ∨ (v = 1 ∧ m = ip_h x)) (hg : ∀ j, j < 4 → rk j = p → g j ≤ m j) (hl : ∀ j, j < 4 → l j = if rk j = p then m j - g j else 0)
    (H : ∀ s, ip_ar s l → post (nI 4, f1, f2, a1, a2, a3, a4, s, a6)) : wpX_takeLimits post (nI 4, f1, f2, a1, a2, a3, a4, a5, a6) (nI p) (nI v) := by
  refine pk_loop (fun n i s => wX_takeLimits_2 post (nI p) (nI v) (nI 4) f1 f2 n (nI i) a1 a2 a3 a4 s a6) (fun i s => ∀ j, j < i → s j = nI (l j)) 4 0 a5 (by omega) (fun j hj => absurd hj (by omega)) ?_ ?_
  · intro n s h
    exact pk_le 4 4 (fun _ => H s h) (fun z => absurd z (by omega))
  · intro n i s hi h hw
    have hw' : wX_takeLimits_2 post (nI p) (nI v) (nI 4) f1 f2 n (nI (i + 1)) a1 a2 a3 a4 (upd s i (nI (l i))) a6 := hw _ (ip_fill h rfl)
    have c : (nI i).toNatClampNeg = i := ip_c (by omega)
    have hxi := hx i hi
    refine pk_le 4 i (fun z => absurd z (by omega)) (fun _ => pk_eq v 0 (fun e => ⟨pk_in i 8 (by omega), ?_⟩) (fun e => ⟨pk_in i 8 (by omega), ?_⟩) rfl rfl (by omega))
    · have em : m = x := by
        rcases hm with hm | hm
        · exact hm.2
        · omega
      subst em
      exact ip_lim33 (m := m) hi (h2 i hi) (h4 i hi) (hk i hi) hp (by rw [c]; exact h1 i hi) (hg i hi) (hl i hi) hw'
    · have em : m = ip_h x := by
        rcases hm with hm | hm
        · omega
        · exact hm.2
      subst em
      refine ip_lim33 (m := ip_h x) hi (h2 i hi) (h4 i hi) (hk i hi) hp ?_ (hg i hi) (hl i hi) hw'
      rw [c, h1 i hi, nI_1]
      exact pk_shrN (n := x i + 1) (by omega) _ 1 (by decide)
theorem ip_awarded {post : Int32 → Prop} {L : Nat} (h5 : ip_ar a5 l) (hl : ∀ j, j < 4 → l j ≤ 150) (hL : L ≤ 150) (H : post (nI (ip_sm (fun j => min (l j) L) 4))) : wpX_awarded post (nI 4, f1, f2, a1, a2, a3, a4, a5, a6) (nI L) := by
  refine pk_loop (σ := Unit) (fun n i _ => wX_awarded_4 post (nI L) (nI 4) f1 f2 a1 a2 a3 a4 a5 a6 n (nI (ip_sm (fun j => min (l j) L) i)) (nI i)) (fun _ _ => True) 4 0 () (by omega) trivial ?_ ?_
  · intro n _ _
    exact pk_le 4 4 (fun _ => H) (fun z => absurd z (by omega))
  · intro n i _ hi _ hw
    have hw' := hw () trivial
    have c : (nI i).toNatClampNeg = i := ip_c (by omega)
    have hli := hl i hi
    refine pk_le 4 i (fun z => absurd z (by omega)) (fun _ => ⟨pk_in i 8 (by omega), ?_⟩)
    refine pk_le L (l i) (fun e => nm_r ?_ (nm_r (nI_1 i) hw')) (fun e => ⟨pk_in i 8 (by omega), nm_r ?_ (nm_r (nI_1 i) hw')⟩) rfl (by rw [c]; exact h5 i hi)
    · rw [nI_add]
      show nI (_ + L) = nI (_ + min (l i) L)
      rw [Nat.min_eq_right e]
    · rw [c, h5 i hi, nI_add]
      show nI (_ + l i) = nI (_ + min (l i) L)
      rw [Nat.min_eq_left (by omega)]
theorem ip_lost {post : Int32 → Prop} {L : Nat} (h5 : ip_ar a5 l) (hl : ∀ j, j < 4 → l j ≤ 150) (hL : L ≤ 150) (H : post (nI (ip_sm (fun j => l j - L) 4))) : wpX_lost post (nI 4, f1, f2, a1, a2, a3, a4, a5, a6) (nI L) := by
  refine pk_loop (σ := Unit) (fun n i _ => wX_lost_4 post (nI L) (nI 4) f1 f2 a1 a2 a3 a4 a5 a6 n (nI (ip_sm (fun j => l j - L) i)) (nI i)) (fun _ _ => True) 4 0 () (by omega) trivial ?_ ?_
  · intro n _ _
    exact pk_le 4 4 (fun _ => H) (fun z => absurd z (by omega))
  · intro n i _ hi _ hw
    have hw' := hw () trivial
    have c : (nI i).toNatClampNeg = i := ip_c (by omega)
    have hli := hl i hi
    refine pk_le 4 i (fun z => absurd z (by omega)) (fun _ => ⟨pk_in i 8 (by omega), ?_⟩)
    refine pk_le (l i) L (fun e => nm_r ?_ (nm_r (nI_1 i) hw')) (fun e => ⟨pk_in i 8 (by omega), nm_r ?_ (nm_r (nI_1 i) hw')⟩) (by rw [c]; exact h5 i hi) rfl
    · show nI _ + 0 = nI (_ + (l i - L))
      rw [Nat.sub_eq_zero_of_le e]
      exact nI_add _ 0
    · rw [c, h5 i hi, pk_sub (by omega), nI_add]
      rfl
theorem ip_dec {r z : Nat} (hz : z ≤ 1) (hr : z ≤ r) : (z = 0 → nI r - 0 = nI (r - z)) ∧ (z ≠ 0 → nI r - 1 = nI (r - z)) := by
  refine ⟨fun e => ?_, fun e => ?_⟩
  · subst e
    exact pk_sub hr
  · have e1 : z = 1 := by omega
    subst e1
    exact pk_sub hr
theorem ip_award141 {post : St2 → Prop} {J : Int32 → Int32 → (Nat → Int32) → (Nat → Int32) → (Nat → Int32) → (Nat → Int32) → (Nat → Int32) → (Nat → Int32) → Prop} {x2 z1 z2 : Int32} {r i z : Nat} (hi : i < 4) (hz : z ≤ 1) (hr : z ≤ r)
    (HJ : J (nI (r - z)) (nI (i + 1)) a1 a2 a3 (upd a4 i (z2 + (z1 + nI z))) a5 a6) : wX_award_141 post J x2 (nI r) (nI i) (nI z) (nI z) z1 z2 (nI i) (nI 4) f1 f2 a1 a2 a3 a4 a5 a6 := by
  have c : (nI i).toNatClampNeg = i := ip_c (by omega)
  unfold wX_award_141
  exact ⟨pk_in i 8 (by omega), nm_r (by rw [c]) (pk_eq z 0 (fun e => nm_r ((ip_dec hz hr).1 e) (nm_r (nI_1 i) HJ)) (fun e => nm_r ((ip_dec hz hr).2 e) (nm_r (nI_1 i) HJ)))⟩
theorem ip_award131 {post : St2 → Prop} {J : Int32 → Int32 → (Nat → Int32) → (Nat → Int32) → (Nat → Int32) → (Nat → Int32) → (Nat → Int32) → (Nat → Int32) → Prop} {x2 z1 z2 : Int32} {r i z : Nat} (hi : i < 4) (hz : z ≤ 1) (hr : z ≤ r)
    (HJ : J (nI (r - z)) (nI (i + 1)) a1 a2 a3 (upd a4 i (z2 + (z1 + nI z))) a5 a6) : wX_award_131 post J x2 (nI r) (nI i) (nI z) z1 z2 (nI i) (nI 4) f1 f2 a1 a2 a3 a4 a5 a6 := by
  unfold wX_award_131
  refine pk_eq z 0 (fun e => ?_) (fun e => ?_)
  · subst e
    exact ip_award141 (z := 0) hi hz hr HJ
  · have e1 : z = 1 := by omega
    subst e1
    exact ip_award141 (z := 1) hi hz hr HJ
theorem ip_award99 {post : St2 → Prop} {J : Int32 → Int32 → (Nat → Int32) → (Nat → Int32) → (Nat → Int32) → (Nat → Int32) → (Nat → Int32) → (Nat → Int32) → Prop} {L r i z : Nat} (hi : i < 4) (hz : z ≤ 1) (hr : z ≤ r) (h4 : a4 i = nI (g i)) (h5 : a5 i = nI (l i)) (hl : l i ≤ 150) (hL : L ≤ 150)
    (HJ : J (nI (r - z)) (nI (i + 1)) a1 a2 a3 (upd a4 i (nI (g i + (min (l i) L + z)))) a5 a6) : wX_award_99 post J (nI L) (nI r) (nI i) (nI z) (nI 4) f1 f2 a1 a2 a3 a4 a5 a6 := by
  have c : (nI i).toNatClampNeg = i := ip_c (by omega)
  unfold wX_award_99
  refine ⟨pk_in i 8 (by omega), pk_in i 8 (by omega), pk_le L (l i) (fun e => ip_award131 hi hz hr ?_) (fun e => ⟨pk_in i 8 (by omega), ip_award131 hi hz hr ?_⟩) rfl (by rw [c]; exact h5)⟩
  · rw [c, h4, nI_add, nI_add]
    rw [Nat.min_eq_right e] at HJ
    exact HJ
  · rw [c, h4, h5, nI_add, nI_add]
    rw [Nat.min_eq_left (by omega)] at HJ
    exact HJ
theorem ip_award69 {post : St2 → Prop} {L q : Nat} (h4 : ip_ar a4 g) (h5 : ip_ar a5 l) (hl : ∀ j, j < 4 → l j ≤ 150) (hL : L ≤ 150) (hq : q < 2 ^ 30) (H : ∀ s, ip_ar s (fun j => g j + ip_ao l L q j) → post (nI 4, f1, f2, a1, a2, a3, s, a5, a6)) : ∃ n, wX_award_69 post (nI L) (nI 4) f1 f2 n (nI q) 0 a1 a2 a3 a4 a5 a6 := by
  refine pk_loop (fun n i s => wX_award_69 post (nI L) (nI 4) f1 f2 n (nI (ip_rs (fun i => decide (L < l i)) q i)) (nI i) a1 a2 a3 s a5 a6) (fun i s => (∀ j, j < i → s j = nI (g j + ip_ao l L q j)) ∧ (∀ j, i ≤ j → j < 4 → s j = nI (g j))) 4 0 a4 (by omega) ⟨fun j hj => absurd hj (by omega), fun j _ hj => h4 j hj⟩ ?_ ?_
  · intro n s h
    exact pk_le 4 4 (fun _ => H s h.1) (fun z => absurd z (by omega))
  · intro n i s hi h hw
    have c : (nI i).toNatClampNeg = i := ip_c (by omega)
    have hw' : wX_award_69 post (nI L) (nI 4) f1 f2 n (nI (ip_rs (fun i => decide (L < l i)) q (i + 1))) (nI (i + 1)) a1 a2 a3 (upd s i (nI (g i + ip_ao l L q i))) a5 a6 := hw _ ⟨ip_fill (w := fun j => g j + ip_ao l L q j) h.1 rfl, ip_keep h.2⟩
    rw [ip_rs_s] at hw'
    unfold ip_ao at hw'
    have hr0 : ip_rs (fun i => decide (L < l i)) q i ≤ q := ip_rs_an _ q (Nat.zero_le i)
    have hli := hl i hi
    have hm := ip_mo_le (fun i => decide (L < l i)) q i
    have t := ip_award99 (post := post) (f1 := f1) (f2 := f2) (g := g) (l := l) hi hm.1 hm.2 (h.2 i (Nat.le_refl i) hi) (h5 i hi) hli hL hw'
    refine pk_le 4 i (fun z => absurd z (by omega)) (fun _ => ⟨pk_in i 8 (by omega), pk_le (l i) L (fun z => ?_) (fun z => pk_le (ip_rs (fun i => decide (L < l i)) q i) 0 (fun y => ?_) (fun y => ?_)) (by rw [c]; exact h5 i hi) rfl⟩)
    · have m0 : ip_mo (fun i => decide (L < l i)) q i = 0 := if_neg (fun w => absurd (of_decide_eq_true w.1) (by omega))
      rw [m0] at t
      exact t
    · have m0 : ip_mo (fun i => decide (L < l i)) q i = 0 := if_neg (fun w => absurd w.2 (by omega))
      rw [m0] at t
      exact t
    · have m0 : ip_mo (fun i => decide (L < l i)) q i = 1 := if_pos ⟨decide_eq_true z, y⟩
      rw [m0] at t
      exact t
/-- how wide the search still is -/
def ip_w : Nat → Nat
  | 0 => 150
  | k + 1 => ip_w k / 2
theorem ip_w9 : ip_w 9 = 0 := rfl
theorem ip_award {post : St2 → Prop} {u : Nat} (h4 : ip_ar a4 g) (h5 : ip_ar a5 l) (hl : ∀ j, j < 4 → l j ≤ 150) (hu : u ≤ ip_sm l 4)
    (H : ∀ o s, (∀ j, j < 4 → o j ≤ l j) → ip_sm o 4 = u → ip_Sp 4 ip_l0 l o → ip_ar s (fun j => g j + o j) → post (nI 4, f1, f2, a1, a2, a3, s, a5, a6)) : wpX_award post (nI 4, f1, f2, a1, a2, a3, a4, a5, a6) (nI u) := by
  have hsl : ip_sm l 4 ≤ 4000 := ip_sm_bd (b := 150) hl (Nat.le_refl 4) (Nat.le_refl 4) (by omega)
  have hA : ∀ L, ip_sm (fun j => min (l j) L) 4 ≤ 4000 := fun L => Nat.le_trans (ip_sm_le (fun j _ => Nat.min_le_left _ _)) hsl
  have fin : ∀ L, L ≤ 150 → ip_sm (fun j => min (l j) L) 4 ≤ u → (L = 150 ∨ u < ip_sm (fun j => min (l j) (L + 1)) 4) → wX_award_57 post (nI u) (nI L) (nI 4) f1 f2 a1 a2 a3 a4 a5 a6 := by
    intro L hL e1 e2
    unfold wX_award_57
    refine ip_awarded h5 hl hL ?_
    refine nm_r (pk_sub e1) ?_
    refine ip_award69 h4 h5 hl hL (by omega) (fun s hs => ?_)
    have t := ip_aw hl hu e1 e2 rfl
    exact H _ s t.1 t.2.1 t.2.2 hs
  refine pk_loop (fun n k (s : Nat × Nat) => wX_award_9 post (nI u) (nI 4) f1 f2 a1 a2 a3 a4 a5 a6 n (nI s.1) (nI s.2) (nI k)) (fun k s => s.1 ≤ s.2 ∧ s.2 ≤ 150 ∧ s.2 - s.1 ≤ ip_w k ∧ ip_sm (fun j => min (l j) s.1) 4 ≤ u ∧ (s.2 = 150 ∨ u < ip_sm (fun j => min (l j) (s.2 + 1)) 4)) 9 0 (0, 150) (by omega) ⟨Nat.zero_le _, Nat.le_refl _, Nat.le_refl _, ?_, Or.inl rfl⟩ ?_ ?_
  · rw [ip_sm_4]
    show min (l 0) 0 + min (l 1) 0 + min (l 2) 0 + min (l 3) 0 ≤ u
    omega
  · intro n s h
    obtain ⟨lo, hi⟩ := s
    have h' : lo ≤ hi ∧ hi ≤ 150 ∧ hi - lo ≤ ip_w 9 ∧ ip_sm (fun j => min (l j) lo) 4 ≤ u ∧ (hi = 150 ∨ u < ip_sm (fun j => min (l j) (hi + 1)) 4) := h
    obtain ⟨b1, b2, b3, b4, b5⟩ := h'
    rw [ip_w9] at b3
    have e : hi = lo := by omega
    subst e
    exact pk_le 9 9 (fun _ => fin hi b2 b4 b5) (fun z => absurd z (by omega))
  · intro n k s hk h hw
    obtain ⟨lo, hi⟩ := s
    have h' : lo ≤ hi ∧ hi ≤ 150 ∧ hi - lo ≤ ip_w k ∧ ip_sm (fun j => min (l j) lo) 4 ≤ u ∧ (hi = 150 ∨ u < ip_sm (fun j => min (l j) (hi + 1)) 4) := h
    obtain ⟨b1, b2, b3, b4, b5⟩ := h'
    have hw' : ∀ lo' hi' : Nat, (lo' ≤ hi' ∧ hi' ≤ 150 ∧ hi' - lo' ≤ ip_w k / 2 ∧ ip_sm (fun j => min (l j) lo') 4 ≤ u ∧ (hi' = 150 ∨ u < ip_sm (fun j => min (l j) (hi' + 1)) 4)) → wX_award_9 post (nI u) (nI 4) f1 f2 a1 a2 a3 a4 a5 a6 n (nI lo') (nI hi') (nI (k + 1)) := fun lo' hi' h => hw (lo', hi') h
    refine pk_le 9 k (fun z => absurd z (by omega)) (fun _ => ?_)
    refine pk_le hi lo (fun z => ?_) (fun z => ?_)
    · have e : hi = lo := by omega
      subst e
      exact fin hi b2 b4 b5
    · refine nm_r (e' := nI ((lo + hi + 1) / 2)) ?_ ?_
      · show (nI lo + nI hi + 1) >>> ((1 : Int32) &&& 31) = _
        rw [nI_add, nI_1]
        exact pk_shrN (n := lo + hi + 1) (by omega) _ 1 (by decide)
      · have hm : ∃ m, m = (lo + hi + 1) / 2 := ⟨_, rfl⟩
        obtain ⟨m, em⟩ := hm
        rw [← em]
        have hAm := hA m
        refine ip_awarded h5 hl (by omega) ?_
        refine pk_lt u (ip_sm (fun j => min (l j) m) 4) (fun y => nm_r (e' := nI (m - 1)) (pk_sub (a := m) (b := 1) (by omega)) (nm_r (nI_1 k) (hw' lo (m - 1) ⟨by omega, by omega, by omega, b4, Or.inr ?_⟩))) (fun y => nm_r (nI_1 k) (hw' m hi ⟨by omega, b2, by omega, y, b5⟩))
        rw [Nat.sub_add_cancel (by omega)]
        exact y
theorem ip_lose155 {post : St2 → Prop} {J : Int32 → Int32 → (Nat → Int32) → (Nat → Int32) → (Nat → Int32) → (Nat → Int32) → (Nat → Int32) → (Nat → Int32) → Prop} {x2 z1 z2 : Int32} {r i z : Nat} (hi : i < 4) (hz : z ≤ 1) (hr : z ≤ r)
    (HJ : J (nI (r - z)) (nI (i + 1)) a1 a2 a3 (upd a4 i (z2 + (z1 + nI z))) a5 a6) : wX_lose_155 post J x2 (nI r) (nI i) (nI z) (nI z) z1 z2 (nI i) (nI 4) f1 f2 a1 a2 a3 a4 a5 a6 := by
  have c : (nI i).toNatClampNeg = i := ip_c (by omega)
  unfold wX_lose_155
  exact ⟨pk_in i 8 (by omega), nm_r (by rw [c]) (pk_eq z 0 (fun e => nm_r ((ip_dec hz hr).1 e) (nm_r (nI_1 i) HJ)) (fun e => nm_r ((ip_dec hz hr).2 e) (nm_r (nI_1 i) HJ)))⟩
theorem ip_lose145 {post : St2 → Prop} {J : Int32 → Int32 → (Nat → Int32) → (Nat → Int32) → (Nat → Int32) → (Nat → Int32) → (Nat → Int32) → (Nat → Int32) → Prop} {x2 z1 z2 : Int32} {r i z : Nat} (hi : i < 4) (hz : z ≤ 1) (hr : z ≤ r)
    (HJ : J (nI (r - z)) (nI (i + 1)) a1 a2 a3 (upd a4 i (z2 + (z1 + nI z))) a5 a6) : wX_lose_145 post J x2 (nI r) (nI i) (nI z) z1 z2 (nI i) (nI 4) f1 f2 a1 a2 a3 a4 a5 a6 := by
  unfold wX_lose_145
  refine pk_eq z 0 (fun e => ?_) (fun e => ?_)
  · subst e
    exact ip_lose155 (z := 0) hi hz hr HJ
  · have e1 : z = 1 := by omega
    subst e1
    exact ip_lose155 (z := 1) hi hz hr HJ
theorem ip_lose111 {post : St2 → Prop} {J : Int32 → Int32 → (Nat → Int32) → (Nat → Int32) → (Nat → Int32) → (Nat → Int32) → (Nat → Int32) → (Nat → Int32) → Prop} {L r i z : Nat} (hi : i < 4) (hz : z ≤ 1) (hr : z ≤ r) (h4 : a4 i = nI (g i)) (h5 : a5 i = nI (l i)) (hl : l i ≤ 150) (hL : L ≤ 150)
    (HJ : J (nI (r - z)) (nI (i + 1)) a1 a2 a3 (upd a4 i (nI (g i + ((l i - L) + z)))) a5 a6) : wX_lose_111 post J (nI L) (nI r) (nI i) (nI z) (nI 4) f1 f2 a1 a2 a3 a4 a5 a6 := by
  have c : (nI i).toNatClampNeg = i := ip_c (by omega)
  unfold wX_lose_111
  refine ⟨pk_in i 8 (by omega), pk_in i 8 (by omega), pk_le (l i) L (fun e => ip_lose145 hi hz hr ?_) (fun e => ⟨pk_in i 8 (by omega), ip_lose145 hi hz hr ?_⟩) (by rw [c]; exact h5) rfl⟩
  · rw [c, h4, ← nI_0, nI_add, nI_add]
    rw [Nat.sub_eq_zero_of_le e] at HJ
    exact HJ
  · rw [c, h4, h5, pk_sub (by omega), nI_add, nI_add]
    exact HJ
theorem ip_lose67 {post : St2 → Prop} {L q : Nat} (h4 : ip_ar a4 g) (h5 : ip_ar a5 l) (hl : ∀ j, j < 4 → l j ≤ 150) (hL : L ≤ 150) (hq : q < 2 ^ 30) (H : ∀ s, ip_ar s (fun j => g j + ip_lo l L q j) → post (nI 4, f1, f2, a1, a2, a3, s, a5, a6)) : ∃ n, wX_lose_67 post (nI L) (nI 4) f1 f2 n (nI q) 0 a1 a2 a3 a4 a5 a6 := by
  refine pk_loop (fun n i s => wX_lose_67 post (nI L) (nI 4) f1 f2 n (nI (ip_rs (fun i => decide (L ≤ l i ∧ 0 < L)) q i)) (nI i) a1 a2 a3 s a5 a6) (fun i s => (∀ j, j < i → s j = nI (g j + ip_lo l L q j)) ∧ (∀ j, i ≤ j → j < 4 → s j = nI (g j))) 4 0 a4 (by omega) ⟨fun j hj => absurd hj (by omega), fun j _ hj => h4 j hj⟩ ?_ ?_
  · intro n s h
    exact pk_le 4 4 (fun _ => H s h.1) (fun z => absurd z (by omega))
  · intro n i s hi h hw
    have c : (nI i).toNatClampNeg = i := ip_c (by omega)
    have hw' : wX_lose_67 post (nI L) (nI 4) f1 f2 n (nI (ip_rs (fun i => decide (L ≤ l i ∧ 0 < L)) q (i + 1))) (nI (i + 1)) a1 a2 a3 (upd s i (nI (g i + ip_lo l L q i))) a5 a6 := hw _ ⟨ip_fill (w := fun j => g j + ip_lo l L q j) h.1 rfl, ip_keep h.2⟩
    rw [ip_rs_s] at hw'
    unfold ip_lo at hw'
    have hr0 : ip_rs (fun i => decide (L ≤ l i ∧ 0 < L)) q i ≤ q := ip_rs_an _ q (Nat.zero_le i)
    have hli := hl i hi
    have hm := ip_mo_le (fun i => decide (L ≤ l i ∧ 0 < L)) q i
    have t := ip_lose111 (post := post) (f1 := f1) (f2 := f2) (g := g) (l := l) hi hm.1 hm.2 (h.2 i (Nat.le_refl i) hi) (h5 i hi) hli hL hw'
    have t0 : ¬ ((L ≤ l i ∧ 0 < L) ∧ 0 < ip_rs (fun i => decide (L ≤ l i ∧ 0 < L)) q i) → wX_lose_110 post (wX_lose_67 post (nI L) (nI 4) f1 f2 n) (nI L) (nI (ip_rs (fun i => decide (L ≤ l i ∧ 0 < L)) q i)) (nI i) (nI 4) f1 f2 a1 a2 a3 s a5 a6 := by
      intro y
      have m0 : ip_mo (fun i => decide (L ≤ l i ∧ 0 < L)) q i = 0 := if_neg (fun w => y ⟨of_decide_eq_true w.1, w.2⟩)
      rw [m0] at t
      exact t
    refine pk_le 4 i (fun z => absurd z (by omega)) (fun _ => ⟨pk_in i 8 (by omega), pk_lt (l i) L (fun z => t0 (by omega)) (fun z => ⟨pk_in i 8 (by omega), pk_le (l i) 0 (fun y => t0 (by omega)) (fun y => pk_le L 0 (fun w => t0 (by omega)) (fun w => pk_le (ip_rs (fun i => decide (L ≤ l i ∧ 0 < L)) q i) 0 (fun v => t0 (by omega)) (fun v => ?_))) (by rw [c]; exact h5 i hi) rfl⟩) (by rw [c]; exact h5 i hi) rfl⟩)
    have m0 : ip_mo (fun i => decide (L ≤ l i ∧ 0 < L)) q i = 1 := if_pos ⟨decide_eq_true ⟨z, w⟩, v⟩
    rw [m0] at t
    exact t
theorem ip_lose {post : St2 → Prop} {u : Nat} (h4 : ip_ar a4 g) (h5 : ip_ar a5 l) (hl : ∀ j, j < 4 → l j ≤ 150) (hu : u ≤ ip_sm l 4)
    (H : ∀ o s, (∀ j, j < 4 → o j ≤ l j) → ip_sm o 4 = u → ip_Sp 4 (ip_l1 l) l o → ip_ar s (fun j => g j + o j) → post (nI 4, f1, f2, a1, a2, a3, s, a5, a6)) : wpX_lose post (nI 4, f1, f2, a1, a2, a3, a4, a5, a6) (nI u) := by
  have hsl : ip_sm l 4 ≤ 4000 := ip_sm_bd (b := 150) hl (Nat.le_refl 4) (Nat.le_refl 4) (by omega)
  have hA : ∀ L, ip_sm (fun j => l j - L) 4 ≤ 4000 := fun L => Nat.le_trans (ip_sm_le (fun j _ => Nat.sub_le _ _)) hsl
  have fin : ∀ L, L ≤ 150 → ip_sm (fun j => l j - L) 4 ≤ u → (L = 0 ∨ u < ip_sm (fun j => l j - (L - 1)) 4) → wX_lose_55 post (nI u) (nI L) (nI 4) f1 f2 a1 a2 a3 a4 a5 a6 := by
    intro L hL e1 e2
    unfold wX_lose_55
    refine ip_lost h5 hl hL ?_
    refine nm_r (pk_sub e1) ?_
    refine ip_lose67 h4 h5 hl hL (by omega) (fun s hs => ?_)
    have t := ip_ls hu e1 e2 rfl
    exact H _ s t.1 t.2.1 t.2.2 hs
  refine pk_loop (fun n k (s : Nat × Nat) => wX_lose_9 post (nI u) (nI 4) f1 f2 a1 a2 a3 a4 a5 a6 n (nI s.1) (nI s.2) (nI k)) (fun k s => s.1 ≤ s.2 ∧ s.2 ≤ 150 ∧ s.2 - s.1 ≤ ip_w k ∧ ip_sm (fun j => l j - s.2) 4 ≤ u ∧ (s.1 = 0 ∨ u < ip_sm (fun j => l j - (s.1 - 1)) 4)) 9 0 (0, 150) (by omega) ⟨Nat.zero_le _, Nat.le_refl _, Nat.le_refl _, ?_, Or.inl rfl⟩ ?_ ?_
  · rw [ip_sm_4]
    have q0 := hl 0 (by omega)
    have q1 := hl 1 (by omega)
    have q2 := hl 2 (by omega)
    have q3 := hl 3 (by omega)
    show (l 0 - 150) + (l 1 - 150) + (l 2 - 150) + (l 3 - 150) ≤ u
    omega
  · intro n s h
    obtain ⟨lo, hi⟩ := s
    have h' : lo ≤ hi ∧ hi ≤ 150 ∧ hi - lo ≤ ip_w 9 ∧ ip_sm (fun j => l j - hi) 4 ≤ u ∧ (lo = 0 ∨ u < ip_sm (fun j => l j - (lo - 1)) 4) := h
    obtain ⟨b1, b2, b3, b4, b5⟩ := h'
    rw [ip_w9] at b3
    have e : hi = lo := by omega
    subst e
    exact pk_le 9 9 (fun _ => fin hi b2 b4 b5) (fun z => absurd z (by omega))
  · intro n k s hk h hw
    obtain ⟨lo, hi⟩ := s
    have h' : lo ≤ hi ∧ hi ≤ 150 ∧ hi - lo ≤ ip_w k ∧ ip_sm (fun j => l j - hi) 4 ≤ u ∧ (lo = 0 ∨ u < ip_sm (fun j => l j - (lo - 1)) 4) := h
    obtain ⟨b1, b2, b3, b4, b5⟩ := h'
    have hw' : ∀ lo' hi' : Nat, (lo' ≤ hi' ∧ hi' ≤ 150 ∧ hi' - lo' ≤ ip_w k / 2 ∧ ip_sm (fun j => l j - hi') 4 ≤ u ∧ (lo' = 0 ∨ u < ip_sm (fun j => l j - (lo' - 1)) 4)) → wX_lose_9 post (nI u) (nI 4) f1 f2 a1 a2 a3 a4 a5 a6 n (nI lo') (nI hi') (nI (k + 1)) := fun lo' hi' h => hw (lo', hi') h
    refine pk_le 9 k (fun z => absurd z (by omega)) (fun _ => ?_)
    refine pk_le hi lo (fun z => ?_) (fun z => ?_)
    · have e : hi = lo := by omega
      subst e
      exact fin hi b2 b4 b5
    · refine nm_r (e' := nI ((lo + hi) / 2)) ?_ ?_
      · show (nI lo + nI hi) >>> ((1 : Int32) &&& 31) = _
        rw [nI_add]
        exact pk_shrN (n := lo + hi) (by omega) _ 1 (by decide)
      · have hm : ∃ m, m = (lo + hi) / 2 := ⟨_, rfl⟩
        obtain ⟨m, em⟩ := hm
        rw [← em]
        have hAm := hA m
        refine ip_lost h5 hl (by omega) ?_
        exact pk_lt u (ip_sm (fun j => l j - m) 4) (fun y => nm_r (nI_1 m) (nm_r (nI_1 k) (hw' (m + 1) hi ⟨by omega, b2, by omega, b4, Or.inr y⟩))) (fun y => nm_r (nI_1 k) (hw' lo m ⟨by omega, by omega, by omega, y, b5⟩))
end
end
section
section
variable {f1 f2 : Int32} {a1 a2 a3 a4 a5 a6 : Nat → Int32} {x g o : Nat → Nat}
/-- the ranks: three of rank 1, one of rank 0 -/
def ip_rk (j : Nat) : Nat := if j < 3 then 1 else 0
theorem ip_rk_1 {j : Nat} (h : j < 3) : ip_rk j = 1 := if_pos h
theorem ip_rk_0 {j : Nat} (h : ¬ j < 3) : ip_rk j = 0 := if_neg h
theorem ip_rk_i {j : Nat} (h : ip_rk j = 1) : j < 3 := by
  rcases Nat.lt_or_ge j 3 with z | z
  · exact z
  · rw [ip_rk_0 (by omega)] at h
    omega
theorem ip_rk_n {j : Nat} (h : ip_rk j ≠ 1) : ¬ j < 3 := fun z => h (ip_rk_1 z)
theorem ip_rk_4 (j : Nat) : ip_rk j < 4 := by
  by_cases h : j < 3
  · rw [ip_rk_1 h]; omega
  · rw [ip_rk_0 h]; omega
theorem ip_mb {a b : Nat} (ha : a ≤ 31) (hb : b ≤ 32) : a * b < 2 ^ 31 := by
  have := Nat.mul_le_mul ha hb
  omega
theorem ip_mb2 {a b : Nat} (ha : a ≤ 93) (hb : b ≤ 31) : a * b < 2 ^ 31 := by
  have := Nat.mul_le_mul ha hb
  omega
/-- the search for the greatest quotient -/
theorem ip_quo87 {post : St2 → Prop} {J : Int32 → Int32 → (Nat → Int32) → (Nat → Int32) → (Nat → Int32) → (Nat → Int32) → (Nat → Int32) → (Nat → Int32) → Prop} {r k : Nat} (h1 : ip_ar a1 x) (h2 : ip_ar a2 ip_rk) (h4 : ip_ar a4 (fun j => if j < 3 then o j else g j)) (hx : ∀ j, j < 4 → x j ≤ 31) (ho : ∀ j, j < 3 → o j ≤ x j) (hr : 0 < r) (hs : ip_sm o 3 < ip_sm x 3)
    (H : ∀ c, c < 3 → o c < x c → (∀ d, d < 3 → d ≠ c → o d < x d → ip_l2 x c (o c) d (o d)) → J (nI (r - 1)) (nI (k + 1)) a1 a2 a3 (upd a4 c (nI (o c + 1))) a5 a6) : ∃ n, wX_quotas_87 post J (nI 1) (nI r) (nI k) (nI 4) f1 f2 a1 a2 a3 a4 a5 a6 n (-1) 0 := by
  have h4' : ∀ j, j < 3 → a4 j = nI (o j) := fun j hj => by
    rw [h4 j (by omega)]
    show nI (if j < 3 then o j else g j) = _
    rw [if_pos hj]
  obtain ⟨ht, _, _, hto⟩ := ip_o2 x
  refine pk_loop (fun n i b => wX_quotas_87 post J (nI 1) (nI r) (nI k) (nI 4) f1 f2 a1 a2 a3 a4 a5 a6 n b (nI i)) (fun i b => ip_B (fun d => d < 3 ∧ o d < x d) (fun c d => ip_l2 x c (o c) d (o d)) i b) 4 0 (-1) (by omega) ip_B0 ?_ ?_
  · intro n b h
    refine pk_le 4 4 (fun _ => ?_) (fun z => absurd z (by omega))
    rcases h with ⟨_, hn⟩ | ⟨c, hc, hb, hin, hl⟩
    · exfalso
      have n0 : ¬ (0 < 3 ∧ o 0 < x 0) := hn 0 (by omega)
      have n1 : ¬ (1 < 3 ∧ o 1 < x 1) := hn 1 (by omega)
      have n2 : ¬ (2 < 3 ∧ o 2 < x 2) := hn 2 (by omega)
      rw [ip_sm_3, ip_sm_3] at hs
      omega
    · have hin' : c < 3 ∧ o c < x c := hin
      have cc : (nI c).toNatClampNeg = c := ip_c (by omega)
      subst hb
      refine br_f (nI_pos (by omega)) ⟨pk_in c 8 (by omega), pk_in c 8 (by omega), nm_r (e' := upd a4 c (nI (o c + 1))) ?_ (nm_r (sb_m1 hr) (nm_r (nI_1 k) ?_))⟩
      · rw [cc, h4' c hin'.1, nI_1]
      · exact H c hin'.1 hin'.2 (fun d hd ne z => hl d (by omega) ne ⟨hd, z⟩)
  · intro n i b hi h hw
    have ci : (nI i).toNatClampNeg = i := ip_c (by omega)
    have hrk := ip_rk_4 i
    refine pk_le 4 i (fun z => absurd z (by omega)) (fun _ => ⟨pk_in i 8 (by omega), ?_⟩)
    refine pk_eq (ip_rk i) 1 (fun e => ⟨pk_in i 8 (by omega), pk_in i 8 (by omega), ?_⟩) (fun e => nm_r (nI_1 i) (hw b (ip_Bs h (fun z => ip_rk_n e z.1)))) (by rw [ci]; exact h2 i hi) rfl
    have i3 := ip_rk_i e
    have hxi := hx i hi
    have hoi := ho i i3
    refine pk_le (x i) (o i) (fun z => nm_r (nI_1 i) (hw b (ip_Bs h (fun y => by omega)))) (fun z => ?_) (by rw [ci]; exact h1 i hi) (by rw [ci]; exact h4' i i3)
    rcases h with ⟨hb, hn⟩ | ⟨c, hc, hb, hin, hl⟩
    · subst hb
      exact br_t (by decide) (nm_r (nI_1 i) (hw _ (ip_Bn hn ⟨i3, z⟩)))
    · subst hb
      have hin' : c < 3 ∧ o c < x c := hin
      have cc : (nI c).toNatClampNeg = c := ip_c (by omega)
      have hxc := hx c (by omega)
      refine br_f (nI_pos (by omega)) ?_
      refine ⟨pk_in i 8 (by omega), pk_in c 8 (by omega), pk_in c 8 (by omega), pk_in i 8 (by omega), ?_⟩
      refine pk_le (x i * (o c + 1)) (x c * (o i + 1)) (fun y => br_t rfl (nm_r (nI_1 i) (hw _ (ip_Bk hc hin hl ?_)))) (fun y => br_f (by decide) (nm_r (nI_1 i) (hw _ (ip_Bt (fun a b d => ht _ _ _ _ _ _) hl ⟨i3, z⟩ (Or.inl y))))) (by rw [ci, cc, h1 i hi, h4' c hin'.1, nI_1, pk_mul]) (by rw [ci, cc, h1 c (by omega), h4' i i3, nI_1, pk_mul]) (ip_mb hxi (by omega)) (ip_mb hxc (by omega))
      rcases Nat.lt_or_eq_of_le y with w | w
      · exact Or.inl w
      · exact Or.inr ⟨w, hc⟩
theorem ip_quo69 {post : St2 → Prop} {u r : Nat} (h1 : ip_ar a1 x) (h2 : ip_ar a2 ip_rk) (h4 : ip_ar a4 (fun j => if j < 3 then o j else g j)) (hx : ∀ j, j < 4 → x j ≤ 31) (ho : ∀ j, j < 3 → o j ≤ x j) (hu : u ≤ ip_sm x 3) (hr : ip_sm o 3 + r = u) (hr3 : r ≤ 3) (hsp : ip_Sp 3 (ip_l2 x) x o)
    (H : ∀ o s, (∀ j, j < 3 → o j ≤ x j) → ip_sm o 3 = u → ip_Sp 3 (ip_l2 x) x o → ip_ar s (fun j => if j < 3 then o j else g j) → post (nI 4, f1, f2, a1, a2, a3, s, a5, a6)) : ∃ n, wX_quotas_69 post (nI 1) (nI 4) f1 f2 n (nI r) 0 a1 a2 a3 a4 a5 a6 := by
  refine pk_loop (fun n k (s : (Nat → Int32) × Nat) => wX_quotas_69 post (nI 1) (nI 4) f1 f2 n (nI s.2) (nI k) a1 a2 a3 s.1 a5 a6) (fun k s => ∃ o, (∀ j, j < 3 → o j ≤ x j) ∧ ip_sm o 3 + s.2 = u ∧ ip_Sp 3 (ip_l2 x) x o ∧ ip_ar s.1 (fun j => if j < 3 then o j else g j) ∧ s.2 + k ≤ 3) 8 0 (a4, r) (by omega) ⟨o, ho, hr, hsp, h4, by omega⟩ ?_ ?_
  · intro n s h
    obtain ⟨s4, r'⟩ := s
    obtain ⟨o', q1, q2, q3, q4, q5⟩ := h
    have q5' : r' + 8 ≤ 3 := q5
    omega
  · intro n k s hk h hw
    obtain ⟨s4, r'⟩ := s
    obtain ⟨o', q1, q2, q3, q4, q5⟩ := h
    have q2' : ip_sm o' 3 + r' = u := q2
    have q4' : ip_ar s4 (fun j => if j < 3 then o' j else g j) := q4
    have q5' : r' + k ≤ 3 := q5
    refine pk_le 8 k (fun z => absurd z (by omega)) (fun _ => pk_le r' 0 (fun z => H o' s4 q1 (by omega) q3 q4') (fun z => ?_))
    refine ip_quo87 h1 h2 q4' hx q1 z (by omega) (fun c hc hin hl => ?_)
    refine hw (upd s4 c (nI (o' c + 1)), r' - 1) ⟨ip_up o' c, ip_up_le q1 hin, ?_, ip_st (ip_o2 x) q3 hc hl, ?_, ?_⟩
    · rw [ip_up_sm o' hc]
      show ip_sm o' 3 + 1 + (r' - 1) = u
      omega
    · intro j hj
      show upd s4 c (nI (o' c + 1)) j = nI (if j < 3 then ip_up o' c j else g j)
      by_cases e : j = c
      · subst e
        rw [pk_us, if_pos hc, ip_up_s]
      · rw [pk_un e, ip_up_n _ e]
        exact q4' j hj
    · show r' - 1 + (k + 1) ≤ 3
      omega
theorem ip_quotas {post : St2 → Prop} {u S : Nat} (h1 : ip_ar a1 x) (h2 : ip_ar a2 ip_rk) (h4 : ip_ar a4 g) (hg : ∀ j, j < 3 → g j = 0) (hx : ∀ j, j < 4 → x j ≤ 31) (hS : S = ip_sm x 3) (hu : u ≤ S)
    (H : ∀ o s, (∀ j, j < 3 → o j ≤ x j) → ip_sm o 3 = u → ip_Sp 3 (ip_l2 x) x o → ip_ar s (fun j => if j < 3 then o j else g j) → post (nI 4, f1, f2, a1, a2, a3, s, a5, a6)) : wpX_quotas post (nI 4, f1, f2, a1, a2, a3, a4, a5, a6) (nI 1) (nI u) (nI S) := by
  have S93 : S ≤ 93 := by
    have b0 := hx 0 (by omega)
    have b1 := hx 1 (by omega)
    have b2 := hx 2 (by omega)
    rw [ip_sm_3] at hS
    omega
  obtain ⟨k1, k2, k3, k4⟩ := ip_q0 hS hu
  have w4 : ip_sm (fun j => if j < 3 then u * x j / S else 0) 4 = ip_sm (fun j => u * x j / S) 3 := by
    rw [ip_sm_4, ip_sm_3]
    rfl
  have wle : ∀ i, i < 4 → ip_sm (fun j => if j < 3 then u * x j / S else 0) i + (if i < 3 then u * x i / S else 0) ≤ u := by
    intro i hi
    have mono : ∀ k, i + 1 + k ≤ 4 → ip_sm (fun j => if j < 3 then u * x j / S else 0) (i + 1) ≤ ip_sm (fun j => if j < 3 then u * x j / S else 0) (i + 1 + k) := by
      intro k
      induction k with
      | zero => intro _; exact Nat.le_refl _
      | succ k ih => intro hk; exact Nat.le_trans (ih (by omega)) (Nat.le_add_right _ _)
    have m := mono (3 - i) (by omega)
    rw [show i + 1 + (3 - i) = 4 by omega, w4] at m
    exact Nat.le_trans m k2
  refine pk_loop (fun n i s => wX_quotas_6 post (nI 1) (nI u) (nI S) (nI 4) f1 f2 n (nI (u - ip_sm (fun j => if j < 3 then u * x j / S else 0) i)) (nI i) a1 a2 a3 s a5 a6) (fun i s => (∀ j, j < i → s j = nI ((fun j => if j < 3 then u * x j / S else g j) j)) ∧ (∀ j, i ≤ j → j < 4 → s j = nI (g j))) 4 0 a4 (by omega) ⟨fun j hj => absurd hj (by omega), fun j _ hj => h4 j hj⟩ ?_ ?_
  · intro n s h
    refine pk_le 4 4 (fun _ => ?_) (fun z => absurd z (by omega))
    rw [w4]
    exact ip_quo69 (o := fun j => u * x j / S) h1 h2 h.1 hx k1 (by omega) (by omega) (by omega) k4 H
  · intro n i s hi h hw
    have ci : (nI i).toNatClampNeg = i := ip_c (by omega)
    have hrk := ip_rk_4 i
    have wi := wle i hi
    have hxi := hx i hi
    refine pk_le 4 i (fun z => absurd z (by omega)) (fun _ => ⟨pk_in i 8 (by omega), ?_⟩)
    refine pk_eq (ip_rk i) 1 (fun e => ?_) (fun e => nm_r (nI_1 i) ?_) (by rw [ci]; exact h2 i hi) rfl
    · have i3 := ip_rk_i e
      rw [if_pos i3] at wi
      refine pk_le S 0 (fun z => nm_r (nI_1 i) ?_) (fun z => ⟨pk_in i 8 (by omega), nI_ne0 z (by omega), pk_in i 8 (by omega), nm_r (e' := upd s i (nI (u * x i / S))) ?_ ⟨pk_in i 8 (by omega), nm_r (e' := nI (u - ip_sm (fun j => if j < 3 then u * x j / S else 0) i - u * x i / S)) ?_ (nm_r (nI_1 i) ?_)⟩⟩)
      · have S0 : S = 0 := by omega
        have q0 : u * x i / S = 0 := by rw [S0, Nat.div_zero]
        have t : wX_quotas_6 post (nI 1) (nI u) (nI S) (nI 4) f1 f2 n (nI (u - (ip_sm (fun j => if j < 3 then u * x j / S else 0) i + (if i < 3 then u * x i / S else 0)))) (nI (i + 1)) a1 a2 a3 s a5 a6 := by
          refine hw s ⟨?_, fun j hj hj' => h.2 j (by omega) hj'⟩
          refine lt_s h.1 ?_
          rw [h.2 i (Nat.le_refl i) hi, hg i i3]
          show nI 0 = nI (if i < 3 then u * x i / S else g i)
          rw [if_pos i3, q0]
        rw [if_pos i3, q0, Nat.add_zero] at t
        exact t
      · rw [ci, h1 i hi, pk_mul, pk_div (ip_mb2 (by omega) hxi) z (by omega)]
      · rw [ci, pk_us]
        exact pk_sub (by omega)
      · have t : wX_quotas_6 post (nI 1) (nI u) (nI S) (nI 4) f1 f2 n (nI (u - (ip_sm (fun j => if j < 3 then u * x j / S else 0) i + (if i < 3 then u * x i / S else 0)))) (nI (i + 1)) a1 a2 a3 (upd s i (nI (u * x i / S))) a5 a6 := by
          refine hw _ ⟨ip_fill (w := fun j => if j < 3 then u * x j / S else g j) h.1 ?_, ip_keep h.2⟩
          show nI (u * x i / S) = nI (if i < 3 then u * x i / S else g i)
          rw [if_pos i3]
        rw [if_pos i3, ← Nat.sub_sub] at t
        exact t
    · have i3 := ip_rk_n e
      have t : wX_quotas_6 post (nI 1) (nI u) (nI S) (nI 4) f1 f2 n (nI (u - (ip_sm (fun j => if j < 3 then u * x j / S else 0) i + (if i < 3 then u * x i / S else 0)))) (nI (i + 1)) a1 a2 a3 s a5 a6 := by
        refine hw s ⟨?_, fun j hj hj' => h.2 j (by omega) hj'⟩
        refine lt_s h.1 ?_
        rw [h.2 i (Nat.le_refl i) hi]
        show nI (g i) = nI (if i < 3 then u * x i / S else g i)
        rw [if_neg i3]
      rw [if_neg i3, Nat.add_zero] at t
      exact t
end
end
section
section
variable {f1 f2 : Int32} {a1 a2 a3 a4 a5 a6 : Nat → Int32} {x rk g o : Nat → Nat}
theorem ip_loseE {post : St2 → Prop} {u : Nat} {v : Int32} {l : Nat → Nat} (hv : v = nI u) (h4 : ip_ar a4 g) (h5 : ip_ar a5 l) (hl : ∀ j, j < 4 → l j ≤ 150) (hu : u ≤ ip_sm l 4)
    (H : ∀ o s, (∀ j, j < 4 → o j ≤ l j) → ip_sm o 4 = u → ip_Sp 4 (ip_l1 l) l o → ip_ar s (fun j => g j + o j) → post (nI 4, f1, f2, a1, a2, a3, s, a5, a6)) : wpX_lose post (nI 4, f1, f2, a1, a2, a3, a4, a5, a6) v := by
  subst hv
  exact ip_lose h4 h5 hl hu H
/-- a rank under the rule EQUAL -/
theorem ip_rankE {post : St2 → Prop} {p u : Nat} {t : Int32} (h1 : ip_ar a1 x) (h2 : ip_ar a2 rk) (h3 : a3 p = nI 0) (h4 : ip_ar a4 g) (hk : ∀ j, j < 4 → rk j < 4) (hp : p < 4) (hx : ∀ j, j < 4 → x j ≤ 31) (hg : ∀ j, j < 4 → rk j = p → g j ≤ x j) (hu : u ≤ ip_sm (fun j => if rk j = p then x j - g j else 0) 4)
    (H : ∀ o s4 s5, (∀ j, j < 4 → o j ≤ (if rk j = p then x j - g j else 0)) → ip_sm o 4 = u → ip_Sp 4 ip_l0 (fun j => if rk j = p then x j - g j else 0) o → ip_ar s4 (fun j => g j + o j) → post (nI 4, f1, f2, a1, a2, a3, s4, s5, a6)) : wpX_shareRank post (nI 4, f1, f2, a1, a2, a3, a4, a5, a6) (nI p) (nI u) t := by
  refine ⟨pk_in p 4 hp, br_t (by rw [ip_c (by omega)]; exact h3) ?_⟩
  refine ip_limits (v := 0) (m := x) (l := fun j => if rk j = p then x j - g j else 0) h1 h2 h4 hk hp (fun j hj => Nat.le_trans (hx j hj) (by omega)) (Or.inl ⟨rfl, rfl⟩) hg (fun j _ => rfl) (fun s5 hs5 => ?_)
  refine ip_award h4 hs5 (fun j hj => ?_) hu (fun o s4 q1 q2 q3 q4 => H o s4 s5 q1 q2 q3 q4)
  have := hx j hj
  show (if rk j = p then x j - g j else 0) ≤ 150
  split <;> omega
/-- from four places to three -/
def ip_t (y : Nat → Nat) (j : Nat) : Nat := if j < 3 then y j else 0
theorem ip_t_i {y : Nat → Nat} {j : Nat} (h : j < 3) : ip_t y j = y j := if_pos h
theorem ip_t_n {y : Nat → Nat} {j : Nat} (h : ¬ j < 3) : ip_t y j = 0 := if_neg h
theorem ip_t_sm (y : Nat → Nat) : ip_sm (ip_t y) 4 = ip_sm y 3 := by
  rw [ip_sm_4, ip_sm_3]
  rfl
theorem ip_cv0 {y : Nat → Nat} (h : ip_Sp 4 ip_l0 (ip_t y) o) : ip_Sp 3 ip_l0 y o :=
  fun c d hc hd ne h0 h1 => h c d (by omega) (by omega) ne h0 (by rw [ip_t_i hd]; exact h1)
theorem ip_cv1 {y : Nat → Nat} (h : ip_Sp 4 (ip_l1 (ip_t y)) (ip_t y) o) : ip_Sp 3 (ip_l1 y) y o := by
  intro c d hc hd ne h0 h1
  have t := h c d (by omega) (by omega) ne h0 (by rw [ip_t_i hd]; exact h1)
  unfold ip_l1 at t ⊢
  rw [ip_t_i hd, ip_t_i hc] at t
  exact t
theorem ip_cvo {y : Nat → Nat} (h : ∀ j, j < 4 → o j ≤ ip_t y j) : (∀ j, j < 3 → o j ≤ y j) ∧ o 3 = 0 ∧ ip_sm o 4 = ip_sm o 3 := by
  have z : o 3 = 0 := by
    have := h 3 (by omega)
    rw [ip_t_n (by omega)] at this
    omega
  refine ⟨fun j hj => ?_, z, ?_⟩
  · have := h j (by omega)
    rw [ip_t_i hj] at this
    exact this
  · rw [ip_sm_4, ip_sm_3, z]
    rfl
theorem ip_cvs {y w : Nat → Nat} {s : Nat → Int32} (h : ip_ar s (fun j => g j + o j)) (hg : ∀ j, j < 3 → g j = y j) (z : o 3 = 0) (hw : ∀ j, j < 3 → y j + o j = w j) : ip_ar s (fun j => if j < 3 then w j else g j) := by
  intro j hj
  have t : s j = nI (g j + o j) := h j hj
  show s j = nI (if j < 3 then w j else g j)
  by_cases e : j < 3
  · rw [if_pos e, t, hg j e, hw j e]
  · have e3 : j = 3 := by omega
    subst e3
    rw [if_neg e, t, z]
    rfl
/-- rank 1 under rule 3 -/
theorem ip_rank86 {post : St2 → Prop} {u S f : Nat} (h1 : ip_ar a1 x) (h2 : ip_ar a2 ip_rk) (h4 : ip_ar a4 g) (hg : ∀ j, j < 3 → g j = 0) (hx : ∀ j, j < 4 → x j ≤ 31) (hS : S = ip_sm x 3) (hu : u ≤ S) (hf : f = min u ((S + 1) / 2))
    (H : ∀ o s4 s5, (∀ j, j < 3 → o j ≤ x j) → ip_S3 x o → ip_sm o 3 = u → ip_ar s4 (fun j => if j < 3 then o j else g j) → post (nI 4, f1, f2, a1, a2, a3, s4, s5, a6)) : wX_shareRank_86 post (nI 1) (nI u) (nI f) (nI 4) f1 f2 a1 a2 a3 a4 a5 a6 := by
  have hx' : ∀ j, j < 4 → x j ≤ 150 := fun j hj => Nat.le_trans (hx j hj) (by omega)
  have hk : ∀ j, j < 4 → ip_rk j < 4 := fun j _ => ip_rk_4 j
  have hS3 := hS
  rw [ip_sm_3] at hS3
  unfold wX_shareRank_86
  refine ip_limits (v := 1) (m := ip_h x) (l := ip_t (ip_h x)) h1 h2 h4 hk (by omega) hx' (Or.inr ⟨rfl, rfl⟩) (fun j hj e => ?_) (fun j hj => ?_) (fun s5 hs5 => ?_)
  · rw [hg j (ip_rk_i e)]
    exact Nat.zero_le _
  · by_cases e : j < 3
    · rw [ip_t_i e, if_pos (ip_rk_1 e), hg j e]
      rfl
    · rw [ip_t_n e, if_neg (by rw [ip_rk_0 e]; omega)]
  refine ip_award h4 hs5 (fun j hj => ?_) ?_ (fun o1 s4 q1 q2 q3 q4 => ?_)
  · have := hx j hj
    by_cases e : j < 3
    · rw [ip_t_i e]
      show (x j + 1) / 2 ≤ 150
      omega
    · rw [ip_t_n e]
      omega
  · rw [ip_t_sm, ip_sm_3]
    show f ≤ (x 0 + 1) / 2 + (x 1 + 1) / 2 + (x 2 + 1) / 2
    omega
  obtain ⟨c1, c2, c3⟩ := ip_cvo q1
  have c4 := ip_cv0 q3
  rw [c3] at q2
  have c1' : ∀ j, j < 3 → o1 j ≤ x j := fun j hj => by
    have a : o1 j ≤ (x j + 1) / 2 := c1 j hj
    omega
  refine ip_limits (v := 0) (m := x) (l := ip_t (fun j => x j - o1 j)) h1 h2 q4 hk (by omega) hx' (Or.inl ⟨rfl, rfl⟩) (fun j hj e => ?_) (fun j hj => ?_) (fun s5' hs5' => ?_)
  · have a := c1' j (ip_rk_i e)
    have b := hg j (ip_rk_i e)
    show g j + o1 j ≤ x j
    omega
  · by_cases e : j < 3
    · rw [ip_t_i e, if_pos (ip_rk_1 e)]
      have b := hg j e
      show x j - o1 j = x j - (g j + o1 j)
      omega
    · rw [ip_t_n e, if_neg (by rw [ip_rk_0 e]; omega)]
  have q2' := q2
  rw [ip_sm_3] at q2'
  have d0 := c1' 0 (by omega)
  have d1 := c1' 1 (by omega)
  have d2 := c1' 2 (by omega)
  refine ip_loseE (u := u - f) (pk_sub (by omega)) q4 hs5' (fun j hj => ?_) ?_ (fun o2 s4' p1 p2 p3 p4 => ?_)
  · have := hx j hj
    by_cases e : j < 3
    · rw [ip_t_i e]
      show x j - o1 j ≤ 150
      omega
    · rw [ip_t_n e]
      omega
  · rw [ip_t_sm, ip_sm_3]
    show u - f ≤ (x 0 - o1 0) + (x 1 - o1 1) + (x 2 - o1 2)
    omega
  obtain ⟨e1, e2, e3⟩ := ip_cvo p1
  have e4 := ip_cv1 p3
  rw [e3] at p2
  have sm : ip_sm (fun j => o1 j + o2 j) 3 = u := by
    have a : ip_sm (fun j => o1 j + o2 j) 3 = ip_sm o1 3 + ip_sm o2 3 := ip_sm_ad (fun j _ => rfl)
    omega
  refine H (fun j => o1 j + o2 j) s4' s5' (fun j hj => ?_) ⟨o1, ?_, c1, c4, fun c _ => Nat.le_add_right _ _, ?_⟩ sm ?_
  · have a : o2 j ≤ x j - o1 j := e1 j hj
    have b := c1' j hj
    show o1 j + o2 j ≤ x j
    omega
  · rw [sm, ← hS, q2, hf]
  · have fe : (fun c => (fun j => o1 j + o2 j) c - o1 c) = o2 := by
      funext c
      show o1 c + o2 c - o1 c = o2 c
      omega
    rw [fe]
    exact e4
  · intro j hj
    have t : s4' j = nI (g j + o1 j + o2 j) := p4 j hj
    show s4' j = nI (if j < 3 then o1 j + o2 j else g j)
    by_cases e : j < 3
    · rw [if_pos e, t, hg j e, Nat.zero_add]
    · have e3 : j = 3 := by omega
      subst e3
      rw [if_neg e, t, c2, e2]
      rfl
/-- rank 1 -/
theorem ip_rank1 {post : St2 → Prop} {r u S : Nat} (h1 : ip_ar a1 x) (h2 : ip_ar a2 ip_rk) (h3 : a3 1 = nI r) (hr : r ≤ 3) (h4 : ip_ar a4 g) (hg : ∀ j, j < 3 → g j = 0) (hx : ∀ j, j < 4 → x j ≤ 31) (hS : S = ip_sm x 3) (hu : u ≤ S)
    (H : ∀ o s4 s5, ip_R r x o → ip_sm o 3 = u → ip_ar s4 (fun j => if j < 3 then o j else g j) → post (nI 4, f1, f2, a1, a2, a3, s4, s5, a6)) : wpX_shareRank post (nI 4, f1, f2, a1, a2, a3, a4, a5, a6) (nI 1) (nI u) (nI S) := by
  have hx' : ∀ j, j < 4 → x j ≤ 150 := fun j hj => Nat.le_trans (hx j hj) (by omega)
  have hk : ∀ j, j < 4 → ip_rk j < 4 := fun j _ => ip_rk_4 j
  have c1 : (nI 1).toNatClampNeg = 1 := ip_c (by omega)
  have S93 : S ≤ 93 := by
    have b0 := hx 0 (by omega)
    have b1 := hx 1 (by omega)
    have b2 := hx 2 (by omega)
    rw [ip_sm_3] at hS
    omega
  have h3' : a3 (nI 1).toNatClampNeg = nI r := by rw [c1]; exact h3
  have lm0 : ∀ j, j < 4 → ip_t x j = if ip_rk j = 1 then x j - g j else 0 := fun j hj => by
    by_cases e : j < 3
    · rw [ip_t_i e, if_pos (ip_rk_1 e), hg j e]
      rfl
    · rw [ip_t_n e, if_neg (by rw [ip_rk_0 e]; omega)]
  have lm1 : ∀ j, j < 4 → ip_t x j ≤ 150 := fun j hj => by
    have := hx j hj
    by_cases e : j < 3
    · rw [ip_t_i e]
      omega
    · rw [ip_t_n e]
      omega
  have gz : ∀ j, j < 4 → ip_rk j = 1 → g j ≤ x j := fun j hj e => by
    rw [hg j (ip_rk_i e)]
    exact Nat.zero_le _
  have us : u ≤ ip_sm (ip_t x) 4 := by
    rw [ip_t_sm]
    omega
  refine ⟨pk_in 1 4 (by omega), pk_eq r 0 (fun e0 => ?_) (fun e0 => ⟨pk_in 1 4 (by omega), pk_eq r 1 (fun e1 => ?_) (fun e1 => ⟨pk_in 1 4 (by omega), pk_eq r 2 (fun e2 => ?_) (fun e2 => ?_) h3' rfl⟩) h3' rfl⟩) h3' rfl⟩
  · refine ip_limits (v := 0) (m := x) (l := ip_t x) h1 h2 h4 hk (by omega) hx' (Or.inl ⟨rfl, rfl⟩) gz lm0 (fun s5 hs5 => ?_)
    refine ip_award h4 hs5 lm1 us (fun o s4 q1 q2 q3 q4 => ?_)
    obtain ⟨d1, d2, d3⟩ := ip_cvo q1
    exact H o s4 s5 ⟨d1, fun _ => ip_cv0 q3, fun e => absurd e (by omega), fun e => absurd e (by omega), fun e => absurd e (by omega)⟩ (by omega) (ip_cvs q4 hg d2 (fun j _ => Nat.zero_add _))
  · refine ip_limits (v := 0) (m := x) (l := ip_t x) h1 h2 h4 hk (by omega) hx' (Or.inl ⟨rfl, rfl⟩) gz lm0 (fun s5 hs5 => ?_)
    refine ip_lose h4 hs5 lm1 us (fun o s4 q1 q2 q3 q4 => ?_)
    obtain ⟨d1, d2, d3⟩ := ip_cvo q1
    exact H o s4 s5 ⟨d1, fun e => absurd e (by omega), fun _ => ip_cv1 q3, fun e => absurd e (by omega), fun e => absurd e (by omega)⟩ (by omega) (ip_cvs q4 hg d2 (fun j _ => Nat.zero_add _))
  · refine ip_quotas h1 h2 h4 hg hx hS hu (fun o s4 q1 q2 q3 q4 => ?_)
    exact H o s4 a5 ⟨q1, fun e => absurd e (by omega), fun e => absurd e (by omega), fun _ => q3, fun e => absurd e (by omega)⟩ q2 q4
  · have r3 : r = 3 := by omega
    have fin : ∀ f, f = min u ((S + 1) / 2) → wX_shareRank_86 post (nI 1) (nI u) (nI f) (nI 4) f1 f2 a1 a2 a3 a4 a5 a6 := fun f hf =>
      ip_rank86 h1 h2 h4 hg hx hS hu hf (fun o s4 s5 q1 q2 q3 q4 => H o s4 s5 ⟨q1, fun e => absurd e (by omega), fun e => absurd e (by omega), fun e => absurd e (by omega), fun _ => q2⟩ q3 q4)
    refine nm_r (e' := nI ((S + 1) / 2)) ?_ (pk_le ((S + 1) / 2) u (fun z => fin _ (by omega)) (fun z => fin _ (by omega)))
    rw [nI_1]
    exact pk_shrN (n := S + 1) (by omega) _ 1 (by decide)
/-- the pool: x: the claims (x 3 the senior's), r: the rule of rank 1 -/
def ip_K (x : Nat → Nat) (r : Nat) (a1 a2 a3 : Nat → Int32) : Prop := ip_ar a1 x ∧ ip_ar a2 ip_rk ∧ (a3 0 = nI 0 ∧ a3 1 = nI r ∧ a3 2 = nI 0 ∧ a3 3 = nI 0) ∧ (∀ j, j < 4 → x j ≤ 31) ∧ r ≤ 3
/-- one rank of shareOut -/
theorem ip_step27 {post : St2 → Prop} {n p rest sum part : Nat} (Q : (Nat → Int32) → Prop) (h1 : ip_ar a1 x) (h2 : ip_ar a2 ip_rk) (hx : ∀ j, j < 4 → x j ≤ 31) (hp : p < 4) (hr : rest ≤ 1000) (hsum : ip_sm (fun j => if ip_rk j = p then x j else 0) 4 = sum) (hpart : part = min rest sum)
    (HR : ∀ post' : St2 → Prop, (∀ s4 s5, Q s4 → post' (nI 4, f1, f2, a1, a2, a3, s4, s5, a6)) → wpX_shareRank post' (nI 4, f1, f2, a1, a2, a3, a4, a5, a6) (nI p) (nI part) (nI sum))
    (HN : ∀ s4 s5, Q s4 → wX_shareOut_27 post n (nI (rest - part)) (nI (p + 1)) (nI 4) f1 f2 a1 a2 a3 s4 s5 a6) : wX_shareOut_27 post (n + 1) (nI rest) (nI p) (nI 4) f1 f2 a1 a2 a3 a4 a5 a6 := by
  have hs : sum ≤ 4000 := by
    rw [← hsum]
    refine ip_sm_bd (n := 4) (b := 31) (fun j hj => ?_) (Nat.le_refl 4) (Nat.le_refl 4) (by omega)
    have := hx j hj
    show (if ip_rk j = p then x j else 0) ≤ 31
    split <;> omega
  have fin : wX_shareOut_51 post (wX_shareOut_27 post n) (nI rest) (nI p) (nI sum) (nI part) (nI 4) f1 f2 a1 a2 a3 a4 a5 a6 := by
    unfold wX_shareOut_51
    refine HR _ (fun s4 s5 hq => ?_)
    exact nm_r (pk_sub (by omega)) (nm_r (nI_1 p) (HN s4 s5 hq))
  refine pk_le 4 p (fun z => absurd z (by omega)) (fun _ => ip_total h1 h2 (fun j _ => ip_rk_4 j) hp ?_)
  rw [hsum]
  refine pk_le sum rest (fun z => ?_) (fun z => ?_)
  · have e : part = sum := by omega
    rw [e] at fin
    exact fin
  · have e : part = rest := by omega
    rw [e] at fin
    exact fin
theorem ip_so27 {post : St2 → Prop} {r t : Nat} (K : ip_K x r a1 a2 a3) (h4 : ip_ar a4 (fun _ => 0)) (ht : t ≤ 64)
    (H : ∀ o s4 s5, ip_R r x o → ip_sm o 3 = min t (ip_sm x 3) → ip_ar s4 (fun j => if j < 3 then o j else x 3) → post (nI 4, f1, nI (t - min t (ip_sm x 3)), a1, a2, a3, s4, s5, a6)) : ∃ n, wX_shareOut_27 post n (nI (x 3 + t)) 0 (nI 4) f1 f2 a1 a2 a3 a4 a5 a6 := by
  obtain ⟨h1, h2, ⟨r0, r1, r2, r3⟩, hx, hr⟩ := K
  have x3 := hx 3 (by omega)
  have sm0 : ip_sm (fun j => if ip_rk j = 0 then x j else 0) 4 = x 3 := by
    rw [ip_sm_4]
    show 0 + 0 + 0 + x 3 = x 3
    omega
  have sm1 : ip_sm (fun j => if ip_rk j = 1 then x j else 0) 4 = ip_sm x 3 := by
    rw [ip_sm_4, ip_sm_3]
    rfl
  have sm2 : ip_sm (fun j => if ip_rk j = 2 then x j else 0) 4 = 0 := rfl
  have sm3 : ip_sm (fun j => if ip_rk j = 3 then x j else 0) 4 = 0 := rfl
  -- ranks 2 and 3 add nothing
  have rz : ∀ (p : Nat) (b4 b5 : Nat → Int32) (w : Nat → Nat), p = 2 ∨ p = 3 → a3 p = nI 0 → ip_ar b4 w → ∀ post' : St2 → Prop, (∀ s4 s5, ip_ar s4 w → post' (nI 4, f1, f2, a1, a2, a3, s4, s5, a6)) → wpX_shareRank post' (nI 4, f1, f2, a1, a2, a3, b4, b5, a6) (nI p) (nI 0) (nI 0) := by
    intro p b4 b5 w hp h3 hb post' hpost
    have ne : ∀ j, j < 4 → ip_rk j ≠ p := fun j _ => by
      by_cases e : j < 3
      · rw [ip_rk_1 e]; omega
      · rw [ip_rk_0 e]; omega
    refine ip_rankE h1 h2 h3 hb (fun j _ => ip_rk_4 j) (by omega) hx (fun j hj e => absurd e (ne j hj)) (Nat.zero_le _) (fun o s4 s5 q1 q2 q3 q4 => hpost s4 s5 (fun j hj => ?_))
    have a : o j ≤ 0 := by
      have := q1 j hj
      rw [if_neg (ne j hj)] at this
      exact this
    have b : s4 j = nI (w j + o j) := q4 j hj
    rw [b, show w j + o j = w j by omega]
  refine ⟨5, ?_⟩
  refine ip_step27 (p := 0) (part := x 3) (fun s4 => ip_ar s4 (fun j => if j < 3 then 0 else x 3)) h1 h2 hx (by omega) (by omega) sm0 (by omega) (fun post' hpost => ?_) (fun s4 s5 hq => ?_)
  · refine ip_rankE (g := fun _ => 0) h1 h2 r0 h4 (fun j _ => ip_rk_4 j) (by omega) hx (fun j _ _ => Nat.zero_le _) ?_ (fun o s4 s5 q1 q2 q3 q4 => hpost s4 s5 (fun j hj => ?_))
    · rw [ip_sm_4]
      show x 3 ≤ 0 + 0 + 0 + x 3
      omega
    · have z : ∀ j, j < 3 → o j = 0 := fun j hj => by
        have := q1 j (by omega)
        rw [if_neg (by rw [ip_rk_1 hj]; omega)] at this
        omega
      have b : s4 j = nI (0 + o j) := q4 j hj
      show s4 j = nI (if j < 3 then 0 else x 3)
      rw [b]
      by_cases e : j < 3
      · rw [if_pos e, z j e]
      · have e3 : j = 3 := by omega
        subst e3
        rw [if_neg e]
        rw [ip_sm_4, z 0 (by omega), z 1 (by omega), z 2 (by omega)] at q2
        rw [show o 3 = x 3 by omega, Nat.zero_add]
  rw [show x 3 + t - x 3 = t by omega]
  refine ip_step27 (p := 1) (part := min t (ip_sm x 3)) (fun s4 => ∃ o, ip_R r x o ∧ ip_sm o 3 = min t (ip_sm x 3) ∧ ip_ar s4 (fun j => if j < 3 then o j else x 3)) h1 h2 hx (by omega) (by omega) sm1 rfl (fun post' hpost => ?_) (fun s4 s5 hq => ?_)
  · refine ip_rank1 (g := fun j => if j < 3 then 0 else x 3) h1 h2 r1 hr hq (fun j hj => if_pos hj) hx rfl (by omega) (fun o s4' s5' q1 q2 q3 => hpost s4' s5' ⟨o, q1, q2, fun j hj => ?_⟩)
    have b : s4' j = nI (if j < 3 then o j else (if j < 3 then 0 else x 3)) := q3 j hj
    show s4' j = nI (if j < 3 then o j else x 3)
    rw [b]
    by_cases e : j < 3
    · rw [if_pos e, if_pos e]
    · rw [if_neg e, if_neg e, if_neg e]
  obtain ⟨o, w1, w2, w3⟩ := hq
  refine ip_step27 (p := 2) (part := 0) (fun s4 => ip_ar s4 (fun j => if j < 3 then o j else x 3)) h1 h2 hx (by omega) (by omega) sm2 (by omega) (fun post' hpost => rz 2 _ _ _ (Or.inl rfl) r2 w3 post' hpost) (fun s4 s5 hq => ?_)
  refine ip_step27 (p := 3) (part := 0) (fun s4 => ip_ar s4 (fun j => if j < 3 then o j else x 3)) h1 h2 hx (by omega) (by omega) sm3 (by omega) (fun post' hpost => rz 3 _ _ _ (Or.inr rfl) r3 hq post' hpost) (fun s4 s5 hq => ?_)
  exact pk_le 4 4 (fun _ => H o s4 s5 w1 w2 hq) (fun z => absurd z (by omega))
/-- the shares of an amount that pays the senior and leaves t: what the rule says, and no other g -/
theorem ip_shareOut {post : St2 → Prop} {r t : Nat} {v : Int32} (K : ip_K x r a1 a2 a3) (ht : t ≤ 64) (hg : ip_R r x g) (hgs : ip_sm g 3 = min t (ip_sm x 3)) (hv : v = nI (x 3 + t))
    (H : ∀ s4 s5, ip_ar s4 (fun j => if j < 3 then g j else x 3) → post (nI 4, f1, nI (t - min t (ip_sm x 3)), a1, a2, a3, s4, s5, a6)) : wpX_shareOut post (nI 4, f1, f2, a1, a2, a3, a4, a5, a6) v := by
  subst hv
  refine pk_loop (fun n i s => wX_shareOut_4 post (nI (x 3 + t)) (nI 4) f1 f2 n (nI i) a1 a2 a3 s a5 a6) (fun i s => ∀ j, j < i → s j = nI ((fun _ => 0) j)) 4 0 a4 (by omega) (fun j hj => absurd hj (by omega)) ?_ ?_
  · intro n s h
    refine pk_le 4 4 (fun _ => ip_so27 K h ht (fun o s4 s5 q1 q2 q3 => H s4 s5 (fun j hj => ?_))) (fun z => absurd z (by omega))
    have b : s4 j = nI (if j < 3 then o j else x 3) := q3 j hj
    show s4 j = nI (if j < 3 then g j else x 3)
    rw [b]
    by_cases e : j < 3
    · rw [if_pos e, if_pos e, ip_Ru K.2.2.2.2 q1 hg (by rw [q2, hgs]) j e]
    · rw [if_neg e, if_neg e]
  · intro n i s hi h hw
    have c : (nI i).toNatClampNeg = i := ip_c (by omega)
    exact pk_le 4 i (fun z => absurd z (by omega)) (fun _ => ⟨pk_in i 8 (by omega), nm_r (by rw [c, ← nI_0]) (nm_r (nI_1 i) (hw _ (ip_fill (w := fun _ => 0) h rfl)))⟩)
end
end
section
section
variable {f1 f2 : Int32} {a1 a2 a3 a4 a5 a6 : Nat → Int32} {x g w y : Nat → Nat}
/-- all four shares -/
def ip_W (x g : Nat → Nat) (j : Nat) : Nat := if j < 3 then g j else x 3
theorem ip_W_i {j : Nat} (h : j < 3) : ip_W x g j = g j := if_pos h
theorem ip_W_n {j : Nat} (h : ¬ j < 3) : ip_W x g j = x 3 := if_neg h
theorem ip_W_le {j : Nat} (hx : ∀ j, j < 4 → x j ≤ 31) (hg : ∀ j, j < 3 → g j ≤ x j) (hj : j < 4) : ip_W x g j ≤ 31 := by
  by_cases e : j < 3
  · rw [ip_W_i e]
    exact Nat.le_trans (hg j e) (hx j hj)
  · rw [ip_W_n e]
    exact hx 3 (by omega)
theorem ip_isCr {post : Int32 → Prop} {c : Nat} (hc : c < 4) (H : post 1) : wpX_isCreditor post (nI 4, f1, f2, a1, a2, a3, a4, a5, a6) (nI c) :=
  br_f (nI_pos (by omega)) (pk_le 4 c (fun z => absurd z (by omega)) (fun _ => H))
theorem ip_isRk {post : Int32 → Prop} {c : Nat} (hc : c < 4) (H : post 1) : wpX_isRank post () (nI c) :=
  br_f (nI_pos (by omega)) (pk_le 4 c (fun z => absurd z (by omega)) (fun _ => H))
theorem ip_share {post : Int32 → St2 → Prop} {r t c : Nat} (K : ip_K x r a1 a2 a3) (ht : t ≤ 64) (hc : c < 4) (hg : ip_R r x g) (hgs : ip_sm g 3 = min t (ip_sm x 3))
    (H : ∀ v s4 s5, post (nI (ip_W x g c)) (nI 4, nI (x 3 + t), v, a1, a2, a3, s4, s5, a6)) : wpX_share post (nI 4, nI (x 3 + t), f2, a1, a2, a3, a4, a5, a6) (nI c) := by
  unfold wpX_share
  dsimp only
  refine ip_isCr hc (br_f (by decide) ?_)
  refine ip_shareOut K ht hg hgs rfl (fun s4 s5 h => ⟨pk_in c 8 (by omega), ?_⟩)
  have e : s4 (nI c).toNatClampNeg = nI (ip_W x g c) := by
    rw [ip_c (by omega)]
    exact h c hc
  dsimp only
  rw [e]
  exact H _ s4 s5
theorem ip_shareOf {post : Int32 → St2 → Prop} {r c : Nat} (K : ip_K x r a1 a2 a3) (hc : c < 3)
    (H : ∀ v s4 s5, post 0 (nI 4, f1, v, a1, a2, a3, s4, s5, a6)) : wpX_shareOf post (nI 4, f1, f2, a1, a2, a3, a4, a5, a6) (nI c) (nI (x 3)) := by
  have x3 := K.2.2.2.1 3 (by omega)
  unfold wpX_shareOf
  dsimp only
  refine ip_isCr (by omega) (br_f (by decide) (br_f (nI_pos (by omega)) (br_t (nI_le (b := 1500) (by omega) (by omega)) ?_)))
  refine ip_shareOut (t := 0) (g := fun _ => 0) K (by omega) (ip_R0 r x) (by rw [Nat.zero_min]; rfl) rfl (fun s4 s5 h => ⟨pk_in c 8 (by omega), ?_⟩)
  have e : s4 (nI c).toNatClampNeg = 0 := by
    rw [ip_c (by omega), h c (by omega)]
    show nI (if c < 3 then 0 else x 3) = 0
    rw [if_pos hc]
    rfl
  dsimp only
  rw [e]
  exact H _ s4 s5
theorem ip_left {post : Int32 → St2 → Prop} {r t : Nat} (K : ip_K x r a1 a2 a3) (ht : t ≤ 64) (hg : ip_R r x g) (hgs : ip_sm g 3 = min t (ip_sm x 3))
    (H : ∀ v s4 s5, post (nI (t - ip_sm g 3)) (nI 4, nI (x 3 + t), v, a1, a2, a3, s4, s5, a6)) : wpX_left post (nI 4, nI (x 3 + t), f2, a1, a2, a3, a4, a5, a6) := by
  unfold wpX_left
  dsimp only
  refine ip_shareOut K ht hg hgs rfl (fun s4 s5 h => ?_)
  have t := H (nI (t - min t (ip_sm x 3))) s4 s5
  rw [hgs] at t
  exact t
theorem ip_n48A {post : Int32 → St2 → Prop} (h4 : ip_ar a4 w) (h6 : ip_ar a6 y) (hw : ∀ j, j < 4 → w j ≤ y j ∧ y j ≤ 100) (H : post (-1) (nI 4, f1, f2, a1, a2, a3, a4, a5, a6)) : ∃ n, wX_next_48 post (nI 4) f1 f2 a1 a2 a3 a4 a5 a6 n 0 := by
  refine pk_loop (σ := Unit) (fun n i _ => wX_next_48 post (nI 4) f1 f2 a1 a2 a3 a4 a5 a6 n (nI i)) (fun _ _ => True) 4 0 () (by omega) trivial ?_ ?_
  · intro n _ _
    exact pk_le 4 4 (fun _ => H) (fun z => absurd z (by omega))
  · intro n i _ hi _ hk
    have c : (nI i).toNatClampNeg = i := ip_c (by omega)
    have b := hw i hi
    exact pk_le 4 i (fun z => absurd z (by omega)) (fun _ => ⟨pk_in i 8 (by omega), pk_in i 8 (by omega), pk_le (w i) (y i) (fun _ => nm_r (nI_1 i) (hk () trivial)) (fun z => absurd z (by omega)) (by rw [c]; exact h4 i hi) (by rw [c]; exact h6 i hi)⟩)
theorem ip_n48B {post : Int32 → St2 → Prop} {c : Nat} (hc : c < 4) (h4 : ip_ar a4 w) (h6 : ip_ar a6 y) (hw : ∀ j, j < c → w j ≤ y j) (hb : ∀ j, j < 4 → w j ≤ 100 ∧ y j ≤ 100) (hl : y c < w c) (H : post (nI c) (nI 4, f1, f2, a1, a2, a3, a4, a5, a6)) : ∃ n, wX_next_48 post (nI 4) f1 f2 a1 a2 a3 a4 a5 a6 n 0 := by
  refine pk_loop (σ := Unit) (fun n i _ => wX_next_48 post (nI 4) f1 f2 a1 a2 a3 a4 a5 a6 n (nI i)) (fun _ _ => True) c 0 () (by omega) trivial ?_ ?_
  · intro n _ _
    have cc : (nI c).toNatClampNeg = c := ip_c (by omega)
    have b := hb c hc
    exact pk_le 4 c (fun z => absurd z (by omega)) (fun _ => ⟨pk_in c 8 (by omega), pk_in c 8 (by omega), pk_le (w c) (y c) (fun z => absurd z (by omega)) (fun _ => H) (by rw [cc]; exact h4 c hc) (by rw [cc]; exact h6 c hc)⟩)
  · intro n i _ hi _ hk
    have ci : (nI i).toNatClampNeg = i := ip_c (by omega)
    have b := hb i (by omega)
    have d := hw i hi
    exact pk_le 4 i (fun z => absurd z (by omega)) (fun _ => ⟨pk_in i 8 (by omega), pk_in i 8 (by omega), pk_le (w i) (y i) (fun _ => nm_r (nI_1 i) (hk () trivial)) (fun z => absurd z (by omega)) (by rw [ci]; exact h4 i (by omega)) (by rw [ci]; exact h6 i (by omega))⟩)
theorem ip_next {post : Int32 → St2 → Prop} {r t : Nat} {k : Int32} (K : ip_K x r a1 a2 a3) (ht : t ≤ 63) (hg : ip_R r x g) (hgs : ip_sm g 3 = min t (ip_sm x 3)) (hC : ip_C r x g k)
    (H : ∀ v s4 s5 s6, post k (nI 4, nI (x 3 + t), v, a1, a2, a3, s4, s5, s6)) : wpX_next post (nI 4, nI (x 3 + t), f2, a1, a2, a3, a4, a5, a6) := by
  have hx := K.2.2.2.1
  unfold wpX_next
  dsimp only
  refine ip_shareOut K (by omega) hg hgs rfl (fun s4 s5 h => ?_)
  have h' : ip_ar s4 (ip_W x g) := h
  refine pk_loop (fun n i s => wX_next_10 post (nI 4) (nI (x 3 + t)) (nI (t - min t (ip_sm x 3))) n (nI i) a1 a2 a3 s4 s5 s) (fun i s => ∀ j, j < i → s j = nI (ip_W x g j)) 4 0 a6 (by omega) (fun j hj => absurd hj (by omega)) ?_ ?_
  · intro n s hs
    have hs' : ip_ar s (ip_W x g) := hs
    refine pk_le 4 4 (fun _ => ?_) (fun z => absurd z (by omega))
    rcases Nat.lt_or_ge (ip_sm g 3) (ip_sm x 3) with z | z
    · obtain ⟨c, hc, hk, hin, hR⟩ := ip_Cs hg hC z
      subst hk
      refine ip_shareOut (g := ip_up g c) (t := t + 1) K (by omega) hR (by rw [ip_up_sm g hc]; omega) (by rw [nI_1]; rfl) (fun s4' s5' h2 => ?_)
      have h2' : ip_ar s4' (ip_W x (ip_up g c)) := h2
      refine ip_n48B (c := c) (by omega) h2' hs' (fun j hj => ?_) (fun j hj => ?_) ?_ (H _ s4' s5' s)
      · rw [ip_W_i (by omega), ip_W_i (by omega), ip_up_n g (by omega)]
        exact Nat.le_refl _
      · have b1 := ip_W_le (g := ip_up g c) hx hR.1 hj
        have b2 := ip_W_le hx hg.1 hj
        omega
      · rw [ip_W_i hc, ip_W_i hc, ip_up_s]
        omega
    · have hk := ip_Cn hg hC z
      subst hk
      refine ip_shareOut (g := g) (t := t + 1) K (by omega) hg (by omega) (by rw [nI_1]; rfl) (fun s4' s5' h2 => ?_)
      have h2' : ip_ar s4' (ip_W x g) := h2
      refine ip_n48A h2' hs' (fun j hj => ?_) (H _ s4' s5' s)
      have b2 := ip_W_le hx hg.1 hj
      omega
  · intro n i s hi h3 hw
    have c : (nI i).toNatClampNeg = i := ip_c (by omega)
    exact pk_le 4 i (fun z => absurd z (by omega)) (fun _ => ⟨pk_in i 8 (by omega), pk_in i 8 (by omega), nm_r (by rw [c]) (nm_r (nI_1 i) (hw _ (ip_fill (w := ip_W x g) h3 (h' i hi))))⟩)
/-- how many aren't fully paid -/
def ip_un (x g : Nat → Nat) (j : Nat) : Nat := if g j < x j then 1 else 0
theorem ip_un_4 : ip_sm (ip_un x (ip_W x g)) 4 = ip_sm (ip_un x g) 3 := by
  rw [ip_sm_4, ip_sm_3]
  have e0 : ip_un x (ip_W x g) 0 = ip_un x g 0 := rfl
  have e1 : ip_un x (ip_W x g) 1 = ip_un x g 1 := rfl
  have e2 : ip_un x (ip_W x g) 2 = ip_un x g 2 := rfl
  have e3 : ip_un x (ip_W x g) 3 = 0 := by
    show (if ip_W x g 3 < x 3 then 1 else 0) = 0
    rw [ip_W_n (by omega), if_neg (Nat.lt_irrefl _)]
  rw [e0, e1, e2, e3]
  rfl
theorem ip_unpaid {post : Int32 → St2 → Prop} {r t : Nat} (K : ip_K x r a1 a2 a3) (ht : t ≤ 64) (hg : ip_R r x g) (hgs : ip_sm g 3 = min t (ip_sm x 3))
    (H : ∀ v s4 s5, post (nI (ip_sm (ip_un x g) 3)) (nI 4, nI (x 3 + t), v, a1, a2, a3, s4, s5, a6)) : wpX_unpaid post (nI 4, nI (x 3 + t), f2, a1, a2, a3, a4, a5, a6) := by
  have hx := K.2.2.2.1
  unfold wpX_unpaid
  dsimp only
  refine ip_shareOut K ht hg hgs rfl (fun s4 s5 h => ?_)
  have h' : ip_ar s4 (ip_W x g) := h
  refine pk_loop (σ := Unit) (fun n i _ => wX_unpaid_12 post (nI 4) (nI (x 3 + t)) (nI (t - min t (ip_sm x 3))) a1 a2 a3 s4 s5 a6 n (nI (ip_sm (ip_un x (ip_W x g)) i)) (nI i)) (fun _ _ => True) 4 0 () (by omega) trivial ?_ ?_
  · intro n _ _
    refine pk_le 4 4 (fun _ => ?_) (fun z => absurd z (by omega))
    rw [ip_un_4]
    exact H _ s4 s5
  · intro n i _ hi _ hw
    have hw' := hw () trivial
    have c : (nI i).toNatClampNeg = i := ip_c (by omega)
    have b1 := hx i hi
    have b2 := ip_W_le hx hg.1 hi
    refine pk_le 4 i (fun z => absurd z (by omega)) (fun _ => ⟨pk_in i 8 (by omega), pk_in i 8 (by omega), pk_le (x i) (ip_W x g i) (fun z => nm_r ?_ (nm_r (nI_1 i) hw')) (fun z => nm_r ?_ (nm_r (nI_1 i) hw')) (by rw [c]; exact K.1 i hi) (by rw [c]; exact h' i hi)⟩)
    · show nI _ + 0 = nI (_ + (if ip_W x g i < x i then 1 else 0))
      rw [if_neg (by omega)]
      exact nI_add _ 0
    · show nI _ + 1 = nI (_ + (if ip_W x g i < x i then 1 else 0))
      rw [if_pos z]
      exact nI_1 _
theorem ip_paid {post : Int32 → St2 → Prop} {r t p : Nat} (hp : p < 4) (K : ip_K x r a1 a2 a3) (ht : t ≤ 64) (hg : ip_R r x g) (hgs : ip_sm g 3 = min t (ip_sm x 3))
    (H : ∀ v s4 s5, post (nI (ip_sm (fun j => if ip_rk j = p then ip_W x g j else 0) 4)) (nI 4, nI (x 3 + t), v, a1, a2, a3, s4, s5, a6)) : wpX_paid post (nI 4, nI (x 3 + t), f2, a1, a2, a3, a4, a5, a6) (nI p) := by
  unfold wpX_paid
  dsimp only
  refine ip_isRk hp (br_f (by decide) ?_)
  refine ip_shareOut K ht hg hgs rfl (fun s4 s5 h => ?_)
  have h' : ip_ar s4 (ip_W x g) := h
  refine pk_loop (σ := Unit) (fun n i _ => wX_paid_21 post (nI p) (nI 4) (nI (x 3 + t)) (nI (t - min t (ip_sm x 3))) a1 a2 a3 s4 s5 a6 n (nI (ip_sm (fun j => if ip_rk j = p then ip_W x g j else 0) i)) (nI i)) (fun _ _ => True) 4 0 () (by omega) trivial ?_ ?_
  · intro n _ _
    exact pk_le 4 4 (fun _ => H _ s4 s5) (fun z => absurd z (by omega))
  · intro n i _ hi _ hw
    have hw' := hw () trivial
    have c : (nI i).toNatClampNeg = i := ip_c (by omega)
    have hki := ip_rk_4 i
    refine pk_le 4 i (fun z => absurd z (by omega)) (fun _ => ⟨pk_in i 8 (by omega), ?_⟩)
    refine pk_eq (ip_rk i) p (fun e => ⟨pk_in i 8 (by omega), nm_r ?_ (nm_r (nI_1 i) hw')⟩) (fun e => nm_r ?_ (nm_r (nI_1 i) hw')) (by rw [c]; exact K.2.1 i hi) rfl
    · rw [c, h' i hi, nI_add]
      show nI (_ + ip_W x g i) = nI (_ + (if ip_rk i = p then ip_W x g i else 0))
      rw [if_pos e]
    · show nI _ + 0 = nI (_ + (if ip_rk i = p then ip_W x g i else 0))
      rw [if_neg e]
      exact nI_add _ 0
theorem ip_paid_1 : ip_sm (fun j => if ip_rk j = 1 then ip_W x g j else 0) 4 = ip_sm g 3 := by
  rw [ip_sm_4, ip_sm_3]
  rfl
theorem ip_paid_0 : ip_sm (fun j => if ip_rk j = 0 then ip_W x g j else 0) 4 = x 3 := by
  rw [ip_sm_4]
  show 0 + 0 + 0 + x 3 = x 3
  omega
end
end
section
section
variable {x g : Nat → Nat}
/-- three bytes in one int -/
def ip_pk (x : Nat → Nat) : Nat := x 0 + 256 * x 1 + 65536 * x 2
theorem ip_pk_lt (hx : ∀ j, j < 3 → x j ≤ 31) : ip_pk x < 2 ^ 24 := by
  have b0 := hx 0 (by omega)
  have b1 := hx 1 (by omega)
  have b2 := hx 2 (by omega)
  unfold ip_pk
  omega
theorem ip_ex (hx : ∀ j, j < 3 → x j ≤ 31) {c : Nat} (hc : c < 3) : (nI (ip_pk x) >>> ((8 * nI c) &&& 31)) &&& 255 = nI (x c) := by
  have b0 := hx 0 (by omega)
  have b1 := hx 1 (by omega)
  have b2 := hx 2 (by omega)
  have lt := ip_pk_lt hx
  have q : c = 0 ∨ c = 1 ∨ c = 2 := by omega
  rcases q with q | q | q <;> subst q
  · rw [pk_shrN (by omega) _ 0 (by decide), pk_andN (Nat.lt_of_le_of_lt (Nat.div_le_self _ _) (by omega)) 8 (by decide)]
    have e : ip_pk x / 2 ^ 0 % 2 ^ 8 = x 0 := by
      unfold ip_pk
      omega
    rw [e]
  · rw [pk_shrN (by omega) _ 8 (by decide), pk_andN (Nat.lt_of_le_of_lt (Nat.div_le_self _ _) (by omega)) 8 (by decide)]
    have e : ip_pk x / 2 ^ 8 % 2 ^ 8 = x 1 := by
      unfold ip_pk
      omega
    rw [e]
  · rw [pk_shrN (by omega) _ 16 (by decide), pk_andN (Nat.lt_of_le_of_lt (Nat.div_le_self _ _) (by omega)) 8 (by decide)]
    have e : ip_pk x / 2 ^ 16 % 2 ^ 8 = x 2 := by
      unfold ip_pk
      omega
    rw [e]
theorem ip_lt_tr {r b a c d : Nat} (h : ip_lt r b x g a c) (h' : ip_lt r b x g c d) : ip_lt r b x g a d := by
  by_cases q : r = 0 ∨ b = 1
  · exact Or.inl ⟨q, (ip_o0 x).1 _ _ _ _ _ _ (ip_lt0 h q) (ip_lt0 h' q)⟩
  · rcases h with h | h | h
    · exact absurd h.1 q
    · rcases h' with h' | h' | h'
      · exact absurd h'.1 q
      · exact Or.inr (Or.inl ⟨q, h.2.1, (ip_o2 x).1 _ _ _ _ _ _ h.2.2 h'.2.2⟩)
      · exact absurd h.2.1 h'.2.1
    · rcases h' with h' | h' | h'
      · exact absurd h'.1 q
      · exact absurd h'.2.1 h.2.1
      · exact Or.inr (Or.inr ⟨q, h.2.1, (ip_o1 x x).1 _ _ _ _ _ _ h.2.2 h'.2.2⟩)
theorem ip_c293t {post : Int32 → Prop} {J : Int32 → Int32 → Prop} {x0 x1 x2 x5 k : Int32} {i : Nat} (H : J (nI i) (nI (i + 1))) : wL_chosen_293 post J x0 x1 x2 x5 k (nI i) 1 1 :=
  br_f (by decide) (br_f (by decide) (nm_r (nI_1 i) H))
theorem ip_c293k {post : Int32 → Prop} {J : Int32 → Int32 → Prop} {x0 x1 x2 x5 k : Int32} {i : Nat} (H : J k (nI (i + 1))) : wL_chosen_293 post J x0 x1 x2 x5 k (nI i) 1 0 :=
  br_f (by decide) (br_t rfl (nm_r (nI_1 i) H))
theorem ip_c293n {post : Int32 → Prop} {J : Int32 → Int32 → Prop} {x0 x1 x2 x5 k v : Int32} {i : Nat} (H : J k (nI (i + 1))) : wL_chosen_293 post J x0 x1 x2 x5 k (nI i) 0 v :=
  br_t rfl (nm_r (nI_1 i) H)
/-- nobody yet -/
theorem ip_c186A {post : Int32 → Prop} {J : Int32 → Int32 → Prop} {x0 x1 x2 x5 x8 x9 x10 x11 z : Int32} {i : Nat} (H : wL_chosen_293 post J x0 x1 x2 x5 (-1) (nI i) z 1) : wL_chosen_186 post J x0 x1 x2 x5 (-1) (nI i) x8 x9 x10 x11 z := by
  unfold wL_chosen_186
  refine br_f (by decide) ?_
  unfold wL_chosen_198
  refine br_f (by decide) ?_
  unfold wL_chosen_231
  refine br_f (by decide) ?_
  unfold wL_chosen_268
  exact br_f (by decide) H
/-- somebody: who goes first -/
theorem ip_c186B {post : Int32 → Prop} {J : Int32 → Int32 → Prop} {x0 x1 z : Int32} {r b i c : Nat} (hr : r ≤ 3) (hb : b ≤ 1) (hi : i < 3) (hc : c < i) (hx : ∀ j, j < 3 → x j ≤ 31) (hg : ∀ j, j < 3 → g j ≤ x j)
    (Ht : ip_lt r b x g i c → wL_chosen_293 post J x0 x1 (nI r) (nI b) (nI c) (nI i) z 1) (Hk : ip_lt r b x g c i → wL_chosen_293 post J x0 x1 (nI r) (nI b) (nI c) (nI i) z 0) : wL_chosen_186 post J x0 x1 (nI r) (nI b) (nI c) (nI i) (nI (x i)) (nI (g i)) (nI (x c)) (nI (g c)) z := by
  have xi := hx i hi
  have xc := hx c (by omega)
  have gi := hg i hi
  have gc := hg c (by omega)
  have h214 : r = 0 ∨ b = 1 → wL_chosen_214 post J x0 x1 (nI r) (nI b) (nI c) (nI i) (nI (g i)) (nI (g c)) z := by
    intro q
    unfold wL_chosen_214
    refine pk_le (g c) (g i) (fun y => Hk (Or.inl ⟨q, ?_⟩)) (fun y => Ht (Or.inl ⟨q, Or.inl y⟩))
    rcases Nat.lt_or_eq_of_le y with w | w
    · exact Or.inl w
    · exact Or.inr ⟨w, hc⟩
  unfold wL_chosen_186
  refine br_t (nI_pos' (by omega)) ?_
  unfold wL_chosen_198
  refine br_t rfl ?_
  refine pk_eq r 0 (fun e => h214 (Or.inl e)) (fun e => ?_)
  refine pk_eq b 0 (fun e' => ?_) (fun e' => h214 (Or.inr (by omega)))
  have q : ¬ (r = 0 ∨ b = 1) := by omega
  unfold wL_chosen_231
  refine br_t rfl ?_
  refine pk_eq r 2 (fun e2 => ?_) (fun e2 => ?_)
  · refine pk_le (x i * (g c + 1)) (x c * (g i + 1)) (fun y => Hk (Or.inr (Or.inl ⟨q, e2, ?_⟩))) (fun y => Ht (Or.inr (Or.inl ⟨q, e2, Or.inl y⟩))) (by rw [nI_1, pk_mul]) (by rw [nI_1, pk_mul]) (ip_mb xi (by omega)) (ip_mb xc (by omega))
    rcases Nat.lt_or_eq_of_le y with w | w
    · exact Or.inl w
    · exact Or.inr ⟨w, hc⟩
  · unfold wL_chosen_268
    refine br_t rfl ?_
    refine pk_le (x i - g i) (x c - g c) (fun y => Hk (Or.inr (Or.inr ⟨q, e2, ?_⟩))) (fun y => Ht (Or.inr (Or.inr ⟨q, e2, ?_⟩))) (pk_sub gi) (pk_sub gc)
    · unfold ip_l1
      omega
    · unfold ip_l1
      omega
theorem ip_c150 {post : Int32 → Prop} {J : Int32 → Int32 → Prop} {x0 x1 x2 k x10 x11 : Int32} {b i : Nat} (hb : b ≤ 1) (hi : i < 3) (hx : ∀ j, j < 3 → x j ≤ 31) (hg : ∀ j, j < 3 → g j ≤ x j)
    (Hy : ip_in b x g i → wL_chosen_186 post J x0 x1 x2 (nI b) k (nI i) (nI (x i)) (nI (g i)) x10 x11 1) (Hn : ¬ ip_in b x g i → wL_chosen_186 post J x0 x1 x2 (nI b) k (nI i) (nI (x i)) (nI (g i)) x10 x11 0) : wL_chosen_150 post J x0 x1 x2 (nI b) k (nI i) (nI (x i)) (nI (g i)) x10 x11 := by
  have xi := hx i hi
  have gi := hg i hi
  unfold wL_chosen_150
  refine pk_eq b 0 (fun e => pk_le (x i) (g i) (fun z => Hn ?_) (fun z => Hy (Or.inl ⟨e, z⟩))) (fun e => pk_le (x i) (2 * g i) (fun z => Hn ?_) (fun z => Hy (Or.inr ⟨by omega, z⟩)) rfl (pk_mul 2 (g i)))
  · unfold ip_in
    omega
  · unfold ip_in
    omega
theorem ip_c76 {post : Int32 → Prop} {r b : Nat} (hr : r ≤ 3) (hb : b ≤ 1) (hx : ∀ j, j < 3 → x j ≤ 31) (hg : ∀ j, j < 3 → g j ≤ x j) (H : ∀ k, ip_B (ip_in b x g) (ip_lt r b x g) 3 k → post k) : ∃ n, wL_chosen_76 post (nI (ip_pk x)) (nI (ip_pk g)) (nI r) (nI b) n (-1) 0 := by
  have hg31 : ∀ j, j < 3 → g j ≤ 31 := fun j hj => Nat.le_trans (hg j hj) (hx j hj)
  refine pk_loop (fun n i k => wL_chosen_76 post (nI (ip_pk x)) (nI (ip_pk g)) (nI r) (nI b) n k (nI i)) (fun i k => ip_B (ip_in b x g) (ip_lt r b x g) i k) 3 0 (-1) (by omega) ip_B0 ?_ ?_
  · intro n k h
    exact pk_le 3 3 (fun _ => H k h) (fun z => absurd z (by omega))
  · intro n i k hi h hw
    refine pk_le 3 i (fun z => absurd z (by omega)) (fun _ => nm_r (ip_ex hx hi) (nm_r (ip_ex hg31 hi) ?_))
    rcases h with ⟨hk, hn⟩ | ⟨c, hc, hk, hin, hl⟩
    · subst hk
      refine br_f (by decide) ?_
      unfold wL_chosen_128
      refine br_f (by decide) ?_
      exact ip_c150 hb hi hx hg (fun q => ip_c186A (ip_c293t (hw _ (ip_Bn hn q)))) (fun q => ip_c186A (ip_c293n (hw _ (ip_Bs (Or.inl ⟨rfl, hn⟩) q))))
    · subst hk
      refine br_t (nI_pos' (by omega)) ?_
      unfold wL_chosen_128
      refine br_t (nI_pos' (by omega)) ?_
      rw [ip_ex hx (by omega), ip_ex hg31 (by omega)]
      exact ip_c150 hb hi hx hg (fun q => ip_c186B hr hb hi hc hx hg (fun y => ip_c293t (hw _ (ip_Bt (fun a b d => ip_lt_tr) hl q y))) (fun y => ip_c293k (hw _ (ip_Bk hc hin hl y)))) (fun q => ip_c186B hr hb hi hc hx hg (fun y => ip_c293n (hw _ (ip_Bs (Or.inr ⟨c, hc, rfl, hin, hl⟩) q))) (fun y => ip_c293n (hw _ (ip_Bs (Or.inr ⟨c, hc, rfl, hin, hl⟩) q))))
theorem ip_chosen {post : Int32 → Prop} {r : Nat} (hr : r ≤ 3) (hx : ∀ j, j < 3 → x j ≤ 31) (hg : ∀ j, j < 3 → g j ≤ x j) (H : ∀ k, ip_C r x g k → post k) : wpL_chosen post () (nI (ip_pk x)) (nI (ip_pk g)) (nI r) := by
  have hg31 : ∀ j, j < 3 → g j ≤ 31 := fun j hj => Nat.le_trans (hg j hj) (hx j hj)
  have bx : ip_sm x 3 ≤ 4000 := ip_sm_bd (b := 31) hx (Nat.le_refl 3) (by omega) (by omega)
  have bg : ip_sm g 3 ≤ 4000 := ip_sm_bd (b := 31) hg31 (Nat.le_refl 3) (by omega) (by omega)
  refine pk_loop (σ := Unit) (fun n i _ => wL_chosen_8 post (nI (ip_pk x)) (nI (ip_pk g)) (nI r) n (nI (ip_sm x i)) (nI (ip_sm g i)) (nI i)) (fun _ _ => True) 3 0 () (by omega) trivial ?_ ?_
  · intro n _ _
    refine pk_le 3 3 (fun _ => ?_) (fun z => absurd z (by omega))
    refine pk_eq r 3 (fun e => pk_le (ip_sm x 3) (2 * ip_sm g 3) (fun z => ?_) (fun z => ?_) rfl (pk_mul 2 _)) (fun e => ?_)
    · exact ip_c76 (b := 0) hr (by omega) hx hg (fun k hk => H k ⟨0, Or.inr ⟨rfl, by omega⟩, hk⟩)
    · exact ip_c76 (b := 1) hr (by omega) hx hg (fun k hk => H k ⟨1, Or.inl ⟨rfl, e, z⟩, hk⟩)
    · exact ip_c76 (b := 0) hr (by omega) hx hg (fun k hk => H k ⟨0, Or.inr ⟨rfl, by omega⟩, hk⟩)
  · intro n i _ hi _ hw
    have hw' := hw () trivial
    refine pk_le 3 i (fun z => absurd z (by omega)) (fun _ => nm_r (e' := nI (ip_sm x (i + 1))) ?_ (nm_r (e' := nI (ip_sm g (i + 1))) ?_ (nm_r (nI_1 i) hw')))
    · rw [ip_ex hx hi, nI_add]
      rfl
    · rw [ip_ex hg31 hi, nI_add]
      rfl
end
end
section
section
variable {f0 f1 f2 : Int32} {a1 a2 a3 a4 a5 a6 : Nat → Int32} {x g : Nat → Nat} {post : Int32 → St0 → Prop} {mc ms kc ks : Nat}
theorem ip_law246 {r e : Nat} {k : Int32} (K : ip_K x r a1 a2 a3) (he : e ≤ 63) (hg : ip_R r x g) (hgs : ip_sm g 3 = min e (ip_sm x 3)) (hC : ip_C r x g k) (H : post 1 ()) : ∃ n, wL_lawOf_246 post mc ms (nI (ip_pk x)) (nI (x 3)) (nI e) (nI (ip_pk g)) (nI (e - ip_sm g 3)) k kc ks n 0 0 (nI 4) (nI (x 3 + e)) f2 a1 a2 a3 a4 a5 a6 := by
  have hx3 : ∀ j, j < 3 → x j ≤ 31 := fun j hj => K.2.2.2.1 j (by omega)
  have hg3 : ∀ j, j < 3 → g j ≤ 31 := fun j hj => Nat.le_trans (hg.1 j hj) (hx3 j hj)
  refine pk_loop (fun n i (s : Int32 × (Nat → Int32) × (Nat → Int32)) => wL_lawOf_246 post mc ms (nI (ip_pk x)) (nI (x 3)) (nI e) (nI (ip_pk g)) (nI (e - ip_sm g 3)) k kc ks n (nI (ip_sm (ip_un x g) i)) (nI i) (nI 4) (nI (x 3 + e)) s.1 a1 a2 a3 s.2.1 s.2.2 a6) (fun _ _ => True) 3 0 (f2, a4, a5) (by omega) trivial ?_ ?_
  · intro n s _
    obtain ⟨v, b4, b5⟩ := s
    refine pk_le 3 3 (fun _ => ?_) (fun z => absurd z (by omega))
    refine ip_share (c := 3) K (by omega) (by omega) hg hgs (fun v s4 s5 => br_t ?_ ?_)
    · rw [ip_W_n (by omega)]
    refine ip_left K (by omega) hg hgs (fun v s4 s5 => br_t rfl ?_)
    refine ip_next K he hg hgs hC (fun v s4 s5 s6 => br_t rfl ?_)
    refine ip_unpaid K (by omega) hg hgs (fun v s4 s5 => br_t rfl ?_)
    refine ip_paid (p := 1) (by omega) K (by omega) hg hgs (fun v s4 s5 => br_t ?_ ?_)
    · rw [ip_paid_1, pk_sub (by omega)]
      exact congrArg nI (by omega)
    refine ip_paid (p := 0) (by omega) K (by omega) hg hgs (fun v s4 s5 => br_t ?_ H)
    rw [ip_paid_0]
  · intro n i s hi _ hw
    obtain ⟨v, b4, b5⟩ := s
    have hw' : ∀ v s4 s5, wL_lawOf_246 post mc ms (nI (ip_pk x)) (nI (x 3)) (nI e) (nI (ip_pk g)) (nI (e - ip_sm g 3)) k kc ks n (nI (ip_sm (ip_un x g) i + ip_un x g i)) (nI (i + 1)) (nI 4) (nI (x 3 + e)) v a1 a2 a3 s4 s5 a6 := fun v s4 s5 => hw (v, s4, s5) trivial
    have xi := hx3 i hi
    have gi := hg3 i hi
    refine pk_le 3 i (fun z => absurd z (by omega)) (fun _ => nm_r (ip_ex hg3 hi) (nm_r (ip_ex hx3 hi) ?_))
    refine ip_share (c := i) K (by omega) (by omega) hg hgs (fun v s4 s5 => br_t ?_ ?_)
    · rw [ip_W_i hi]
    refine ip_shareOf K hi (fun v s4 s5 => br_t rfl ?_)
    refine pk_le (x i) (g i) (fun z => nm_r (nI_1 i) ?_) (fun z => nm_r (nI_1 _) (nm_r (nI_1 i) ?_))
    · have t := hw' v s4 s5
      rw [show ip_un x g i = 0 from if_neg (by omega), Nat.add_zero] at t
      exact t
    · have t := hw' v s4 s5
      rw [show ip_un x g i = 1 from if_pos z] at t
      exact t
/-- what the law has handed out after m steps -/
def ip_V (r e : Nat) (x : Nat → Nat) (m : Nat) (s : Int32 × Int32) : Prop := ∃ g, ip_R r x g ∧ ip_sm g 3 = min (min m e) (ip_sm x 3) ∧ s.1 = nI (ip_pk g) ∧ s.2 = nI (min m e - ip_sm g 3)
theorem ip_bump {c : Nat} (hc : c < 3) : nI (ip_pk g) + ((1 : Int32) <<< ((8 * nI c) &&& 31)) = nI (ip_pk (ip_up g c)) := by
  have q : c = 0 ∨ c = 1 ∨ c = 2 := by omega
  unfold ip_pk
  rcases q with q | q | q <;> subst q
  · rw [show (1 : Int32) <<< ((8 * nI 0) &&& 31) = nI 1 by decide, nI_add, ip_up_s, ip_up_n g (show (1 : Nat) ≠ 0 by omega), ip_up_n g (show (2 : Nat) ≠ 0 by omega)]
    exact congrArg nI (by omega)
  · rw [show (1 : Int32) <<< ((8 * nI 1) &&& 31) = nI 256 by decide, nI_add, ip_up_s, ip_up_n g (show (0 : Nat) ≠ 1 by omega), ip_up_n g (show (2 : Nat) ≠ 1 by omega)]
    exact congrArg nI (by omega)
  · rw [show (1 : Int32) <<< ((8 * nI 2) &&& 31) = nI 65536 by decide, nI_add, ip_up_s, ip_up_n g (show (0 : Nat) ≠ 2 by omega), ip_up_n g (show (1 : Nat) ≠ 2 by omega)]
    exact congrArg nI (by omega)
theorem ip_law148 {J : Int32 → Int32 → Int32 → Prop} {r e i : Nat} {x7 : Int32} (hr : r ≤ 3) (hx : ∀ j, j < 3 → x j ≤ 31) (he : e ≤ 63) (hi : i < 8) (s : Int32 × Int32) (hV : ip_V r e x (8 * i) s) (H : ∀ s : Int32 × Int32, ip_V r e x (8 * i + 8) s → J s.1 s.2 (nI (i + 1))) : ∃ n, wL_lawOf_148 post mc ms J (nI (ip_pk x)) (nI r) x7 (nI e) (nI i) kc ks f0 f1 f2 a1 a2 a3 a4 a5 a6 n s.1 s.2 0 := by
  refine pk_loop (fun n j (s : Int32 × Int32) => wL_lawOf_148 post mc ms J (nI (ip_pk x)) (nI r) x7 (nI e) (nI i) kc ks f0 f1 f2 a1 a2 a3 a4 a5 a6 n s.1 s.2 (nI j)) (fun j s => ip_V r e x (8 * i + j) s) 8 0 s (by omega) hV ?_ ?_
  · intro n s h
    exact pk_le 8 8 (fun _ => nm_r (nI_1 i) (H s h)) (fun z => absurd z (by omega))
  · intro n j s hj h hw
    obtain ⟨s1, s2⟩ := s
    obtain ⟨g, q1, q2, q3, q4⟩ := h
    have q3' : s1 = nI (ip_pk g) := q3
    have q4' : s2 = nI (min (8 * i + j) e - ip_sm g 3) := q4
    subst q3' q4'
    have hw' : ∀ t1 t2 : Int32, ip_V r e x (8 * i + (j + 1)) (t1, t2) → wL_lawOf_148 post mc ms J (nI (ip_pk x)) (nI r) x7 (nI e) (nI i) kc ks f0 f1 f2 a1 a2 a3 a4 a5 a6 n t1 t2 (nI (j + 1)) := fun t1 t2 h => hw (t1, t2) h
    have em : 8 * nI i + nI j = nI (8 * i + j) := by rw [show (8 : Int32) = nI 8 from rfl, pk_mul, nI_add]
    refine pk_le 8 j (fun z => absurd z (by omega)) (fun _ => ip_chosen hr hx q1.1 (fun k hk => ?_))
    refine pk_le e (8 * i + j) (fun z => ?_) (fun z => ?_) rfl em
    · unfold wL_lawOf_196
      refine pk_le e (8 * i + j) (fun _ => nm_r (nI_1 j) (hw' _ _ ⟨g, q1, by omega, rfl, ?_⟩)) (fun y => absurd y (by omega)) rfl em
      exact congrArg nI (by omega)
    · rcases Nat.lt_or_ge (ip_sm g 3) (ip_sm x 3) with y | y
      · obtain ⟨c, hc, hkc, hin, hR⟩ := ip_Cs q1 hk y
        subst hkc
        have us := ip_up_sm g hc
        refine br_f (nI_pos (by omega)) (nm_r (ip_bump hc) ?_)
        unfold wL_lawOf_196
        refine pk_le e (8 * i + j) (fun w => absurd w (by omega)) (fun _ => br_t (nI_pos' (by omega)) (nm_r (nI_1 j) (hw' _ _ ⟨ip_up g c, hR, by omega, rfl, ?_⟩))) rfl em
        exact congrArg nI (by omega)
      · have hk' := ip_Cn q1 hk y
        subst hk'
        refine br_t (by decide) ?_
        unfold wL_lawOf_196
        refine pk_le e (8 * i + j) (fun w => absurd w (by omega)) (fun _ => br_f (by decide) (nm_r (nI_1 _) (nm_r (nI_1 j) (hw' _ _ ⟨g, q1, by omega, rfl, ?_⟩)))) rfl em
        exact congrArg nI (by omega)
theorem ip_law138 {r e : Nat} (K : ip_K x r a1 a2 a3) (he : e ≤ 63) (H : post 1 ()) : ∃ n, wL_lawOf_138 post mc ms (nI (ip_pk x)) (nI r) (nI (x 3)) (nI e) kc ks (nI 4) (nI (x 3 + e)) f2 a1 a2 a3 a4 a5 a6 n 0 0 0 := by
  have hx3 : ∀ j, j < 3 → x j ≤ 31 := fun j hj => K.2.2.2.1 j (by omega)
  have hr : r ≤ 3 := K.2.2.2.2
  refine pk_loop (fun n i (s : Int32 × Int32) => wL_lawOf_138 post mc ms (nI (ip_pk x)) (nI r) (nI (x 3)) (nI e) kc ks (nI 4) (nI (x 3 + e)) f2 a1 a2 a3 a4 a5 a6 n s.1 s.2 (nI i)) (fun i s => ip_V r e x (8 * i) s) 8 0 (0, 0) (by omega) ⟨fun _ => 0, ip_R0 r x, ?_, rfl, ?_⟩ ?_ ?_
  · show 0 = min (min (8 * 0) e) (ip_sm x 3)
    omega
  · show 0 = nI (min (8 * 0) e - 0)
    rw [show min (8 * 0) e - 0 = 0 by omega]
    rfl
  · intro n s h
    obtain ⟨s1, s2⟩ := s
    obtain ⟨g, q1, q2, q3, q4⟩ := h
    have q3' : s1 = nI (ip_pk g) := q3
    have q4' : s2 = nI (min (8 * 8) e - ip_sm g 3) := q4
    have e8 : min (8 * 8) e = e := by omega
    rw [e8] at q2 q4'
    subst q3' q4'
    exact pk_le 8 8 (fun _ => ip_chosen hr hx3 q1.1 (fun k hk => ip_law246 K he q1 q2 hk H)) (fun z => absurd z (by omega))
  · intro n i s hi h hw
    exact pk_le 8 i (fun z => absurd z (by omega)) (fun _ => ip_law148 hr hx3 he hi s h (fun s' h' => hw s' h'))
theorem ip_add {post : Int32 → St2 → Prop} {c v k : Nat} (hc : c < 8) (hv : v ≤ 150) (hk : k < 4) (H : post (nI c) (nI (c + 1), f1, f2, upd a1 c (nI v), upd a2 c (nI k), a3, a4, a5, a6)) : wpX_add post (nI c, f1, f2, a1, a2, a3, a4, a5, a6) (nI v) (nI k) := by
  have cc : (nI c).toNatClampNeg = c := ip_c hc
  unfold wpX_add
  dsimp only
  refine br_f (nI_pos (by omega)) (br_t (nI_le (b := 150) hv (by omega)) ?_)
  refine ip_isRk hk (br_f (by decide) ?_)
  refine pk_eq c 8 (fun z => absurd z (by omega)) (fun _ => ⟨pk_in c 8 hc, nm_r (e' := upd a1 c (nI v)) (by rw [cc]) ⟨pk_in c 8 hc, nm_r (e' := upd a2 c (nI k)) (by rw [cc]) (nm_r (nI_1 c) ?_)⟩⟩)
  rw [nI_pred]
  exact H
theorem ip_isRl {post : Int32 → Prop} {r : Nat} (hr : r ≤ 3) (H : post 1) : wpX_isRule post () (nI r) :=
  br_f (nI_pos (by omega)) (pk_lt 3 r (fun z => absurd z (by omega)) (fun _ => H))
theorem ip_rule {post : Int32 → St2 → Prop} {r : Nat} (hr : r ≤ 3) (H : post (a3 1) (f0, f1, f2, a1, a2, upd a3 1 (nI r), a4, a5, a6)) : wpX_rule post (f0, f1, f2, a1, a2, a3, a4, a5, a6) (nI 1) (nI r) := by
  have cc : (nI 1).toNatClampNeg = 1 := ip_c (by omega)
  unfold wpX_rule
  dsimp only
  refine ip_isRk (by omega) (br_f (by decide) ?_)
  refine ip_isRl hr (br_f (by decide) ⟨pk_in 1 4 (by omega), nm_r (e' := a3 1) (by rw [cc]) ⟨pk_in 1 4 (by omega), nm_r (e' := upd a3 1 (nI r)) (by rw [cc]) H⟩⟩)
theorem ip_estate {post : Int32 → St2 → Prop} {q : Nat} {v : Int32} (hv : v = nI q) (hq : q ≤ 1500) (H : post (nI q) (f0, nI q, f2, a1, a2, a3, a4, a5, a6)) : wpX_estate post (f0, 0, f2, a1, a2, a3, a4, a5, a6) v := by
  subst hv
  have z : (0 : Int32) + nI q = nI q := by rw [← nI_0, nI_add, Nat.zero_add]
  have m : ¬ nI q < (-1500) := by
    intro h
    have h1 := Int32.lt_iff_toInt_lt.mp h
    rw [nI_toInt (by omega)] at h1
    have h2 : ((-1500 : Int32)).toInt = -1500 := by decide
    omega
  unfold wpX_estate
  dsimp only
  rw [z]
  exact br_f m (br_f (nI_nlt (a := 1500) hq (by omega)) (br_f (nI_pos (by omega)) (br_t (nI_le (b := 1500) hq (by omega)) (nm_e H))))
theorem ip_nor (a b : Nat) : nI a ||| nI b = nI (a ||| b) := by
  apply Int32.toBitVec_inj.1
  show BitVec.ofNat 32 a ||| BitVec.ofNat 32 b = BitVec.ofNat 32 (a ||| b)
  apply BitVec.eq_of_getLsbD_eq
  intro i hi
  simp [hi]
/-- the claims packed so far -/
def ip_pp (x : Nat → Nat) (i : Nat) : Nat := (if 0 < i then x 0 else 0) + (if 1 < i then 256 * x 1 else 0) + (if 2 < i then 65536 * x 2 else 0)
theorem ip_pp_3 : ip_pp x 3 = ip_pk x := rfl
theorem ip_orA {a b k p : Nat} (hp : 2 ^ k = p) (ha : a < p) : a ||| b * p = a + p * b := by
  subst hp
  rw [Nat.or_comm, Nat.mul_comm b, ← Nat.two_pow_add_eq_or_of_lt ha, Nat.add_comm]
theorem ip_or {i : Nat} (hi : i < 3) (hx : ∀ j, j < 3 → x j ≤ 31) : nI (ip_pp x i) ||| (nI (x i) <<< ((8 * nI i) &&& 31)) = nI (ip_pp x (i + 1)) := by
  have b0 := hx 0 (by omega)
  have b1 := hx 1 (by omega)
  have b2 := hx 2 (by omega)
  have q : i = 0 ∨ i = 1 ∨ i = 2 := by omega
  rcases q with q | q | q <;> subst q
  · rw [pk_shlN _ 0 (by decide) (by omega), ip_nor]
    show nI (0 ||| x 0 * 1) = nI (x 0 + 0 + 0)
    rw [Nat.zero_or, Nat.mul_one]
    rfl
  · rw [pk_shlN _ 8 (by decide) (by omega), ip_nor]
    show nI ((x 0 + 0 + 0) ||| x 1 * 2 ^ 8) = nI (x 0 + 256 * x 1 + 0)
    rw [ip_orA (k := 8) (p := 2 ^ 8) rfl (by omega)]
    rfl
  · rw [pk_shlN _ 16 (by decide) (by omega), ip_nor]
    show nI ((x 0 + 256 * x 1 + 0) ||| x 2 * 2 ^ 16) = nI (x 0 + 256 * x 1 + 65536 * x 2)
    rw [ip_orA (k := 16) (p := 2 ^ 16) rfl (by omega)]
    rfl
/-- the four claims of a script -/
def ip_X (p f : Int32) (j : Nat) : Nat := if j < 3 then (p >>> ((6 * nI j) &&& 31)).toBitVec.toNat % 2 ^ 5 else f.toBitVec.toNat % 2 ^ 4
theorem ip_law20 {p ev fv : Int32} {r : Nat} (hr : r ≤ 3) (H : post 1 ()) : ∃ n, wL_lawOf_20 post mc ms p ev fv (nI r) kc ks n 0 0 0 0 0 (fun _ => 0) (fun _ => 0) (fun _ => 0) (fun _ => 0) (fun _ => 0) (fun _ => 0) := by
  have hX : ∀ j, j < 3 → (p >>> ((6 * nI j) &&& 31)) &&& 31 = nI (ip_X p fv j) := fun j hj => by
    rw [pk_and _ 5 (by decide), show ip_X p fv j = (p >>> ((6 * nI j) &&& 31)).toBitVec.toNat % 2 ^ 5 from if_pos hj]
  have hS : fv &&& 15 = nI (ip_X p fv 3) := by
    rw [pk_and _ 4 (by decide)]
    rfl
  have hE : ∃ e, e ≤ 63 ∧ ev &&& 63 = nI e := by
    obtain ⟨e, h1, h2⟩ := pk_andE ev (m := 63) 6 (by decide)
    exact ⟨e, by omega, h2⟩
  obtain ⟨e, he, hE⟩ := hE
  have hx : ∀ j, j < 4 → ip_X p fv j ≤ 31 := fun j hj => by
    unfold ip_X
    split <;> omega
  have hx3 : ∀ j, j < 3 → ip_X p fv j ≤ 31 := fun j hj => hx j (by omega)
  refine pk_loop (fun n i (s : (Nat → Int32) × (Nat → Int32)) => wL_lawOf_20 post mc ms p ev fv (nI r) kc ks n (nI (ip_pp (ip_X p fv) i)) (nI i) (nI i) 0 0 s.1 s.2 (fun _ => 0) (fun _ => 0) (fun _ => 0) (fun _ => 0)) (fun i s => (∀ j, j < i → s.1 j = nI (ip_X p fv j)) ∧ (∀ j, j < i → s.2 j = nI (ip_rk j))) 3 0 (fun _ => 0, fun _ => 0) (by omega) ⟨fun j hj => absurd hj (by omega), fun j hj => absurd hj (by omega)⟩ ?_ ?_
  · intro n s h
    obtain ⟨b1, b2⟩ := s
    have h1 : ∀ j, j < 3 → b1 j = nI (ip_X p fv j) := h.1
    have h2 : ∀ j, j < 3 → b2 j = nI (ip_rk j) := h.2
    have b3 := hx 3 (by omega)
    refine pk_le 3 3 (fun _ => nm_r hS ?_) (fun z => absurd z (by omega))
    refine ip_add (c := 3) (k := 0) (by omega) (by omega) (by omega) (br_t rfl ?_)
    refine ip_rule hr (br_t rfl (nm_r hE ?_))
    refine ip_estate (nI_add _ _) (by omega) (br_t (nI_add _ _).symm ?_)
    rw [ip_pp_3]
    refine ip_law138 (x := ip_X p fv) ⟨?_, ?_, ⟨rfl, ?_, rfl, rfl⟩, hx, hr⟩ he H
    · exact ip_fill (w := ip_X p fv) h1 rfl
    · exact ip_fill (w := ip_rk) h2 rfl
    · exact pk_us
  · intro n i s hi h hw
    obtain ⟨b1, b2⟩ := s
    have h1 : ∀ j, j < i → b1 j = nI (ip_X p fv j) := h.1
    have h2 : ∀ j, j < i → b2 j = nI (ip_rk j) := h.2
    have bi := hx i (by omega)
    refine pk_le 3 i (fun z => absurd z (by omega)) (fun _ => nm_r (hX i hi) (nm_r (ip_or hi hx3) ?_))
    refine ip_add (c := i) (k := 1) (by omega) (by omega) (by omega) (br_t rfl (nm_r (nI_1 i) ?_))
    exact hw (upd b1 i (nI (ip_X p fv i)), upd b2 i (nI 1)) ⟨ip_fill (w := ip_X p fv) h1 rfl, ip_fill (w := ip_rk) h2 (by rw [ip_rk_1 hi])⟩
theorem ip_lawOf {p0 p1 p2 p3 : Int32} (H : post 1 ()) : wpL_lawOf post 40 640 () p0 p1 p2 p3 := by
  obtain ⟨r, h1, h2⟩ := pk_andE p1 (m := 3) 2 (by decide)
  refine ⟨by omega, by omega, 39, 631, by omega, by omega, ?_⟩
  refine ⟨by omega, by omega, by omega, by omega, by omega, by omega, by omega, by omega, by omega, by omega, by omega, by omega, ?_⟩
  exact nm_r h2 (ip_law20 (by omega) H)
theorem ip_cell {post : Int32 → Prop} {L k : Nat} {xs : Nat → Int32} (hL : L ≤ 4) (hk : k < 4) (H : ∀ v, post v) : wpL_cellAt post L xs () (nI k) :=
  pk_le L k (fun _ => H 0) (fun z => ⟨pk_in k L z, H _⟩)
end
theorem i_vc (xs : Nat → Int32) (L : Nat) (hL : L ≤ 4) : wpL_law (fun r => r = 1) L xs := by
  unfold wpL_law
  refine ip_cell (k := 0) hL (by omega) (fun r1 => ?_)
  refine ip_cell (k := 1) hL (by omega) (fun r2 => ?_)
  refine ip_cell (k := 2) hL (by omega) (fun r3 => ?_)
  refine ip_cell (k := 3) hL (by omega) (fun r4 => ?_)
  exact ⟨40, 640, by omega, by omega, ip_lawOf rfl⟩
end
