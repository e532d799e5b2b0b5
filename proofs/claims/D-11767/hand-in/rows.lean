section
/-! plain rows: lists of runs, the arrays that hold them -/
/-- the runs' lengths, added up -/
def zt_s : List (Nat × Int32) → Nat
  | [] => 0
  | x :: R => x.1 + zt_s R
theorem zt_s_nil : zt_s [] = 0 := rfl
theorem zt_s_cons (x : Nat × Int32) (R : List (Nat × Int32)) : zt_s (x :: R) = x.1 + zt_s R := rfl
theorem zt_s_app (A B : List (Nat × Int32)) : zt_s (A ++ B) = zt_s A + zt_s B := by
  induction A with
  | nil => rw [List.nil_append, zt_s_nil, Nat.zero_add]
  | cons x A ih => rw [List.cons_append, zt_s_cons, zt_s_cons, ih, Nat.add_assoc]
/-- from place o on the two arrays hold the runs -/
def zt_Q (a2 a3 : Nat → Int32) : Nat → List (Nat × Int32) → Prop
  | _, [] => True
  | o, x :: R => a2 o = nI x.1 ∧ a3 o = x.2 ∧ zt_Q a2 a3 (o + 1) R
theorem zt_Q_nil (a2 a3 : Nat → Int32) (o : Nat) : zt_Q a2 a3 o [] := trivial
theorem zt_Q_cons (a2 a3 : Nat → Int32) (o : Nat) (x : Nat × Int32) (R : List (Nat × Int32)) : zt_Q a2 a3 o (x :: R) ↔ (a2 o = nI x.1 ∧ a3 o = x.2 ∧ zt_Q a2 a3 (o + 1) R) := Iff.rfl
theorem zt_Q_app (a2 a3 : Nat → Int32) (A B : List (Nat × Int32)) : ∀ o, zt_Q a2 a3 o (A ++ B) ↔ (zt_Q a2 a3 o A ∧ zt_Q a2 a3 (o + A.length) B) := by
  induction A with
  | nil =>
    intro o
    exact ⟨fun h => ⟨trivial, h⟩, fun h => h.2⟩
  | cons x A ih =>
    intro o
    have e : o + (x :: A).length = o + 1 + A.length := by rw [List.length_cons]; omega
    rw [e, List.cons_append, zt_Q_cons, zt_Q_cons, ih (o + 1)]
    exact ⟨fun h => ⟨⟨h.1, h.2.1, h.2.2.1⟩, h.2.2.2⟩, fun h => ⟨h.1.1, h.1.2.1, h.1.2.2, h.2⟩⟩
theorem zt_Q_mv {a2 a3 b2 b3 : Nat → Int32} : ∀ (R : List (Nat × Int32)) (o o' : Nat), (∀ k, k < R.length → b2 (o' + k) = a2 (o + k) ∧ b3 (o' + k) = a3 (o + k)) → zt_Q a2 a3 o R → zt_Q b2 b3 o' R := by
  intro R
  induction R with
  | nil => intro o o' _ _; exact zt_Q_nil _ _ _
  | cons x R ih =>
    intro o o' h q
    rw [zt_Q_cons] at q ⊢
    have h0 := h 0 (by rw [List.length_cons]; omega)
    rw [Nat.add_zero, Nat.add_zero] at h0
    refine ⟨h0.1.trans q.1, h0.2.trans q.2.1, ih (o + 1) (o' + 1) (fun k hk => ?_) q.2.2⟩
    have h1 := h (k + 1) (by rw [List.length_cons]; omega)
    rw [show o' + 1 + k = o' + (k + 1) by omega, show o + 1 + k = o + (k + 1) by omega]
    exact h1
theorem zt_Q_at {a2 a3 : Nat → Int32} {A B : List (Nat × Int32)} {x : Nat × Int32} (h : zt_Q a2 a3 0 (A ++ x :: B)) : a2 A.length = nI x.1 ∧ a3 A.length = x.2 := by
  have t := ((zt_Q_app a2 a3 A (x :: B) 0).mp h).2
  rw [Nat.zero_add, zt_Q_cons] at t
  exact ⟨t.1, t.2.1⟩
/-- a place opened, a place closed -/
def zt_o (a : Nat → Int32) (A C : Nat) : Nat → Int32 := fun k => if A < k ∧ k ≤ C then a (k - 1) else a k
def zt_c (a : Nat → Int32) (A E : Nat) : Nat → Int32 := fun k => if A ≤ k ∧ k < E then a (k + 1) else a k
theorem zt_o_in {a : Nat → Int32} {A C k : Nat} (h1 : A < k) (h2 : k ≤ C) : zt_o a A C k = a (k - 1) := if_pos ⟨h1, h2⟩
theorem zt_o_out {a : Nat → Int32} {A C k : Nat} (h : k ≤ A ∨ C < k) : zt_o a A C k = a k := if_neg (by omega)
theorem zt_c_in {a : Nat → Int32} {A E k : Nat} (h1 : A ≤ k) (h2 : k < E) : zt_c a A E k = a (k + 1) := if_pos ⟨h1, h2⟩
theorem zt_c_out {a : Nat → Int32} {A E k : Nat} (h : k < A ∨ E ≤ k) : zt_c a A E k = a k := if_neg (by omega)
theorem zt_o_0 (a : Nat → Int32) (C : Nat) : zt_o a C C = a := by
  funext k
  exact zt_o_out (by omega)
theorem zt_c_0 (a : Nat → Int32) (A : Nat) : zt_c a A A = a := by
  funext k
  exact zt_c_out (by omega)
theorem zt_o_s {a : Nat → Int32} {i C : Nat} (h : i + 1 ≤ C) : upd (zt_o a (i + 1) C) (i + 1) (zt_o a (i + 1) C i) = zt_o a i C := by
  funext k
  by_cases e : k = i + 1
  · rw [e, pk_us, zt_o_out (by omega), zt_o_in (by omega) h]
    rfl
  · rw [pk_un e]
    by_cases c : i < k ∧ k ≤ C
    · rw [zt_o_in (by omega) c.2, zt_o_in c.1 c.2]
    · rw [zt_o_out (by omega), zt_o_out (by omega)]
theorem zt_c_s {a : Nat → Int32} {A i : Nat} (h : A ≤ i) : upd (zt_c a A i) i (zt_c a A i (i + 1)) = zt_c a A (i + 1) := by
  funext k
  by_cases e : k = i
  · rw [e, pk_us, zt_c_out (by omega), zt_c_in h (by omega)]
  · rw [pk_un e]
    by_cases c : A ≤ k ∧ k < i
    · rw [zt_c_in c.1 c.2, zt_c_in c.1 (by omega)]
    · rw [zt_c_out (by omega), zt_c_out (by omega)]
/-- the runs' picture: a count and two arrays -/
def zt_R (c : Int32) (a2 a3 : Nat → Int32) (R : List (Nat × Int32)) : Prop := c = nI R.length ∧ zt_Q a2 a3 0 R
/-- a run put in -/
theorem zt_Q_ins {a2 a3 : Nat → Int32} {A B : List (Nat × Int32)} {k C : Nat} {s : Int32} (hC : C = A.length + B.length) (h : zt_Q a2 a3 0 (A ++ B)) : zt_Q (upd (zt_o a2 A.length C) A.length (nI k)) (upd (zt_o a3 A.length C) A.length s) 0 (A ++ (k, s) :: B) := by
  rw [zt_Q_app] at h ⊢
  rw [zt_Q_cons]
  refine ⟨zt_Q_mv A 0 0 (fun j hj => ?_) h.1, ?_, ?_, zt_Q_mv B (0 + A.length) _ (fun j hj => ?_) h.2⟩
  · rw [Nat.zero_add, pk_un (by omega), pk_un (by omega), zt_o_out (by omega), zt_o_out (by omega)]
    exact ⟨rfl, rfl⟩
  · rw [Nat.zero_add, pk_us]
  · rw [Nat.zero_add, pk_us]
  · rw [Nat.zero_add, pk_un (by omega), pk_un (by omega), zt_o_in (by omega) (by omega), zt_o_in (by omega) (by omega), show A.length + 1 + j - 1 = A.length + j by omega]
    exact ⟨rfl, rfl⟩
/-- a run taken out -/
theorem zt_Q_del {a2 a3 : Nat → Int32} {A B : List (Nat × Int32)} {x : Nat × Int32} {E : Nat} (hE : E = A.length + B.length) (h : zt_Q a2 a3 0 (A ++ x :: B)) : zt_Q (zt_c a2 A.length E) (zt_c a3 A.length E) 0 (A ++ B) := by
  rw [zt_Q_app, zt_Q_cons] at h
  rw [zt_Q_app]
  refine ⟨zt_Q_mv A 0 0 (fun j hj => ?_) h.1, zt_Q_mv B (0 + A.length + 1) _ (fun j hj => ?_) h.2.2.2⟩
  · rw [Nat.zero_add, zt_c_out (by omega), zt_c_out (by omega)]
    exact ⟨rfl, rfl⟩
  · rw [Nat.zero_add, zt_c_in (by omega) (by omega), zt_c_in (by omega) (by omega), show A.length + j + 1 = A.length + 1 + j by omega]
    exact ⟨rfl, rfl⟩
/-- a run cut in two -/
theorem zt_Q_two {a2 a3 : Nat → Int32} {A B : List (Nat × Int32)} {k d C : Nat} {s : Int32} (hd : d ≤ k) (hC : C = A.length + 1 + B.length) (h : zt_Q a2 a3 0 (A ++ (k, s) :: B)) :
    zt_Q (upd (upd (zt_o a2 A.length C) A.length (nI d)) (A.length + 1) ((upd (zt_o a2 A.length C) A.length (nI d)) (A.length + 1) - (upd (zt_o a2 A.length C) A.length (nI d)) A.length)) (zt_o a3 A.length C) 0 (A ++ (d, s) :: (k - d, s) :: B) := by
  rw [zt_Q_app, zt_Q_cons, Nat.zero_add] at h
  rw [zt_Q_app, zt_Q_cons, zt_Q_cons, Nat.zero_add]
  refine ⟨zt_Q_mv A 0 0 (fun j hj => ?_) h.1, ?_, ?_, ?_, ?_, zt_Q_mv B (A.length + 1) _ (fun j hj => ?_) h.2.2.2⟩
  · rw [Nat.zero_add, pk_un (by omega), pk_un (by omega), zt_o_out (by omega), zt_o_out (by omega)]
    exact ⟨rfl, rfl⟩
  · rw [pk_un (by omega), pk_us]
  · rw [zt_o_out (by omega)]
    exact h.2.2.1
  · rw [pk_us, pk_us, pk_un (by omega), zt_o_in (by omega) (by omega), show A.length + 1 - 1 = A.length by omega, h.2.1]
    exact pk_sub hd
  · rw [zt_o_in (by omega) (by omega), show A.length + 1 - 1 = A.length by omega]
    exact h.2.2.1
  · rw [pk_un (by omega), pk_un (by omega), zt_o_in (by omega) (by omega), zt_o_in (by omega) (by omega), show A.length + 1 + 1 + j - 1 = A.length + 1 + j by omega]
    exact ⟨rfl, rfl⟩
/-- one run's length, one run's style written -/
theorem zt_Q_size {a2 a3 : Nat → Int32} {A B : List (Nat × Int32)} {x : Nat × Int32} {k : Nat} (h : zt_Q a2 a3 0 (A ++ x :: B)) : zt_Q (upd a2 A.length (nI k)) a3 0 (A ++ (k, x.2) :: B) := by
  rw [zt_Q_app, zt_Q_cons, Nat.zero_add] at h
  rw [zt_Q_app, zt_Q_cons, Nat.zero_add]
  refine ⟨zt_Q_mv A 0 0 (fun j hj => ?_) h.1, pk_us, h.2.2.1, zt_Q_mv B (A.length + 1) _ (fun j hj => ?_) h.2.2.2⟩
  · rw [Nat.zero_add, pk_un (by omega)]
    exact ⟨rfl, rfl⟩
  · rw [pk_un (by omega)]
    exact ⟨rfl, rfl⟩
theorem zt_Q_look {a2 a3 : Nat → Int32} {A B : List (Nat × Int32)} {x : Nat × Int32} {s : Int32} (h : zt_Q a2 a3 0 (A ++ x :: B)) : zt_Q a2 (upd a3 A.length s) 0 (A ++ (x.1, s) :: B) := by
  rw [zt_Q_app, zt_Q_cons, Nat.zero_add] at h
  rw [zt_Q_app, zt_Q_cons, Nat.zero_add]
  refine ⟨zt_Q_mv A 0 0 (fun j hj => ?_) h.1, h.2.1, pk_us, zt_Q_mv B (A.length + 1) _ (fun j hj => ?_) h.2.2.2⟩
  · rw [Nat.zero_add, pk_un (by omega)]
    exact ⟨rfl, rfl⟩
  · rw [pk_un (by omega)]
    exact ⟨rfl, rfl⟩
/-- joining neighbours of one style, from behind -/
def zt_j1 (x : Nat × Int32) : List (Nat × Int32) → List (Nat × Int32)
  | [] => [x]
  | y :: T => if y.2 = x.2 then (x.1 + y.1, x.2) :: T else x :: y :: T
def zt_j (R : List (Nat × Int32)) : List (Nat × Int32) := R.foldr zt_j1 []
/-- cutting at place p: the runs ahead of it, the runs behind it -/
def zt_cut (R : List (Nat × Int32)) (p : Nat) (A B : List (Nat × Int32)) : Prop :=
  (R = A ++ B ∧ zt_s A = p ∧ ∀ x T, B = x :: T → 0 < x.1) ∨
  (∃ A0 k s B0, R = A0 ++ (k, s) :: B0 ∧ zt_s A0 < p ∧ p < zt_s A0 + k ∧ A = A0 ++ [(p - zt_s A0, s)] ∧ B = (zt_s A0 + k - p, s) :: B0)
/-- a stretch of the plain style -/
def zt_Z (k : Nat) : List (Nat × Int32) := if k = 0 then [] else [(k, 0)]
theorem zt_Z_0 : zt_Z 0 = [] := rfl
theorem zt_Z_p {k : Nat} (h : 0 < k) : zt_Z k = [(k, 0)] := if_neg (by omega)
theorem zt_Z_s (k : Nat) : zt_s (zt_Z k) = k := by
  rcases Nat.eq_zero_or_pos k with h | h
  · rw [h]
    rfl
  · rw [zt_Z_p h]
    rfl
theorem zt_Z_len (k : Nat) : (zt_Z k).length ≤ 1 := by
  rcases Nat.eq_zero_or_pos k with h | h
  · rw [h]
    exact Nat.zero_le 1
  · rw [zt_Z_p h]
    exact Nat.le_refl 1
theorem zt_Z_cut {a p : Nat} (h : p ≤ a) : zt_cut (zt_Z a) p (zt_Z p) (zt_Z (a - p)) := by
  rcases Nat.eq_zero_or_pos p with h0 | h0
  · subst h0
    refine Or.inl ⟨?_, rfl, fun x T e => ?_⟩
    · rfl
    · rw [Nat.sub_zero] at e
      rcases Nat.eq_zero_or_pos a with g | g
      · rw [g, zt_Z_0] at e
        exact absurd e (by simp)
      · rw [zt_Z_p g] at e
        injection e with e1 e2
        rw [← e1]
        exact g
  · rcases Nat.lt_or_ge p a with h1 | h1
    · refine Or.inr ⟨[], a, 0, [], ?_, ?_, ?_, ?_, ?_⟩
      · rw [zt_Z_p (by omega)]
        rfl
      · exact h0
      · rw [zt_s_nil]
        omega
      · rw [zt_Z_p h0]
        rfl
      · rw [zt_Z_p (by omega), zt_s_nil, Nat.zero_add]
    · have e : p = a := by omega
      subst e
      refine Or.inl ⟨?_, zt_Z_s p, fun x T e => ?_⟩
      · rw [Nat.sub_self, zt_Z_0, List.append_nil]
      · rw [Nat.sub_self, zt_Z_0] at e
        exact absurd e (by simp)
theorem zt_cut_app {R A B S : List (Nat × Int32)} {p : Nat} (hB : B ≠ []) (h : zt_cut R p A B) : zt_cut (R ++ S) p A (B ++ S) := by
  rcases h with ⟨e, h1, h2⟩ | ⟨A0, k, s, B0, e, h1, h2, h3, h4⟩
  · refine Or.inl ⟨by rw [e, List.append_assoc], h1, fun x T g => ?_⟩
    cases B with
    | nil => exact absurd rfl hB
    | cons y U =>
      rw [List.cons_append] at g
      injection g with g1 g2
      rw [← g1]
      exact h2 y U rfl
  · exact Or.inr ⟨A0, k, s, B0 ++ S, by rw [e, List.append_assoc, List.cons_append], h1, h2, h3, by rw [h4, List.cons_append]⟩
/-- the joins that come up -/
theorem zt_jZ (k : Nat) : zt_j (zt_Z k) = zt_Z k := by
  rcases Nat.eq_zero_or_pos k with h | h
  · rw [h]
    rfl
  · rw [zt_Z_p h]
    rfl
theorem zt_jZZ (a b : Nat) : zt_j (zt_Z a ++ zt_Z b) = zt_Z (a + b) := by
  rcases Nat.eq_zero_or_pos a with h | h
  · rw [h, zt_Z_0, List.nil_append, Nat.zero_add, zt_jZ]
  · rcases Nat.eq_zero_or_pos b with g | g
    · rw [g, zt_Z_0, List.append_nil, Nat.add_zero, zt_jZ]
    · rw [zt_Z_p h, zt_Z_p g, zt_Z_p (by omega)]
      rfl
theorem zt_jZ1 (k : Nat) : zt_j (zt_Z k ++ [(1, 0)]) = zt_Z (k + 1) := zt_jZZ k 1
theorem zt_j1_ne {x y : Nat × Int32} {T : List (Nat × Int32)} (h : y.2 ≠ x.2) : zt_j1 x (y :: T) = x :: y :: T := if_neg h
theorem zt_j1_eq {x y : Nat × Int32} {T : List (Nat × Int32)} (h : y.2 = x.2) : zt_j1 x (y :: T) = (x.1 + y.1, x.2) :: T := if_pos h
theorem zt_j_cons (x : Nat × Int32) (R : List (Nat × Int32)) : zt_j (x :: R) = zt_j1 x (zt_j R) := rfl
/-- plain ahead of a styled run stays apart -/
theorem zt_jZs {a m : Nat} {s : Int32} {T U : List (Nat × Int32)} (hs : s ≠ 0) (h : zt_j ((m, s) :: T) = (m, s) :: U ∨ ∃ k, zt_j ((m, s) :: T) = (k, s) :: U) : zt_j (zt_Z a ++ (m, s) :: T) = zt_Z a ++ zt_j ((m, s) :: T) := by
  rcases Nat.eq_zero_or_pos a with g | g
  · rw [g, zt_Z_0, List.nil_append, List.nil_append]
  · rw [zt_Z_p g, List.cons_append, List.nil_append, zt_j_cons]
    rcases h with h | ⟨k, h⟩
    · rw [h, zt_j1_ne hs]
      rfl
    · rw [h, zt_j1_ne hs]
      rfl
theorem zt_jsZ {m q : Nat} {s : Int32} (hs : s ≠ 0) : zt_j ((m, s) :: zt_Z q) = (m, s) :: zt_Z q := by
  rw [zt_j_cons, zt_jZ]
  rcases Nat.eq_zero_or_pos q with g | g
  · rw [g, zt_Z_0]
    rfl
  · rw [zt_Z_p g, zt_j1_ne (fun e => hs e.symm)]
theorem zt_jZsZ {a m q : Nat} {s : Int32} (hs : s ≠ 0) : zt_j (zt_Z a ++ (m, s) :: zt_Z q) = zt_Z a ++ (m, s) :: zt_Z q := by
  rw [zt_jZs hs (Or.inl (zt_jsZ hs)), zt_jsZ hs]
/-- the copy behind the end -/
theorem zt_jCopy0 {a m : Nat} {s : Int32} (hs : s ≠ 0) : zt_j (zt_Z a ++ (m, s) :: (zt_Z 0 ++ [(m, s)])) = zt_Z a ++ [(m + m, s)] := by
  have e : zt_j ((m, s) :: (zt_Z 0 ++ [(m, s)])) = [(m + m, s)] := by
    rw [zt_Z_0, List.nil_append, zt_j_cons]
    exact zt_j1_eq rfl
  rw [zt_jZs hs (Or.inr ⟨m + m, e⟩), e]
theorem zt_jCopy1 {a m q : Nat} {s : Int32} (hs : s ≠ 0) (hq : 0 < q) : zt_j (zt_Z a ++ (m, s) :: (zt_Z q ++ [(m, s)])) = zt_Z a ++ [(m, s), (q, 0), (m, s)] := by
  have e : zt_j ((m, s) :: (zt_Z q ++ [(m, s)])) = [(m, s), (q, 0), (m, s)] := by
    rw [zt_Z_p hq, zt_j_cons, List.cons_append, List.nil_append, zt_j_cons, show zt_j [(m, s)] = [(m, s)] from rfl, zt_j1_ne (x := (q, 0)) (y := (m, s)) hs, zt_j1_ne (fun e => hs e.symm)]
  rw [zt_jZs hs (Or.inl e), e]
/-- the style at a place -/
def zt_at (R : List (Nat × Int32)) (x : Nat) (t : Int32) : Prop := ∃ A k B, R = A ++ (k, t) :: B ∧ zt_s A ≤ x ∧ x < zt_s A + k
theorem zt_atZ {a x : Nat} (h : x < a) (T : List (Nat × Int32)) : zt_at (zt_Z a ++ T) x 0 :=
  ⟨[], a, T, by rw [zt_Z_p (by omega)]; rfl, Nat.zero_le x, by rw [zt_s_nil]; omega⟩
theorem zt_at_s {A : List (Nat × Int32)} {m x : Nat} {s : Int32} (h1 : zt_s A ≤ x) (h2 : x < zt_s A + m) (T : List (Nat × Int32)) : zt_at (A ++ (m, s) :: T) x s :=
  ⟨A, m, T, rfl, h1, h2⟩
theorem zt_at_sZ {a m q x : Nat} {s : Int32} (h1 : a + m ≤ x) (h2 : x < a + m + q) : zt_at (zt_Z a ++ (m, s) :: zt_Z q) x 0 :=
  ⟨zt_Z a ++ [(m, s)], q, [], by rw [zt_Z_p (k := q) (by omega), List.append_assoc]; rfl, by rw [zt_s_app, zt_Z_s, zt_s_cons, zt_s_nil]; exact h1, by rw [zt_s_app, zt_Z_s, zt_s_cons, zt_s_nil]; exact h2⟩
/-- letters in a buffer with a gap -/
def zt_L (a : Nat → Int32) (N G : Nat) (f : Nat → Int32) : Prop := G ≤ N ∧ N ≤ 64 ∧ (∀ q, q < G → a q = f q) ∧ (∀ q, G ≤ q → q < N → a (q + 64 - N) = f q)
/-- one letter put in, a stretch taken out, a stretch put in -/
def zt_ins (f : Nat → Int32) (p : Nat) (c : Int32) : Nat → Int32 := fun q => if q < p then f q else if q = p then c else f (q - 1)
def zt_cutL (f : Nat → Int32) (i m : Nat) : Nat → Int32 := fun q => if q < i then f q else f (q + m)
def zt_mid (f g : Nat → Int32) (p k : Nat) : Nat → Int32 := fun q => if q < p then f q else if q < p + k then g (q - p) else f (q - k)
theorem zt_mid0 (f g : Nat → Int32) (p : Nat) : zt_mid f g p 0 = f := by
  funext q
  unfold zt_mid
  by_cases h : q < p
  · rw [if_pos h]
  · rw [if_neg h, if_neg (by omega)]
    rfl
theorem zt_mid_s (f g : Nat → Int32) (p k : Nat) : zt_ins (zt_mid f g p k) (p + k) (g k) = zt_mid f g p (k + 1) := by
  funext q
  unfold zt_ins zt_mid
  by_cases h : q < p
  · simp only [if_pos h, if_pos (show q < p + k by omega)]
  · by_cases h2 : q < p + k
    · simp only [if_pos h2, if_neg h, if_pos (show q < p + (k + 1) by omega)]
    · by_cases h3 : q = p + k
      · simp only [if_neg h2, if_pos h3, if_neg h, if_pos (show q < p + (k + 1) by omega)]
        rw [show q - p = k by omega]
      · simp only [if_neg h2, if_neg h3, if_neg h, if_neg (show ¬ q - 1 < p by omega), if_neg (show ¬ q - 1 < p + k by omega), if_neg (show ¬ q < p + (k + 1) by omega)]
        rw [show q - 1 - k = q - (k + 1) by omega]
theorem zt_L_up {a : Nat → Int32} {N G : Nat} {f : Nat → Int32} (h : zt_L a N (G + 1) f) : zt_L (upd a (G + 64 - N) (a G)) N G f := by
  obtain ⟨h1, h2, h3, h4⟩ := h
  refine ⟨by omega, h2, fun q hq => ?_, fun q hq hN => ?_⟩
  · rw [pk_un (by omega)]
    exact h3 q (by omega)
  · by_cases e : q = G
    · rw [e, pk_us]
      exact h3 G (by omega)
    · rw [pk_un (by omega)]
      exact h4 q (by omega) hN
theorem zt_L_dn {a : Nat → Int32} {N G : Nat} {f : Nat → Int32} (hG : G < N) (h : zt_L a N G f) : zt_L (upd a G (a (G + 64 - N))) N (G + 1) f := by
  obtain ⟨h1, h2, h3, h4⟩ := h
  refine ⟨by omega, h2, fun q hq => ?_, fun q hq hN => ?_⟩
  · by_cases e : q = G
    · rw [e, pk_us]
      exact h4 G (by omega) hG
    · rw [pk_un e]
      exact h3 q (by omega)
  · rw [pk_un (by omega)]
    exact h4 q (by omega) hN
theorem zt_L_ins {a : Nat → Int32} {N p : Nat} {f : Nat → Int32} (hN : N < 64) (c : Int32) (h : zt_L a N p f) : zt_L (upd a p c) (N + 1) (p + 1) (zt_ins f p c) := by
  obtain ⟨h1, h2, h3, h4⟩ := h
  refine ⟨by omega, by omega, fun q hq => ?_, fun q hq hq2 => ?_⟩
  · unfold zt_ins
    by_cases e : q = p
    · rw [e, pk_us, if_neg (by omega), if_pos rfl]
    · rw [pk_un e, if_pos (by omega)]
      exact h3 q (by omega)
  · unfold zt_ins
    rw [pk_un (by omega), if_neg (by omega), if_neg (by omega), show q + 64 - (N + 1) = q - 1 + 64 - N by omega]
    exact h4 (q - 1) (by omega) (by omega)
theorem zt_L_del {a : Nat → Int32} {N i j : Nat} {f : Nat → Int32} (hij : i ≤ j) (h : zt_L a N j f) : zt_L a (N - (j - i)) i (zt_cutL f i (j - i)) := by
  obtain ⟨h1, h2, h3, h4⟩ := h
  refine ⟨by omega, by omega, fun q hq => ?_, fun q hq hq2 => ?_⟩
  · unfold zt_cutL
    rw [if_pos hq]
    exact h3 q (by omega)
  · unfold zt_cutL
    rw [if_neg (by omega), show q + 64 - (N - (j - i)) = q + (j - i) + 64 - N by omega]
    exact h4 (q + (j - i)) (by omega) (by omega)
/-- the cell of a place -/
def zt_cell (N G q : Nat) : Nat := if q < G then q else q + 64 - N
theorem zt_cell_lt {N G q : Nat} (hG : G ≤ N) (hN : N ≤ 64) (h : q < N) : zt_cell N G q < 64 := by
  unfold zt_cell
  by_cases e : q < G
  · rw [if_pos e]
    omega
  · rw [if_neg e]
    omega
theorem zt_cell_ne {N G q r : Nat} (hG : G ≤ N) (hN : N ≤ 64) (h : q < r) (hr : r < N) : zt_cell N G r ≠ zt_cell N G q := by
  unfold zt_cell
  by_cases e : q < G
  · rw [if_pos e]
    by_cases g : r < G
    · rw [if_pos g]
      omega
    · rw [if_neg g]
      omega
  · rw [if_neg e, if_neg (by omega)]
    omega
theorem zt_L_at {a : Nat → Int32} {N G q : Nat} {f : Nat → Int32} (h : zt_L a N G f) (hq : q < N) : a (zt_cell N G q) = f q := by
  obtain ⟨h1, h2, h3, h4⟩ := h
  unfold zt_cell
  by_cases e : q < G
  · rw [if_pos e]
    exact h3 q e
  · rw [if_neg e]
    exact h4 q (by omega) hq
end
section
/-! the methods that work on the runs -/
section
variable {n g c fl h b : Int32} {a1 a2 a3 a4 a5 : Nat → Int32}
theorem zt_runAt_l {post : Int32 → St2 → Prop} {p C : Nat} (hp : p < 1000) (hC : C ≤ 68) (B : List (Nat × Int32)) :
    ∀ (A : List (Nat × Int32)) (i S : Nat), zt_Q a2 a3 i (A ++ B) → i + A.length + B.length = C → S + zt_s A ≤ p → (∀ x T, B = x :: T → p < S + zt_s A + x.1 ∧ x.1 < 1000) →
      post (nI (i + A.length)) (n, g, nI C, fl, h, nI (S + zt_s A), a1, a2, a3, a4, a5) →
      wX_runAt_9 post (nI p) n g (nI C) fl h a1 a2 a3 a4 a5 (A.length + 1) (nI i) (nI i) (nI S) := by
  intro A
  induction A with
  | nil =>
    intro i S q hc hs hb H
    simp only [List.length_nil, Nat.add_zero, zt_s_nil] at H hc hs hb
    rw [List.nil_append] at q
    cases B with
    | nil =>
      rw [List.length_nil] at hc
      exact pk_le C i (fun _ => H) (fun z => absurd z (by omega))
    | cons x T =>
      have hx := hb x T rfl
      rw [List.length_cons] at hc
      rw [zt_Q_cons] at q
      have e : nI S + a2 (nI i).toNatClampNeg = nI (S + x.1) := by rw [nI_clamp (by omega), q.1, nI_add]
      exact pk_le C i (fun z => absurd z (by omega)) (fun _ => ⟨pk_in i 68 (by omega), pk_lt p (S + x.1) (fun _ => H) (fun z => absurd z (by omega)) rfl e⟩)
  | cons x A ih =>
    intro i S q hc hs hb H
    rw [List.cons_append, zt_Q_cons] at q
    rw [List.length_cons] at hc
    rw [zt_s_cons] at hs
    have e : nI S + a2 (nI i).toNatClampNeg = nI (S + x.1) := by rw [nI_clamp (by omega), q.1, nI_add]
    have t := ih (i + 1) (S + x.1) q.2.2 (by omega) (by omega) (fun y T g => by have := hb y T g; rw [zt_s_cons] at this; omega) (by
      rw [show i + 1 + A.length = i + (x :: A).length by rw [List.length_cons]; omega, show S + x.1 + zt_s A = S + zt_s (x :: A) by rw [zt_s_cons]; omega]
      exact H)
    exact pk_le C i (fun z => absurd z (by omega)) (fun _ => ⟨pk_in i 68 (by omega), pk_lt p (S + x.1) (fun z => absurd z (by omega)) (fun _ => ⟨pk_in i 68 (by omega), nm_r e (nm_r (nI_1 i) (nm_r (nI_1 i) t))⟩) rfl e⟩)
theorem zt_runAt {post : Int32 → St2 → Prop} {p : Nat} {R : List (Nat × Int32)} (A B : List (Nat × Int32)) (hR : zt_R c a2 a3 R) (e : R = A ++ B) (hl : R.length ≤ 60) (hp : p < 1000) (hs : zt_s A ≤ p) (hb : ∀ x T, B = x :: T → p < zt_s A + x.1 ∧ x.1 < 1000)
    (H : post (nI A.length) (n, g, c, fl, h, nI (zt_s A), a1, a2, a3, a4, a5)) : wpX_runAt post (n, g, c, fl, h, b, a1, a2, a3, a4, a5) (nI p) := by
  obtain ⟨hc, q⟩ := hR
  subst hc
  rw [e] at q
  have hl2 : 0 + A.length + B.length = R.length := by rw [e, List.length_append]; omega
  exact ⟨A.length + 1, zt_runAt_l hp (by omega) B A 0 0 q hl2 (by omega) (fun x T k => by have := hb x T k; omega) (by rw [Nat.zero_add, Nat.zero_add]; exact H)⟩
theorem zt_openRun {post : St2 → Prop} {A C : Nat} (hA : A ≤ C) (hC : C < 68) (H : post (n, g, nI (C + 1), fl, h, b, a1, zt_o a2 A C, zt_o a3 A C, a4, a5)) : wpX_openRun post (n, g, nI C, fl, h, b, a1, a2, a3, a4, a5) (nI A) := by
  have key : ∀ d, A + d ≤ C → wX_openRun_5 post (nI A) n g (nI C) fl h b (d + 1) (nI (A + d)) a1 (zt_o a2 (A + d) C) (zt_o a3 (A + d) C) a4 a5 := by
    intro d
    induction d with
    | zero =>
      intro _
      exact pk_le A A (fun _ => nm_r (nI_1 C) H) (fun z => absurd z (by omega))
    | succ d ih =>
      intro hd
      have e2 : ∀ a : Nat → Int32, upd (zt_o a (A + d + 1) C) (nI (A + d + 1)).toNatClampNeg (zt_o a (A + d + 1) C (nI (A + d + 1) - 1).toNatClampNeg) = zt_o a (A + d) C := fun a => by
        rw [nI_pred, nI_clamp (by omega), nI_clamp (by omega), zt_o_s (by omega)]
      have t := ih (by omega)
      exact pk_le (A + d + 1) A (fun z => absurd z (by omega)) (fun _ => ⟨pk_in (A + d) 68 (by omega) (nI_pred _), pk_in (A + d + 1) 68 (by omega), nm_r (e2 a2) ⟨pk_in (A + d) 68 (by omega) (nI_pred _), pk_in (A + d + 1) 68 (by omega), nm_r (e2 a3) (nm_r (pk_m1 _) t)⟩⟩)
  have t := key (C - A) (by omega)
  rw [show A + (C - A) = C by omega, zt_o_0, zt_o_0] at t
  exact ⟨_, t⟩
theorem zt_cutAt {post : Int32 → St2 → Prop} {p : Nat} {R A B : List (Nat × Int32)} (hR : zt_R c a2 a3 R) (hl : R.length ≤ 60) (hs : zt_s R < 1000) (hp : p < 1000) (hc : zt_cut R p A B)
    (H : ∀ c' b' a2' a3', zt_R c' a2' a3' (A ++ B) → post (nI A.length) (n, g, c', fl, h, b', a1, a2', a3', a4, a5)) : wpX_cutAt post (n, g, c, fl, h, b, a1, a2, a3, a4, a5) (nI p) := by
  rcases hc with ⟨e, h1, h2⟩ | ⟨A0, k, s, B0, e, h1, h2, h3, h4⟩
  · subst e
    have hb : ∀ x T, B = x :: T → p < zt_s A + x.1 ∧ x.1 < 1000 := fun x T k => by
      have := h2 x T k
      rw [zt_s_app, k, zt_s_cons] at hs
      omega
    have hc := hR.1
    rw [List.length_append] at hc hl
    unfold wpX_cutAt
    refine zt_runAt A B hR rfl (by rw [List.length_append]; exact hl) hp (by omega) hb ?_
    exact pk_le (A.length + B.length) A.length (fun _ => H c _ a2 a3 hR) (fun _ => pk_le p (zt_s A) (fun _ => H c _ a2 a3 hR) (fun z => absurd z (by omega))) hc
  · subst e
    have hc := hR.1
    have q := hR.2
    rw [List.length_append, List.length_cons] at hc hl
    simp only [zt_s_app, zt_s_cons] at hs
    unfold wpX_cutAt
    refine zt_runAt A0 ((k, s) :: B0) hR rfl (by rw [List.length_append, List.length_cons]; exact hl) hp (by omega) (fun x T z => by injection z with z1 z2; rw [← z1]; dsimp only; omega) ?_
    subst hc
    refine pk_le (A0.length + (B0.length + 1)) A0.length (fun z => absurd z (by omega)) (fun _ => pk_le p (zt_s A0) (fun z => absurd z (by omega)) (fun _ => ?_))
    refine zt_openRun (A := A0.length) (C := A0.length + (B0.length + 1)) (by omega) (by omega) ?_
    have e1 : upd (zt_o a2 A0.length (A0.length + (B0.length + 1))) (nI A0.length).toNatClampNeg (nI p - nI (zt_s A0)) = upd (zt_o a2 A0.length (A0.length + (B0.length + 1))) A0.length (nI (p - zt_s A0)) := by
      rw [nI_clamp (by omega), pk_sub (by omega)]
    have e2 : ∀ a : Nat → Int32, upd a (nI A0.length + 1).toNatClampNeg (a (nI A0.length + 1).toNatClampNeg - a (nI A0.length).toNatClampNeg) = upd a (A0.length + 1) (a (A0.length + 1) - a A0.length) := fun a => by
      rw [nI_1, nI_clamp (by omega), nI_clamp (by omega)]
    have e3 : nI A0.length + 1 = nI A.length := by
      rw [h3, nI_1, List.length_append]
      rfl
    have e4 : A ++ B = A0 ++ (p - zt_s A0, s) :: (k - (p - zt_s A0), s) :: B0 := by
      rw [h3, h4, List.append_assoc, show zt_s A0 + k - p = k - (p - zt_s A0) by omega]
      rfl
    have fin := H (nI (A0.length + (B0.length + 1) + 1)) (nI (zt_s A0)) _ _ ⟨by rw [e4, List.length_append, List.length_cons, List.length_cons]; rfl, by rw [e4]; exact zt_Q_two (d := p - zt_s A0) (C := A0.length + (B0.length + 1)) (by omega) (by omega) q⟩
    exact ⟨pk_in A0.length 68 (by omega), nm_r e1 ⟨pk_in (A0.length + 1) 68 (by omega) (nI_1 _), pk_in A0.length 68 (by omega), pk_in (A0.length + 1) 68 (by omega) (nI_1 _), nm_r (e2 _) (nm_r e3 fin)⟩⟩
theorem zt_closeRun {post : St2 → Prop} {A B : List (Nat × Int32)} {x : Nat × Int32} (hR : zt_R c a2 a3 (A ++ x :: B)) (hl : A.length + B.length ≤ 60)
    (H : ∀ c' a2' a3', zt_R c' a2' a3' (A ++ B) → post (n, g, c', fl, h, b, a1, a2', a3', a4, a5)) : wpX_closeRun post (n, g, c, fl, h, b, a1, a2, a3, a4, a5) (nI A.length) := by
  obtain ⟨hc, q⟩ := hR
  have e0 : c - 1 = nI (A.length + B.length) := by rw [hc, List.length_append, List.length_cons, ← Nat.add_assoc, nI_pred]
  have fin := H (nI (A.length + B.length)) _ _ ⟨by rw [List.length_append], zt_Q_del rfl q⟩
  refine nm_r e0 ?_
  refine pk_loop (fun k i s => wX_closeRun_12 post n g (nI (A.length + B.length)) fl h b k (nI i) a1 s.1 s.2 a4 a5) (fun i s => s = (zt_c a2 A.length i, zt_c a3 A.length i) ∧ A.length ≤ i) (A.length + B.length) A.length (a2, a3) (by omega) ⟨by rw [zt_c_0, zt_c_0], by omega⟩ ?_ ?_
  · intro k s hs
    rw [hs.1]
    exact pk_le (A.length + B.length) (A.length + B.length) (fun _ => fin) (fun z => absurd z (by omega))
  · intro k i s hi hs hw
    rw [hs.1]
    have ha := hs.2
    have e2 : ∀ a : Nat → Int32, upd (zt_c a A.length i) (nI i).toNatClampNeg (zt_c a A.length i (nI i + 1).toNatClampNeg) = zt_c a A.length (i + 1) := fun a => by
      rw [nI_1, nI_clamp (by omega), nI_clamp (by omega), zt_c_s ha]
    have t := hw (zt_c a2 A.length (i + 1), zt_c a3 A.length (i + 1)) ⟨rfl, by omega⟩
    exact pk_le (A.length + B.length) i (fun z => absurd z (by omega)) (fun _ => ⟨pk_in (i + 1) 68 (by omega) (nI_1 i), pk_in i 68 (by omega), nm_r (e2 a2) ⟨pk_in (i + 1) 68 (by omega) (nI_1 i), pk_in i 68 (by omega), nm_r (e2 a3) (nm_r (nI_1 i) t)⟩⟩)
theorem zt_join_l {post : St2 → Prop} : ∀ (Q : List (Nat × Int32)) (y : Nat × Int32) (T : List (Nat × Int32)) (c : Int32) (a2 a3 : Nat → Int32), zt_R c a2 a3 (Q.reverse ++ y :: T) → Q.length + T.length ≤ 59 →
    (∀ c' a2' a3', zt_R c' a2' a3' (Q.reverse.foldr zt_j1 (y :: T)) → post (n, g, c', fl, h, b, a1, a2', a3', a4, a5)) → wX_joinRuns_7 post (Q.length + 1) (nI Q.length) n g c fl h b a1 a2 a3 a4 a5 := by
  intro Q
  induction Q with
  | nil =>
    intro y T c a2 a3 hR hl H
    exact pk_le 0 0 (fun _ => H c a2 a3 hR) (fun z => absurd z (by omega))
  | cons x Q ih =>
    intro y T c a2 a3 hR hl H
    rw [List.length_cons] at hl
    have er : (x :: Q).reverse ++ y :: T = Q.reverse ++ x :: y :: T := by rw [List.reverse_cons, List.append_assoc]; rfl
    have er2 : (x :: Q).reverse ++ y :: T = (Q.reverse ++ [x]) ++ y :: T := by rw [List.reverse_cons]
    have lr : Q.reverse.length = Q.length := List.length_reverse
    have lr2 : (Q.reverse ++ [x]).length = Q.length + 1 := by rw [List.length_append, lr]; rfl
    have hx := zt_Q_at (er ▸ hR.2 : zt_Q a2 a3 0 (Q.reverse ++ x :: y :: T))
    have hy := zt_Q_at (er2 ▸ hR.2 : zt_Q a2 a3 0 ((Q.reverse ++ [x]) ++ y :: T))
    rw [lr] at hx
    rw [lr2] at hy
    have ef : (x :: Q).reverse.foldr zt_j1 (y :: T) = Q.reverse.foldr zt_j1 (zt_j1 x (y :: T)) := by rw [List.reverse_cons, List.foldr_append]; rfl
    rw [ef] at H
    have k1 : (nI (Q.length + 1)).toNatClampNeg = Q.length + 1 := nI_clamp (by omega)
    have k0 : (nI (Q.length + 1) - 1).toNatClampNeg = Q.length := by rw [nI_pred, nI_clamp (by omega)]
    refine pk_le (Q.length + 1) 0 (fun z => absurd z (by omega)) (fun _ => ⟨pk_in (Q.length + 1) 68 (by omega), pk_in Q.length 68 (by omega) (nI_pred _), ?_⟩)
    by_cases hs : y.2 = x.2
    · rw [zt_j1_eq hs] at H
      have e1 : upd a2 (nI (Q.length + 1) - 1).toNatClampNeg (a2 (nI (Q.length + 1) - 1).toNatClampNeg + a2 (nI (Q.length + 1)).toNatClampNeg) = upd a2 Q.length (nI (x.1 + y.1)) := by
        rw [k0, k1, hx.1, hy.1, nI_add]
      have hR2 : zt_R c (upd a2 Q.length (nI (x.1 + y.1))) a3 ((Q.reverse ++ [(x.1 + y.1, x.2)]) ++ y :: T) := by
        refine ⟨?_, ?_⟩
        · rw [hR.1, er2, List.length_append, List.length_append, List.length_append, List.length_append]
          rfl
        · rw [List.append_assoc, ← lr]
          exact zt_Q_size (er ▸ hR.2 : zt_Q a2 a3 0 (Q.reverse ++ x :: y :: T))
      refine br_t (show a3 (nI (Q.length + 1)).toNatClampNeg = a3 (nI (Q.length + 1) - 1).toNatClampNeg by rw [k0, k1, hx.2, hy.2, hs]) ⟨pk_in Q.length 68 (by omega) (nI_pred _), pk_in (Q.length + 1) 68 (by omega), pk_in Q.length 68 (by omega) (nI_pred _), nm_r e1 ?_⟩
      have cl := zt_closeRun (n := n) (g := g) (fl := fl) (h := h) (b := b) (a1 := a1) (a4 := a4) (a5 := a5) (post := fun u => match u with
        | (n', g', c', fl', h', b', a1', a2', a3', a4', a5') => ∀ z, z = nI (Q.length + 1) + (-1) → wX_joinRuns_7 post (Q.length + 1) z n' g' c' fl' h' b' a1' a2' a3' a4' a5') hR2 (by rw [List.length_append, lr]; simp only [List.length_cons, List.length_nil]; omega) (fun c' a2' a3' hR' => nm_r (pk_m1 _) (ih _ T c' a2' a3' (by rw [List.append_assoc] at hR'; exact hR') (by omega) H))
      rw [show (Q.reverse ++ [(x.1 + y.1, x.2)]).length = Q.length + 1 by rw [List.length_append, lr]; rfl] at cl
      exact cl
    · rw [zt_j1_ne hs] at H
      refine br_f (show ¬ a3 (nI (Q.length + 1)).toNatClampNeg = a3 (nI (Q.length + 1) - 1).toNatClampNeg by rw [k0, k1, hx.2, hy.2]; exact hs) (nm_r (pk_m1 _) ?_)
      exact ih x (y :: T) c a2 a3 (er ▸ hR) (by rw [List.length_cons]; omega) H
theorem zt_joinRuns {post : St2 → Prop} {R : List (Nat × Int32)} (hR : zt_R c a2 a3 R) (hl : R.length ≤ 60)
    (H : ∀ c' a2' a3', zt_R c' a2' a3' (zt_j R) → post (n, g, c', fl, h, b, a1, a2', a3', a4, a5)) : wpX_joinRuns post (n, g, c, fl, h, b, a1, a2, a3, a4, a5) := by
  rcases List.eq_nil_or_concat R with e | ⟨P, z, e⟩
  · subst e
    have hc := hR.1
    refine nm_e ⟨1, br_t ?_ (H c a2 a3 hR)⟩
    rw [hc]
    decide
  · subst e
    have hc : c - 1 = nI P.reverse.length := by rw [hR.1, List.concat_eq_append, List.length_append, List.length_reverse]; exact nI_pred _
    rw [List.concat_eq_append, List.length_append] at hl
    rw [List.concat_eq_append] at hR H
    refine nm_r hc ⟨P.reverse.length + 1, zt_join_l P.reverse z [] c a2 a3 (by rw [List.reverse_reverse]; exact hR) (by rw [List.length_reverse]; simp only [List.length_cons, List.length_nil] at hl ⊢; omega) (fun c' a2' a3' h' => H c' a2' a3' ?_)⟩
    rw [List.reverse_reverse] at h'
    unfold zt_j
    rw [List.foldr_append]
    exact h'
theorem zt_putStyles {post : St2 → Prop} {R A B : List (Nat × Int32)} {p k : Nat} {s : Int32} (hk : 0 < k) (hk2 : k < 1000) (hR : zt_R c a2 a3 R) (hl : R.length ≤ 50) (hs : zt_s R < 1000) (hp : p < 1000) (hl2 : A.length + B.length ≤ 55) (hc : zt_cut R p A B)
    (H : ∀ c' b' a2' a3', zt_R c' a2' a3' (zt_j (A ++ (k, s) :: B)) → post (n, g, c', fl, h, b', a1, a2', a3', a4, a5)) : wpX_putStyles post (n, g, c, fl, h, b, a1, a2, a3, a4, a5) (nI p) (nI k) s := by
  refine br_f (nI_ne0 hk (by omega)) ?_
  refine zt_cutAt hR (by omega) hs hp hc (fun c' b' a2' a3' hR' => ?_)
  have hc' := hR'.1
  rw [List.length_append] at hc'
  subst hc'
  refine zt_openRun (A := A.length) (C := A.length + B.length) (by omega) (by omega) ?_
  have e1 : ∀ (a : Nat → Int32) (v : Int32), upd a (nI A.length).toNatClampNeg v = upd a A.length v := fun a v => by rw [nI_clamp (by omega)]
  refine ⟨pk_in A.length 68 (by omega), nm_r (e1 _ _) ⟨pk_in A.length 68 (by omega), nm_r (e1 _ _) ?_⟩⟩
  refine zt_joinRuns (R := A ++ (k, s) :: B) ⟨by rw [List.length_append, List.length_cons]; rfl, zt_Q_ins rfl hR'.2⟩ (by rw [List.length_append, List.length_cons]; omega) (fun c2 a2' a3' h2 => H c2 _ a2' a3' h2)
end
end
section
/-! the methods that work on the letters, and those that work on both -/
theorem zt_L_cg {a : Nat → Int32} {N G : Nat} {f f' : Nat → Int32} (e : ∀ q, q < N → f q = f' q) (h : zt_L a N G f) : zt_L a N G f' := by
  obtain ⟨h1, h2, h3, h4⟩ := h
  exact ⟨h1, h2, fun q hq => (h3 q hq).trans (e q (by omega)), fun q hq hN => (h4 q hq hN).trans (e q hN)⟩
theorem zt_m1lt {G p : Nat} (h : G ≤ p) (hp : p < 1000) : nI G - 1 < nI p := by
  show nI G - nI 1 < nI p
  rw [Int32.lt_iff_toInt_lt, pk_sub_toInt (by omega) (by omega), nI_toInt (by omega)]
  omega
section
variable {n g c fl h b : Int32} {a1 a2 a3 a4 a5 : Nat → Int32}
theorem zt_g45 {post : St2 → Prop} {N G p : Nat} {f : Nat → Int32} (hG : G ≤ p) (hp : p ≤ N) (hL : zt_L a1 N G f) (H : ∀ a1', zt_L a1' N p f → post (nI N, nI p, c, fl, h, b, a1', a2, a3, a4, a5)) :
    ∃ fu, wX_moveGap_45 post (nI p) (nI (64 - N)) (nI N) g c fl h b fu (nI G) a1 a2 a3 a4 a5 := by
  have hN := hL.2.1
  refine pk_loop (fun k i s => wX_moveGap_45 post (nI p) (nI (64 - N)) (nI N) g c fl h b k (nI i) s a2 a3 a4 a5) (fun i s => zt_L s N i f) p G a1 hG hL (fun k s hs => pk_le p p (fun _ => H s hs) (fun z => absurd z (by omega))) (fun k i s hi hs hw => ?_)
  have e : nI i + nI (64 - N) = nI (i + 64 - N) := by rw [nI_add, show i + (64 - N) = i + 64 - N by omega]
  have e2 : upd s (nI i).toNatClampNeg (s (nI i + nI (64 - N)).toNatClampNeg) = upd s i (s (i + 64 - N)) := by rw [e, nI_clamp (by omega), nI_clamp (by omega)]
  exact pk_le p i (fun z => absurd z (by omega)) (fun _ => ⟨pk_in (i + 64 - N) 64 (by omega) e, pk_in i 64 (by omega), nm_r e2 (nm_r (nI_1 i) (hw _ (zt_L_dn (by omega) hs)))⟩)
theorem zt_moveGap {post : St2 → Prop} {N G p : Nat} {f : Nat → Int32} (hL : zt_L a1 N G f) (hp : p ≤ N) (H : ∀ a1', zt_L a1' N p f → post (nI N, nI p, c, fl, h, b, a1', a2, a3, a4, a5)) :
    wpX_moveGap post (nI N, nI G, c, fl, h, b, a1, a2, a3, a4, a5) (nI p) := by
  have hN := hL.2.1
  have hGN := hL.1
  refine nm_r (show (64 : Int32) - nI N = nI (64 - N) from pk_sub (a := 64) hN) (nm_e ?_)
  rcases Nat.lt_or_ge p G with hG | hG
  · have key : ∀ d a1, p + d ≤ N → zt_L a1 N (p + d) f → wX_moveGap_15 post (nI p) (nI (64 - N)) (nI N) (nI G) c fl h b (d + 1) (nI (p + d) - 1) a1 a2 a3 a4 a5 := by
      intro d
      induction d with
      | zero =>
        intro a1 _ hL1
        exact br_t (zt_m1lt (Nat.le_refl p) (by omega)) ⟨1, pk_le p G (fun _ => H a1 hL1) (fun z => absurd z (by omega))⟩
      | succ d ih =>
        intro a1 hd hL1
        have e0 : nI (p + (d + 1)) - 1 = nI (p + d) := nI_pred (p + d)
        have e : nI (p + (d + 1)) - 1 + nI (64 - N) = nI (p + d + 64 - N) := by rw [e0, nI_add, show p + d + (64 - N) = p + d + 64 - N by omega]
        have e2 : upd a1 (nI (p + (d + 1)) - 1 + nI (64 - N)).toNatClampNeg (a1 (nI (p + (d + 1)) - 1).toNatClampNeg) = upd a1 (p + d + 64 - N) (a1 (p + d)) := by rw [e, e0, nI_clamp (by omega), nI_clamp (by omega)]
        have e3 : nI (p + (d + 1)) - 1 + (-1) = nI (p + d) - 1 := by rw [e0, Int32.sub_eq_add_neg]
        have t := ih (upd a1 (p + d + 64 - N) (a1 (p + d))) (by omega) (zt_L_up hL1)
        exact pk_lt (p + d) p (fun z => absurd z (by omega)) (fun _ => ⟨pk_in (p + d) 64 (by omega) e0, pk_in (p + d + 64 - N) 64 (by omega) e, nm_r e2 (nm_r e3 t)⟩) e0
    have t := key (G - p) a1 (by omega) (by rw [show p + (G - p) = G by omega]; exact hL)
    rw [show p + (G - p) = G by omega] at t
    exact ⟨_, t⟩
  · exact ⟨1, br_t (zt_m1lt hG (by omega)) (zt_g45 hG hp hL H)⟩
theorem zt_putLetter {post : St2 → Prop} {N G p : Nat} {f : Nat → Int32} {x v : Int32} (hx : x = nI p) (hL : zt_L a1 N G f) (hp : p ≤ N) (hN : N < 64) (H : ∀ a1', zt_L a1' (N + 1) (p + 1) (zt_ins f p v) → post (nI (N + 1), nI (p + 1), c, fl, h, b, a1', a2, a3, a4, a5)) :
    wpX_putLetter post (nI N, nI G, c, fl, h, b, a1, a2, a3, a4, a5) x v := by
  subst hx
  unfold wpX_putLetter
  refine zt_moveGap hL hp (fun a1' h1 => ?_)
  exact ⟨pk_in p 64 (by omega), nm_r (e' := upd a1' p v) (by rw [nI_clamp (by omega)]) (nm_r (nI_1 p) (nm_r (nI_1 N) (H _ (zt_L_ins hN v h1))))⟩
theorem zt_dropLetters {post : St2 → Prop} {N G i m q : Nat} {f : Nat → Int32} (hL : zt_L a1 N G f) (hN : i + m + q = N) (H : ∀ a1', zt_L a1' (i + q) i (zt_cutL f i m) → post (nI (i + q), nI i, c, fl, h, b, a1', a2, a3, a4, a5)) :
    wpX_dropLetters post (nI N, nI G, c, fl, h, b, a1, a2, a3, a4, a5) (nI i) (nI (i + m)) := by
  have hN2 := hL.2.1
  unfold wpX_dropLetters
  refine zt_moveGap hL (by omega) (fun a1' h1 => ?_)
  have h2 := zt_L_del (i := i) (by omega) h1
  rw [show i + m - i = m by omega, show N - m = i + q by omega] at h2
  exact nm_r (show nI N - (nI (i + m) - nI i) = nI (i + q) by rw [pk_sub (by omega), pk_sub (by omega), show N - (i + m - i) = i + q by omega]) (H _ h2)
theorem zt_moveFlag {post : St2 → Prop} {F p m : Nat} (hF : F < 1000) (hp : p < 1000) (H : post (n, g, c, nI (if p < F then F + m else F), h, b, a1, a2, a3, a4, a5)) : wpX_moveFlag post (n, g, c, nI F, h, b, a1, a2, a3, a4, a5) (nI p) (nI m) := by
  refine pk_le F p (fun z => ?_) (fun z => nm_r (nI_add F m) ?_)
  · rw [if_neg (by omega)] at H
    exact H
  · rw [if_pos z] at H
    exact H
theorem zt_cellOf {post : Int32 → Prop} {N G q : Nat} {x : Int32} (hx : x = nI q) (hG : G ≤ N) (hN : N ≤ 64) (hq : q < N) (H : post (nI (zt_cell N G q))) : wpX_cellOf post (nI N, nI G, c, fl, h, b, a1, a2, a3, a4, a5) x := by
  subst hx
  unfold zt_cell at H
  refine pk_le G q (fun z => ?_) (fun z => ?_)
  · rw [if_neg (by omega)] at H
    have e : nI q + 64 - nI N = nI (q + 64 - N) := by
      rw [show nI q + 64 = nI (q + 64) from nI_add q 64, pk_sub (by omega)]
    rw [e]
    exact H
  · rw [if_pos z] at H
    exact H
theorem zt_dropStyles {post : St2 → Prop} {R A1 B1 A B : List (Nat × Int32)} {i j : Nat} {s : Int32} (hij : i < j) (hj : j < 1000) (hR : zt_R c a2 a3 R) (hl : R.length ≤ 50) (hs : zt_s R < 1000) (hs1 : zt_s (A1 ++ B1) < 1000) (hl1 : (A1 ++ B1).length ≤ 50) (hl2 : A.length + B.length ≤ 50)
    (hc1 : zt_cut R j A1 B1) (hc2 : zt_cut (A1 ++ B1) i A ((j - i, s) :: B))
    (H : ∀ c' b' a2' a3', zt_R c' a2' a3' (zt_j (A ++ B)) → post (n, g, c', fl, h, b', a1, a2', a3', a4, a5)) : wpX_dropStyles post (n, g, c, fl, h, b, a1, a2, a3, a4, a5) (nI i) (nI j) := by
  refine pk_eq i j (fun z => absurd z (by omega)) (fun _ => ?_)
  refine zt_cutAt hR (by omega) hs hj hc1 (fun c1 b1 a21 a31 hR1 => ?_)
  refine zt_cutAt hR1 (by omega) hs1 (by omega) hc2 (fun c2 b2 a22 a32 hR2 => ?_)
  have q := zt_Q_at hR2.2
  have e1 : nI (j - i) - a22 (nI A.length).toNatClampNeg = nI 0 := by rw [nI_clamp (by omega), q.1, pk_sub (Nat.le_refl _), Nat.sub_self]
  refine nm_r (show nI j - nI i = nI (j - i) from pk_sub (by omega)) ⟨2, ?_⟩
  refine pk_le 64 0 (fun z => absurd z (by omega)) (fun _ => pk_le (j - i) 0 (fun z => absurd z (by omega)) (fun _ => ⟨pk_in A.length 68 (by omega), nm_r e1 ?_⟩))
  refine zt_closeRun hR2 (by omega) (fun c3 a23 a33 hR3 => nm_r (nI_1 0) ?_)
  refine pk_le 64 1 (fun z => absurd z (by omega)) (fun _ => pk_le 0 0 (fun _ => ?_) (fun z => absurd z (by omega)))
  unfold wX_dropStyles_60
  exact zt_joinRuns hR3 (by rw [List.length_append]; omega) (fun c4 a24 a34 hR4 => H c4 _ a24 a34 hR4)
/-- what a stretch of m styled letters looks like among plain ones -/
def zt_P (i m : Nat) (s : Int32) (q : Nat) : List (Nat × Int32) := if m = 0 then zt_Z (i + q) else zt_Z i ++ (m, s) :: zt_Z q
theorem zt_P_0 (i : Nat) (s : Int32) (q : Nat) : zt_P i 0 s q = zt_Z (i + q) := rfl
theorem zt_P_p {i m : Nat} {s : Int32} {q : Nat} (hm : 0 < m) : zt_P i m s q = zt_Z i ++ (m, s) :: zt_Z q := if_neg (by omega)
theorem zt_P_len (i m : Nat) (s : Int32) (q : Nat) : (zt_P i m s q).length ≤ 3 := by
  have h1 := zt_Z_len i
  have h2 := zt_Z_len q
  have h3 := zt_Z_len (i + q)
  rcases Nat.eq_zero_or_pos m with e | e
  · rw [e, zt_P_0]
    omega
  · rw [zt_P_p e, List.length_append, List.length_cons]
    omega
theorem zt_P_s (i m : Nat) (s : Int32) (q : Nat) : zt_s (zt_P i m s q) = i + m + q := by
  rcases Nat.eq_zero_or_pos m with e | e
  · rw [e, zt_P_0, zt_Z_s]
    omega
  · rw [zt_P_p e, zt_s_app, zt_s_cons, zt_Z_s, zt_Z_s]
    omega
/-- where the flag stands behind a deletion, behind an insertion -/
def zt_F1 (F i j : Nat) : Nat := if j ≤ F then F - (j - i) else if i < F then i else F
def zt_F2 (F p m : Nat) : Nat := if p < F then F + m else F
theorem zt_delete {post : St2 → Prop} {N G i m q F : Nat} {s : Int32} {f : Nat → Int32} (hL : zt_L a1 N G f) (hN : i + m + q = N) (hR : zt_R c a2 a3 (zt_P i m s q)) (hF : F < 1000)
    (H : ∀ c' b' a1' a2' a3', zt_L a1' (i + q) i (zt_cutL f i m) → zt_R c' a2' a3' (zt_Z (i + q)) → post (nI (i + q), nI i, c', nI (zt_F1 F i (i + m)), h, b', a1', a2', a3', a4, a5)) :
    wpX_delete post (nI N, nI G, c, nI F, h, b, a1, a2, a3, a4, a5) (nI i) (nI (i + m)) := by
  have hN2 := hL.2.1
  unfold wpX_delete
  refine zt_dropLetters hL hN (fun a1' h1 => ?_)
  have fin : ∀ c' b' a2' a3', zt_R c' a2' a3' (zt_Z (i + q)) → ((nI F < nI (i + m) → ((nI F ≤ nI i → post (nI (i + q), nI i, c', nI F, h, b', a1', a2', a3', a4, a5)) ∧ (¬ nI F ≤ nI i → post (nI (i + q), nI i, c', nI i, h, b', a1', a2', a3', a4, a5)))) ∧ (¬ nI F < nI (i + m) → ∀ z, z = nI F - (nI (i + m) - nI i) → post (nI (i + q), nI i, c', z, h, b', a1', a2', a3', a4, a5))) := by
    intro c' b' a2' a3' hR'
    have K := H c' b' a1' a2' a3' h1 hR'
    unfold zt_F1 at K
    refine pk_lt F (i + m) (fun z => ?_) (fun z => nm_r (e' := nI (F - (i + m - i))) (by rw [pk_sub (by omega), pk_sub (by omega)]) ?_)
    · rw [if_neg (by omega)] at K
      refine pk_le F i (fun y => ?_) (fun y => ?_)
      · rw [if_neg (by omega)] at K
        exact K
      · rw [if_pos y] at K
        exact K
    · rw [if_pos z] at K
      exact K
  rcases Nat.eq_zero_or_pos m with e | e
  · subst e
    rw [zt_P_0] at hR
    exact br_t rfl (fin c b a2 a3 hR)
  · rw [zt_P_p e] at hR
    have l1 := zt_Z_len i
    have l2 := zt_Z_len q
    have ea : zt_Z i ++ (m, s) :: zt_Z q = (zt_Z i ++ [(m, s)]) ++ zt_Z q := by rw [List.append_assoc]; rfl
    have hl : (zt_Z i ++ (m, s) :: zt_Z q).length ≤ 50 := by rw [List.length_append, List.length_cons]; omega
    have hs : zt_s (zt_Z i ++ (m, s) :: zt_Z q) < 1000 := by rw [zt_s_app, zt_s_cons, zt_Z_s, zt_Z_s]; dsimp only; omega
    refine zt_dropStyles (A1 := zt_Z i ++ [(m, s)]) (B1 := zt_Z q) (A := zt_Z i) (B := zt_Z q) (s := s) (by omega) (by omega) hR hl hs (by rw [← ea]; exact hs) (by rw [← ea]; exact hl) (by omega) (Or.inl ⟨ea, ?_, fun x T z => ?_⟩) (Or.inl ⟨?_, zt_Z_s i, fun x T z => ?_⟩) (fun c' b' a2' a3' hR' => ?_)
    · rw [zt_s_app, zt_Z_s, zt_s_cons, zt_s_nil]
      rfl
    · rcases Nat.eq_zero_or_pos q with y | y
      · rw [y, zt_Z_0] at z
        exact absurd z (by simp)
      · rw [zt_Z_p y] at z
        injection z with z1 z2
        rw [← z1]
        exact y
    · rw [← ea, show i + m - i = m by omega]
    · injection z with z1 z2
      rw [← z1]
      dsimp only
      omega
    · rw [zt_jZZ] at hR'
      exact fin c' b' a2' a3' hR'
end
end
section
/-! hold, give back, put, style, move, copy -/
theorem zt_mix : ∀ t, t < 64 → ((0 : Int32) &&& ((((15 : Int32) &&& 7) ||| 56) ^^^ (-1))) ||| (nI t &&& (((15 : Int32) &&& 7) ||| 56)) = nI t := by decide +kernel
section
variable {n g c fl h b : Int32} {a1 a2 a3 a4 a5 : Nat → Int32}
theorem zt_hold {post : St2 → Prop} {N G i m : Nat} {R : List (Nat × Int32)} {f : Nat → Int32} {t : Int32} (A B : List (Nat × Int32)) (hL : zt_L a1 N G f) (hj : i + m ≤ N) (hR : zt_R c a2 a3 R) (e : R = A ++ B) (hl : R.length ≤ 60) (hs : zt_s R < 1000) (h1 : zt_s A ≤ i)
    (hb : ∀ x T, B = x :: T → i < zt_s A + x.1 ∧ i + m ≤ zt_s A + x.1 ∧ (0 < m → x.2 = t)) (h0 : B = [] → m = 0)
    (H : ∀ b' a4' a5', (∀ k, k < m → a4' k = f (i + k)) → (∀ k, k < m → a5' k = t) → post (nI N, nI G, c, fl, nI m, b', a1, a2, a3, a4', a5')) :
    wpX_hold post (nI N, nI G, c, fl, h, b, a1, a2, a3, a4, a5) (nI i) (nI (i + m)) := by
  have hGN := hL.1
  have hN := hL.2.1
  have hc := hR.1
  rw [e, List.length_append] at hc
  have hl' := hl
  rw [e, List.length_append] at hl'
  rw [e, zt_s_app] at hs
  refine nm_r (show nI (i + m) - nI i = nI m by rw [pk_sub (by omega), Nat.add_sub_cancel_left]) ?_
  refine zt_runAt A B hR e hl (by omega) h1 (fun x T k => ⟨(hb x T k).1, by rw [k, zt_s_cons] at hs; omega⟩) ?_
  cases B with
  | nil =>
    have hm := h0 rfl
    subst hm
    rw [List.length_nil, Nat.add_zero] at hc
    exact pk_le A.length A.length (fun _ => nm_e ⟨1, pk_le 0 0 (fun _ => H _ a4 a5 (fun k z => absurd z (by omega)) (fun k z => absurd z (by omega))) (fun z => absurd z (by omega))⟩) (fun z => absurd z (by omega)) hc
  | cons x T =>
    obtain ⟨hx1, hx2, hx3⟩ := hb x T rfl
    rw [zt_s_cons] at hs
    rw [List.length_cons] at hc hl'
    have q := hR.2
    rw [e] at q
    have qx := zt_Q_at q
    have kA : (nI A.length).toNatClampNeg = A.length := nI_clamp (by omega)
    have e4 : nI (zt_s A) + a2 (nI A.length).toNatClampNeg = nI (zt_s A + x.1) := by rw [kA, qx.1, nI_add]
    refine pk_le (A.length + (T.length + 1)) A.length (fun z => absurd z (by omega)) (fun _ => ⟨pk_in A.length 68 (by omega), nm_r e4 ?_⟩) hc
    refine pk_loop (fun k i' s => wX_hold_41 post (nI i) (nI N) (nI G) c fl (nI m) (nI (zt_s A)) k (nI A.length) (nI (zt_s A + x.1)) (nI i') a1 a2 a3 s.1 s.2) (fun i' s => (∀ k, k < i' → s.1 k = f (i + k)) ∧ (∀ k, k < i' → s.2 k = t)) m 0 (a4, a5) (by omega) ⟨fun k z => absurd z (by omega), fun k z => absurd z (by omega)⟩ ?_ ?_
    · intro k s hI
      exact pk_le m m (fun _ => H _ s.1 s.2 hI.1 hI.2) (fun z => absurd z (by omega))
    · intro k i' s hi hI hw
      refine pk_le m i' (fun z => absurd z (by omega)) (fun _ => pk_lt (i + i') (zt_s A + x.1) (fun _ => ?_) (fun z => absurd z (by omega)) (nI_add i i'))
      unfold wX_hold_83
      have hcl := zt_cell_lt hGN hN (show i + i' < N by omega)
      refine zt_cellOf (nI_add i i') hGN hN (by omega) ⟨pk_in (zt_cell N G (i + i')) 64 hcl, pk_in i' 64 (by omega), nm_r (e' := upd s.1 i' (f (i + i'))) ?_ ⟨pk_in A.length 68 (by omega), pk_in i' 64 (by omega), nm_r (e' := upd s.2 i' t) ?_ (nm_r (nI_1 i') ?_)⟩⟩
      · rw [nI_clamp (by omega), nI_clamp (by omega), zt_L_at hL (by omega)]
      · rw [nI_clamp (by omega), kA, qx.2, hx3 (by omega)]
      · refine hw (upd s.1 i' (f (i + i')), upd s.2 i' t) ⟨fun k' z => ?_, fun k' z => ?_⟩
        · dsimp only
          by_cases y : k' = i'
          · rw [y, pk_us]
          · rw [pk_un y]
            exact hI.1 k' (by omega)
        · dsimp only
          by_cases y : k' = i'
          · rw [y, pk_us]
          · rw [pk_un y]
            exact hI.2 k' (by omega)
theorem zt_holdP {post : St2 → Prop} {N G i m q : Nat} {f : Nat → Int32} {s : Int32} (hL : zt_L a1 N G f) (hN : i + m + q = N) (hR : zt_R c a2 a3 (zt_P i m s q))
    (H : ∀ b' a4' a5', (∀ k, k < m → a4' k = f (i + k)) → (∀ k, k < m → a5' k = s) → post (nI N, nI G, c, fl, nI m, b', a1, a2, a3, a4', a5')) :
    wpX_hold post (nI N, nI G, c, fl, h, b, a1, a2, a3, a4, a5) (nI i) (nI (i + m)) := by
  have hN2 := hL.2.1
  have hl := zt_P_len i m s q
  have hs := zt_P_s i m s q
  rcases Nat.eq_zero_or_pos m with e | e
  · subst e
    rcases Nat.eq_zero_or_pos q with y | y
    · subst y
      exact zt_hold (t := s) (zt_Z i) [] hL (by omega) hR (by rw [zt_P_0, List.append_nil]; rfl) (by omega) (by omega) (by rw [zt_Z_s]; omega) (fun x T z => absurd z (by simp)) (fun _ => rfl) H
    · refine zt_hold (t := s) [] (zt_Z (i + q)) hL (by omega) hR rfl (by omega) (by omega) (Nat.zero_le i) (fun x T z => ?_) (fun _ => rfl) H
      rw [zt_Z_p (by omega)] at z
      injection z with z1 z2
      rw [← z1, zt_s_nil]
      dsimp only
      exact ⟨by omega, by omega, fun w => absurd w (by omega)⟩
  · refine zt_hold (t := s) (zt_Z i) ((m, s) :: zt_Z q) hL (by omega) hR (zt_P_p e) (by omega) (by omega) (by rw [zt_Z_s]; omega) (fun x T z => ?_) (fun z => absurd z (by simp)) H
    injection z with z1 z2
    rw [← z1, zt_Z_s]
    dsimp only
    exact ⟨by omega, by omega, fun _ => rfl⟩
theorem zt_putStyles' {post : St2 → Prop} {R A B : List (Nat × Int32)} {p k : Nat} {x y s s' : Int32} (hx : x = nI p) (hy : y = nI k) (hs' : s' = s) (hk : 0 < k) (hk2 : k < 1000) (hR : zt_R c a2 a3 R) (hl : R.length ≤ 50) (hs : zt_s R < 1000) (hp : p < 1000) (hl2 : A.length + B.length ≤ 55) (hc : zt_cut R p A B)
    (H : ∀ c' b' a2' a3', zt_R c' a2' a3' (zt_j (A ++ (k, s) :: B)) → post (n, g, c', fl, h, b', a1, a2', a3', a4, a5)) : wpX_putStyles post (n, g, c, fl, h, b, a1, a2, a3, a4, a5) x y s' := by
  subst hx hy hs'
  exact zt_putStyles hk hk2 hR hl hs hp hl2 hc H
theorem zt_giveBack {post : St2 → Prop} {N G p m F : Nat} {R R' : List (Nat × Int32)} {f hl : Nat → Int32} {t : Int32} (hL : zt_L a1 N G f) (hp : p ≤ N) (hN : N + m ≤ 64) (hR : zt_R c a2 a3 R) (h4 : ∀ k, k < m → a4 k = hl k) (h5 : ∀ k, k < m → a5 k = t)
    (h0 : m = 0 → R' = R) (h1 : 0 < m → ∃ A B, zt_cut R p A B ∧ A.length + B.length ≤ 55 ∧ R' = zt_j (A ++ (m, t) :: B)) (hln : R.length ≤ 50) (hs : zt_s R < 1000) (hF : F < 1000)
    (H : ∀ G' c' b' a1' a2' a3', zt_L a1' (N + m) G' (zt_mid f hl p m) → zt_R c' a2' a3' R' → post (nI (N + m), nI G', c', nI (zt_F2 F p m), nI m, b', a1', a2', a3', a4, a5)) :
    wpX_giveBack post (nI N, nI G, c, nI F, nI m, b, a1, a2, a3, a4, a5) (nI p) := by
  have key : ∀ G' a1', zt_L a1' (N + m) G' (zt_mid f hl p m) → ∃ fu, wX_giveBack_33 post (nI p) fu 0 1 (nI (N + m)) (nI G') c (nI F) (nI m) b a1' a2 a3 a4 a5 := by
    intro G' a1' hL'
    refine pk_loop (σ := Int32 × Int32 × Int32 × (Nat → Int32) × (Nat → Int32)) (fun k i s => wX_giveBack_33 post (nI p) k s.1 (nI i) (nI (N + m)) (nI G') s.2.1 (nI F) (nI m) s.2.2.1 a1' s.2.2.2.1 s.2.2.2.2 a4 a5) (fun i s => 1 ≤ i ∧ (i ≤ m → s = (0, c, b, a2, a3)) ∧ (m < i → zt_R s.2.1 s.2.2.2.1 s.2.2.2.2 R')) (m + 1) 1 (0, c, b, a2, a3) (by omega) ⟨Nat.le_refl 1, fun _ => rfl, fun z => by rw [h0 (by omega)]; exact hR⟩ ?_ ?_
    · intro k s hI
      refine pk_lt m (m + 1) (fun _ => ?_) (fun z => absurd z (by omega))
      exact zt_moveFlag hF (by omega) (H G' _ _ a1' _ _ hL' (hI.2.2 (by omega)))
    · intro k i s hi hI hw
      have i1 := hI.1
      have es := hI.2.1 (by omega)
      subst es
      refine pk_lt m i (fun z => absurd z (by omega)) (fun _ => pk_eq i m (fun z => ?_) (fun z => ⟨pk_in i 64 (by omega), pk_in 0 64 (by omega), br_t ?_ (nm_r (nI_1 i) (hw _ ⟨by omega, fun _ => rfl, fun y => absurd y (by omega)⟩))⟩))
      · unfold wX_giveBack_64
        obtain ⟨A, B, hc, hab, eR⟩ := h1 (by omega)
        refine ⟨pk_in 0 64 (by omega), zt_putStyles' (p := p) (k := m) (s := t) ?_ ?_ ?_ (by omega) (by omega) hR hln hs (by omega) hab hc (fun c' b' a2' a3' hR' => nm_r (nI_1 i) ?_)⟩
        · show nI p + nI 0 = nI p
          rw [nI_add, Nat.add_zero]
        · show nI i - nI 0 = nI m
          rw [pk_sub (by omega), z, Nat.sub_zero]
        · show a5 (nI 0).toNatClampNeg = t
          rw [nI_clamp (by omega)]
          exact h5 0 (by omega)
        · exact hw (nI i, c', b', a2', a3') ⟨by omega, fun y => absurd y (by omega), fun _ => by rw [eR]; exact hR'⟩
      · show a5 (nI i).toNatClampNeg = a5 (nI 0).toNatClampNeg
        rw [nI_clamp (by omega), nI_clamp (by omega), h5 i (by omega), h5 0 (by omega)]
  refine pk_loop (σ := Nat × (Nat → Int32)) (fun k i s => wX_giveBack_2 post (nI p) k (nI i) (nI (N + i)) (nI s.1) c (nI F) (nI m) b s.2 a2 a3 a4 a5) (fun i s => zt_L s.2 (N + i) s.1 (zt_mid f hl p i)) m 0 (G, a1) (by omega) (by rw [zt_mid0]; exact hL) ?_ ?_
  · intro k s hI
    exact pk_le m m (fun _ => key s.1 s.2 hI) (fun z => absurd z (by omega))
  · intro k i s hi hI hw
    refine pk_le m i (fun z => absurd z (by omega)) (fun _ => ⟨pk_in i 64 (by omega), ?_⟩)
    refine zt_putLetter (nI_add p i) hI (by omega) (by omega) (fun a1' h1' => nm_r (nI_1 i) ?_)
    refine hw (p + i + 1, a1') ?_
    rw [nI_clamp (by omega), h4 i hi, zt_mid_s] at h1'
    exact h1'
theorem zt_insert {post : St2 → Prop} {N G p F : Nat} {R A B : List (Nat × Int32)} {f : Nat → Int32} {v s : Int32} (hL : zt_L a1 N G f) (hp : p ≤ N) (hN : N < 64) (hR : zt_R c a2 a3 R) (hln : R.length ≤ 50) (hs : zt_s R < 1000) (hab : A.length + B.length ≤ 55) (hc : zt_cut R p A B) (hF : F < 1000)
    (H : ∀ c' b' a1' a2' a3', zt_L a1' (N + 1) (p + 1) (zt_ins f p v) → zt_R c' a2' a3' (zt_j (A ++ (1, s) :: B)) → post (nI (N + 1), nI (p + 1), c', nI (zt_F2 F p 1), h, b', a1', a2', a3', a4, a5)) :
    wpX_insert post (nI N, nI G, c, nI F, h, b, a1, a2, a3, a4, a5) (nI p) v 1 s := by
  refine ⟨2, pk_le 1 0 (fun z => absurd z (by omega)) (fun _ => ?_)⟩
  refine zt_putLetter rfl hL hp hN (fun a1' h1 => nm_r (nI_1 0) ?_)
  refine pk_le 1 1 (fun _ => ?_) (fun z => absurd z (by omega))
  refine zt_putStyles' (p := p) (k := 1) (s := s) rfl rfl rfl (by omega) (by omega) hR hln hs (by omega) hab hc (fun c' b' a2' a3' hR' => ?_)
  exact zt_moveFlag (m := 1) hF (by omega) (H c' b' a1' a2' a3' h1 hR')
theorem zt_bad {post : Int32 → Prop} {N i j : Nat} (hij : i ≤ j) (hj : j ≤ N) (hN : N < 1000) (H : post 0) : wpX_bad post (nI N, g, c, fl, h, b, a1, a2, a3, a4, a5) (nI i) (nI j) :=
  pk_lt i 0 (fun z => absurd z (by omega)) (fun _ => pk_lt j i (fun z => absurd z (by omega)) (fun _ => pk_le j N (fun _ => H) (fun z => absurd z (by omega))))
theorem zt_badLetter {post : Int32 → Prop} {x : Nat} (hx : x ≤ 25) (H : post 0) : wpX_badLetter post (n, g, c, fl, h, b, a1, a2, a3, a4, a5) (nI x) :=
  pk_lt x 0 (fun z => absurd z (by omega)) (fun _ => pk_le x 25 (fun _ => H) (fun z => absurd z (by omega)))
theorem zt_put {post : Int32 → St2 → Prop} {x : Nat} (hx : x < 8) (hL : zt_L a1 x x (fun q => nI q)) (hR : zt_R c a2 a3 (zt_Z x))
    (H : ∀ c' b' a1' a2' a3', zt_L a1' (x + 1) (x + 1) (fun q => nI q) → zt_R c' a2' a3' (zt_Z (x + 1)) → post (nI (x + 1)) (nI (x + 1), nI (x + 1), c', 0, h, b', a1', a2', a3', a4, a5)) :
    wpX_put post (nI x, nI x, c, 0, h, b, a1, a2, a3, a4, a5) (nI x) (nI x) 1 0 := by
  have l1 := zt_Z_len x
  have l2 := zt_Z_s x
  unfold wpX_put
  refine zt_badLetter (by omega) (br_t rfl ?_)
  refine pk_lt x 0 (fun z => absurd z (by omega)) (fun _ => pk_lt x x (fun z => absurd z (by omega)) (fun _ => pk_lt 1 0 (fun z => absurd z (by omega)) (fun _ => pk_lt 64 1 (fun z => absurd z (by omega)) (fun _ => pk_lt 0 0 (fun z => absurd z (by omega)) (fun _ => pk_le 0 63 (fun _ => pk_le (x + 1) 64 (fun _ => ?_) (fun z => absurd z (by omega)) (nI_1 x)) (fun z => absurd z (by omega)))))))
  refine zt_insert (F := 0) (A := zt_Z x) (B := []) hL (Nat.le_refl x) (by omega) hR (by omega) (by omega) (by rw [List.length_nil]; omega) (Or.inl ⟨by rw [List.append_nil], l2, fun y T z => absurd z (by simp)⟩) (by omega) (fun c' b' a1' a2' a3' hL' hR' => ?_)
  rw [zt_jZ1] at hR'
  refine H c' b' a1' a2' a3' (zt_L_cg (fun q hq => ?_) hL') hR'
  unfold zt_ins
  by_cases e : q < x
  · rw [if_pos e]
  · rw [if_neg e, if_pos (by omega), show q = x by omega]
theorem zt_mixed {post : Int32 → Prop} {t : Nat} {x : Int32} (hx : x = 0) (ht : t < 64) (H : post (nI t)) : wpX_mixed post (n, g, c, fl, h, b, a1, a2, a3, a4, a5) x 15 (nI t) := by
  subst hx
  have e := zt_mix t ht
  exact nm_e (br_f (by decide) (nm_e (ek_v (P := post) e H)))
theorem zt_style {post : Int32 → St2 → Prop} {N i m q t : Nat} (hN : i + m + q = N) (hN2 : N ≤ 64) (h0 : 0 < t) (ht : t < 64) (hR : zt_R c a2 a3 (zt_Z N))
    (H : ∀ c' b' a2' a3', zt_R c' a2' a3' (zt_P i m (nI t) q) → post (nI m) (nI N, g, c', fl, h, b', a1, a2', a3', a4, a5)) :
    wpX_style post (nI N, g, c, fl, h, b, a1, a2, a3, a4, a5) (nI i) (nI (i + m)) 15 (nI t) := by
  unfold wpX_style
  refine zt_bad (by omega) (by omega) (by omega) (br_t rfl (br_f (by decide) (br_f (by decide) (pk_lt t 0 (fun z => absurd z (by omega)) (fun _ => pk_le t 63 (fun _ => ?_) (fun z => absurd z (by omega)))))))
  refine pk_eq i (i + m) (fun z => ?_) (fun z => ?_)
  · have hm : m = 0 := by omega
    subst hm
    refine H c b a2 a3 ?_
    rw [zt_P_0, show i + q = N by omega]
    exact hR
  · have hm : 0 < m := by omega
    have li := zt_Z_len i
    have lq := zt_Z_len q
    have lj := zt_Z_len (i + m)
    have lN := zt_Z_len N
    have cut1 := zt_Z_cut (a := N) (p := i + m) (by omega)
    have cut2 := zt_cut_app (S := zt_Z q) (by rw [show i + m - i = m by omega, zt_Z_p hm]; simp) (zt_Z_cut (a := i + m) (p := i) (by omega))
    rw [show N - (i + m) = q by omega] at cut1
    rw [show i + m - i = m by omega, zt_Z_p hm] at cut2
    refine zt_cutAt hR (by omega) (by rw [zt_Z_s]; omega) (by omega) cut1 (fun c1 b1 a21 a31 hR1 => ?_)
    refine zt_cutAt hR1 (by rw [List.length_append]; omega) (by rw [zt_s_app, zt_Z_s, zt_Z_s]; omega) (by omega) cut2 (fun c2 b2 a22 a32 hR2 => ?_)
    have hR3 : zt_R c2 a22 a32 (zt_Z i ++ (m, 0) :: zt_Z q) := hR2
    have qx := zt_Q_at hR3.2
    have kA : (nI (zt_Z i).length).toNatClampNeg = (zt_Z i).length := nI_clamp (by omega)
    have v1 : a32 (nI (zt_Z i).length).toNatClampNeg = 0 := by rw [kA]; exact qx.2
    have v2 : a22 (nI (zt_Z i).length).toNatClampNeg = nI m := by rw [kA]; exact qx.1
    have hne : ¬ nI t = 0 := nI_ne0 h0 (by omega)
    refine ⟨2, pk_le 64 0 (fun z => absurd z (by omega)) (fun _ => pk_le (i + m) i (fun z => absurd z (by omega)) (fun _ => ⟨pk_in (zt_Z i).length 68 (by omega), ?_⟩))⟩
    refine zt_mixed v1 ht ⟨pk_in (zt_Z i).length 68 (by omega), br_f (by rw [v1]; exact hne) ⟨pk_in (zt_Z i).length 68 (by omega), nm_r (e' := nI m) ?_ ?_⟩⟩
    · rw [v2]
      show nI 0 + nI m = nI m
      rw [nI_add, Nat.zero_add]
    · unfold wX_style_115
      refine ⟨pk_in (zt_Z i).length 68 (by omega), nm_r (e' := upd a32 (zt_Z i).length (nI t)) (by rw [kA]) ⟨pk_in (zt_Z i).length 68 (by omega), nm_r (e' := nI (i + m)) (by rw [v2, nI_add]) (nm_r (nI_1 _) (nm_r (nI_1 0) ?_))⟩⟩
      refine pk_le 64 1 (fun z => absurd z (by omega)) (fun _ => pk_le (i + m) (i + m) (fun _ => ?_) (fun z => absurd z (by omega)))
      unfold wX_style_145
      have hR4 : zt_R c2 a22 (upd a32 (zt_Z i).length (nI t)) (zt_Z i ++ (m, nI t) :: zt_Z q) := by
        refine ⟨?_, zt_Q_look hR3.2⟩
        rw [hR3.1, List.length_append, List.length_append]
        rfl
      refine zt_joinRuns hR4 (by rw [List.length_append, List.length_cons]; omega) (fun c3 a23 a33 hR5 => ?_)
      rw [zt_jZsZ hne, ← zt_P_p hm] at hR5
      exact H c3 _ a23 a33 hR5
theorem zt_move {post : Int32 → St2 → Prop} {N G i m q p F : Nat} {s : Int32} {f : Nat → Int32} (hs : s ≠ 0) (hL : zt_L a1 N G f) (hN : i + m + q = N) (hp : p ≤ i + q) (hR : zt_R c a2 a3 (zt_P i m s q)) (hF : F < 100)
    (H : ∀ G' c' b' a1' a2' a3' a4' a5', zt_L a1' N G' (zt_mid (zt_cutL f i m) (fun k => f (i + k)) p m) → zt_R c' a2' a3' (zt_P p m s (i + q - p)) → post 0 (nI N, nI G', c', nI (zt_F2 (zt_F1 F i (i + m)) p m), nI m, b', a1', a2', a3', a4', a5')) :
    wpX_move post (nI N, nI G, c, nI F, h, b, a1, a2, a3, a4, a5) (nI i) (nI (i + m)) (nI p) := by
  have hN2 := hL.2.1
  have hF1 : zt_F1 F i (i + m) < 1000 := by
    unfold zt_F1
    by_cases e : i + m ≤ F
    · rw [if_pos e]
      omega
    · rw [if_neg e]
      by_cases e2 : i < F
      · rw [if_pos e2]
        omega
      · rw [if_neg e2]
        omega
  have lz := zt_Z_len (i + q)
  have lp := zt_Z_len p
  have lr := zt_Z_len (i + q - p)
  unfold wpX_move
  refine zt_bad (by omega) (by omega) (by omega) (br_t rfl (pk_lt p 0 (fun z => absurd z (by omega)) (fun _ => pk_le p (i + q) (fun _ => ?_) (fun z => absurd z (by omega)) rfl ?_)))
  · refine zt_holdP hL hN hR (fun b1 a4' a5' h4 h5 => ?_)
    refine zt_delete hL hN hR (by omega) (fun c2 b2 a12 a22 a32 hL2 hR2 => ?_)
    refine zt_giveBack (R' := zt_P p m s (i + q - p)) (hl := fun k => f (i + k)) (t := s) hL2 hp (by omega) hR2 h4 h5 (fun e => ?_) (fun e => ⟨zt_Z p, zt_Z (i + q - p), zt_Z_cut hp, by omega, ?_⟩) (by omega) (by rw [zt_Z_s]; omega) hF1 (fun G' c' b' a1' a2' a3' hL' hR' => ?_)
    · rw [e, zt_P_0, show p + (i + q - p) = i + q by omega]
    · rw [zt_P_p e, zt_jZsZ hs]
    · rw [show i + q + m = N by omega] at hL' ⊢
      exact H G' c' b' a1' a2' a3' a4' a5' hL' hR'
  · rw [pk_sub (by omega), pk_sub (by omega), show N - (i + m - i) = i + q by omega]
theorem zt_copy {post : Int32 → St2 → Prop} {N G p m q F : Nat} {s x : Int32} {f : Nat → Int32} (hx : x = nI (p + m)) (hs : s ≠ 0) (hL : zt_L a1 N G f) (hN : p + m + q = N) (hN2 : N = 8) (hR : zt_R c a2 a3 (zt_P p m s q)) (hF : F < 100)
    (H : ∀ G' c' b' a1' a2' a3' a4' a5' R', zt_L a1' (8 + m) G' (zt_mid f (fun k => f (p + k)) 8 m) → zt_R c' a2' a3' R' → R'.length ≤ 10 → zt_s R' = 8 + m → (0 < m → ∃ A k, R' = A ++ [(k, s)] ∧ zt_s A ≤ 8 ∧ 8 < zt_s A + k) → post (nI (8 + m)) (nI (8 + m), nI G', c', nI (zt_F2 F 8 m), nI m, b', a1', a2', a3', a4', a5')) :
    wpX_copy post (nI N, nI G, c, nI F, h, b, a1, a2, a3, a4, a5) (nI p) x 8 := by
  subst hx
  subst hN2
  have lp := zt_Z_len p
  have lq := zt_Z_len q
  have lP := zt_P_len p m s q
  have sP := zt_P_s p m s q
  unfold wpX_copy
  refine zt_bad (by omega) (by omega) (by omega) (br_t rfl (pk_lt 8 0 (fun z => absurd z (by omega)) (fun _ => pk_le 8 8 (fun _ => pk_le (8 + m) 64 (fun _ => ?_) (fun z => absurd z (by omega)) ?_) (fun z => absurd z (by omega)))))
  · refine zt_holdP hL hN hR (fun b1 a4' a5' h4 h5 => ?_)
    refine zt_giveBack (p := 8) (R' := if m = 0 then zt_P p m s q else zt_j (zt_P p m s q ++ [(m, s)])) (hl := fun k => f (p + k)) (t := s) hL (Nat.le_refl 8) (by omega) hR h4 h5 (fun e => if_pos e) (fun e => ⟨zt_P p m s q, [], Or.inl ⟨by rw [List.append_nil], by omega, fun y T z => absurd z (by simp)⟩, by rw [List.length_nil]; omega, if_neg (by omega)⟩) (by omega) (by omega) (by omega) (fun G' c' b' a1' a2' a3' hL' hR' => ?_)
    rcases Nat.eq_zero_or_pos m with e | e
    · subst e
      rw [if_pos rfl] at hR'
      exact H G' c' b' a1' a2' a3' a4' a5' _ hL' hR' (by omega) (by omega) (fun z => absurd z (by omega))
    · rw [if_neg (by omega), zt_P_p e, List.append_assoc, List.cons_append] at hR'
      rcases Nat.eq_zero_or_pos q with y | y
      · subst y
        rw [zt_jCopy0 hs] at hR'
        refine H G' c' b' a1' a2' a3' a4' a5' _ hL' hR' ?_ ?_ (fun _ => ⟨zt_Z p, m + m, rfl, ?_, ?_⟩)
        · rw [List.length_append, List.length_cons, List.length_nil]
          omega
        · rw [zt_s_app, zt_Z_s, zt_s_cons, zt_s_nil]
          dsimp only
          omega
        · rw [zt_Z_s]
          omega
        · rw [zt_Z_s]
          omega
      · rw [zt_jCopy1 hs y] at hR'
        refine H G' c' b' a1' a2' a3' a4' a5' _ hL' hR' ?_ ?_ (fun _ => ⟨zt_Z p ++ [(m, s), (q, 0)], m, ?_, ?_, ?_⟩)
        · rw [List.length_append, List.length_cons, List.length_cons, List.length_cons, List.length_nil]
          omega
        · rw [zt_s_app, zt_Z_s, zt_s_cons, zt_s_cons, zt_s_cons, zt_s_nil]
          dsimp only
          omega
        · rw [List.append_assoc]
          rfl
        · rw [zt_s_app, zt_Z_s, zt_s_cons, zt_s_cons, zt_s_nil]
          dsimp only
          omega
        · rw [zt_s_app, zt_Z_s, zt_s_cons, zt_s_cons, zt_s_nil]
          dsimp only
          omega
  · rw [show nI 8 + nI (p + m) = nI (8 + (p + m)) from nI_add 8 (p + m), pk_sub (by omega), show 8 + (p + m) - p = 8 + m by omega]
end
end
section
/-! the methods that only look, and replace -/
/-- how many of the first places hold the letter 0 -/
def zt_cnt (f : Nat → Int32) : Nat → Nat
  | 0 => 0
  | k + 1 => zt_cnt f k + (if f k = 0 then 1 else 0)
theorem zt_cnt_1 {f : Nat → Int32} {k : Nat} (h : f k = 0) : zt_cnt f (k + 1) = zt_cnt f k + 1 := by
  show zt_cnt f k + (if f k = 0 then 1 else 0) = _
  rw [if_pos h]
theorem zt_cnt_0 {f : Nat → Int32} {k : Nat} (h : ¬ f k = 0) : zt_cnt f (k + 1) = zt_cnt f k := by
  show zt_cnt f k + (if f k = 0 then 1 else 0) = _
  rw [if_neg h, Nat.add_zero]
section
variable {n g c fl h b : Int32} {a1 a2 a3 a4 a5 : Nat → Int32}
theorem zt_runs {post : Int32 → Prop} (H : post c) : wpX_runs post (n, g, c, fl, h, b, a1, a2, a3, a4, a5) := H
theorem zt_flag {post : Int32 → Prop} (H : post fl) : wpX_flag post (n, g, c, fl, h, b, a1, a2, a3, a4, a5) := H
theorem zt_length {post : Int32 → Prop} (H : post n) : wpX_length post (n, g, c, fl, h, b, a1, a2, a3, a4, a5) := H
theorem zt_off {post : Int32 → Prop} {N x : Nat} (hx : x < N) (hN : N < 1000) (H : post 0) : wpX_off post (nI N, g, c, fl, h, b, a1, a2, a3, a4, a5) (nI x) :=
  pk_lt x 0 (fun z => absurd z (by omega)) (fun _ => pk_lt x N (fun _ => H) (fun z => absurd z (by omega)))
theorem zt_off1 {post : Int32 → Prop} {N x : Nat} (hx : N ≤ x) (hN : x < 1000) (H : post 1) : wpX_off post (nI N, g, c, fl, h, b, a1, a2, a3, a4, a5) (nI x) :=
  pk_lt x 0 (fun z => absurd z (by omega)) (fun _ => pk_lt x N (fun z => absurd z (by omega)) (fun _ => H))
theorem zt_styleAt {post : Int32 → St2 → Prop} {N x : Nat} {t : Int32} {R : List (Nat × Int32)} (hx : x < N) (hN : N < 1000) (hR : zt_R c a2 a3 R) (hl : R.length ≤ 60) (hs : zt_s R < 1000) (ha : zt_at R x t)
    (H : ∀ b', post t (nI N, g, c, fl, h, b', a1, a2, a3, a4, a5)) : wpX_styleAt post (nI N, g, c, fl, h, b, a1, a2, a3, a4, a5) (nI x) := by
  obtain ⟨A, k, B, e, h1, h2⟩ := ha
  have q := hR.2
  rw [e] at q
  have qx := zt_Q_at q
  have hl' := hl
  rw [e, List.length_append, List.length_cons] at hl'
  simp only [e, zt_s_app, zt_s_cons] at hs
  have v : a3 (nI A.length).toNatClampNeg = t := by rw [nI_clamp (by omega)]; exact qx.2
  unfold wpX_styleAt
  refine zt_off hx hN (br_t rfl ?_)
  unfold wpX_styleHere
  refine zt_runAt A ((k, t) :: B) hR e hl (by omega) h1 (fun y T z => by injection z with z1 z2; rw [← z1]; dsimp only; omega) ⟨pk_in A.length 68 (by omega), ?_⟩
  show post (a3 (nI A.length).toNatClampNeg) (nI N, g, c, fl, h, nI (zt_s A), a1, a2, a3, a4, a5)
  rw [v]
  exact H _
theorem zt_styleOff {post : Int32 → St2 → Prop} {N x : Nat} (hx : N ≤ x) (hN : x < 1000) (H : post (-4) (nI N, g, c, fl, h, b, a1, a2, a3, a4, a5)) : wpX_styleAt post (nI N, g, c, fl, h, b, a1, a2, a3, a4, a5) (nI x) := by
  unfold wpX_styleAt
  exact zt_off1 hx hN (br_f (by decide) H)
theorem zt_runOf {post : Int32 → St2 → Prop} {N x k : Nat} {t : Int32} {R A B : List (Nat × Int32)} (hx : x < N) (hN : N < 1000) (hR : zt_R c a2 a3 R) (hl : R.length ≤ 60) (hs : zt_s R < 1000) (e : R = A ++ (k, t) :: B) (h1 : zt_s A ≤ x) (h2 : x < zt_s A + k)
    (H : ∀ b', post (nI A.length) (nI N, g, c, fl, h, b', a1, a2, a3, a4, a5)) : wpX_runOf post (nI N, g, c, fl, h, b, a1, a2, a3, a4, a5) (nI x) := by
  simp only [e, zt_s_app, zt_s_cons] at hs
  unfold wpX_runOf
  refine zt_off hx hN (br_t rfl ?_)
  exact zt_runAt A ((k, t) :: B) hR e hl (by omega) h1 (fun y T z => by injection z with z1 z2; rw [← z1]; dsimp only; omega) (H _)
theorem zt_runOff {post : Int32 → St2 → Prop} {N x : Nat} (hx : N ≤ x) (hN : x < 1000) (H : post (-4) (nI N, g, c, fl, h, b, a1, a2, a3, a4, a5)) : wpX_runOf post (nI N, g, c, fl, h, b, a1, a2, a3, a4, a5) (nI x) := by
  unfold wpX_runOf
  exact zt_off1 hx hN (br_f (by decide) H)
theorem zt_letter {post : Int32 → Prop} {N G x : Nat} {f : Nat → Int32} (hL : zt_L a1 N G f) (hx : x < N) (H : post (f x)) : wpX_letter post (nI N, nI G, c, fl, h, b, a1, a2, a3, a4, a5) (nI x) := by
  have hG := hL.1
  have hN := hL.2.1
  have hcl := zt_cell_lt hG hN hx
  unfold wpX_letter
  refine zt_off hx (by omega) (br_t rfl ?_)
  refine zt_cellOf rfl hG hN hx ⟨pk_in (zt_cell N G x) 64 hcl, ?_⟩
  rw [nI_clamp (by omega), zt_L_at hL hx]
  exact H
theorem zt_replace {post : Int32 → St2 → Prop} {N G : Nat} {f : Nat → Int32} (hL : zt_L a1 N G f) (H : ∀ a1', post (nI (zt_cnt f N)) (nI N, nI G, c, fl, h, b, a1', a2, a3, a4, a5)) : wpX_replace post (nI N, nI G, c, fl, h, b, a1, a2, a3, a4, a5) 0 25 := by
  have hG := hL.1
  have hN := hL.2.1
  unfold wpX_replace
  refine zt_badLetter (x := 0) (by omega) (br_t rfl ?_)
  refine zt_badLetter (x := 25) (by omega) (br_t rfl ?_)
  refine pk_loop (fun k i s => wX_replace_23 post 0 25 (nI N) (nI G) c fl h b k (nI (zt_cnt f i)) (nI i) s a2 a3 a4 a5) (fun i s => ∀ q, i ≤ q → q < N → s (zt_cell N G q) = f q) N 0 a1 (by omega) (fun q _ hq => zt_L_at hL hq) ?_ ?_
  · intro k s _
    exact pk_le N N (fun _ => H s) (fun z => absurd z (by omega))
  · intro k i s hi hI hw
    have hcl := zt_cell_lt hG hN hi
    have v : s (nI (zt_cell N G i)).toNatClampNeg = f i := by
      rw [nI_clamp (by omega)]
      exact hI i (Nat.le_refl i) hi
    refine pk_le N i (fun z => absurd z (by omega)) (fun _ => ?_)
    refine zt_cellOf rfl hG hN hi ⟨pk_in (zt_cell N G i) 64 hcl, ?_⟩
    by_cases e : f i = 0
    · refine br_t (v.trans e) ⟨pk_in (zt_cell N G i) 64 hcl, nm_r (e' := upd s (zt_cell N G i) 25) (by rw [nI_clamp (by omega)]) (nm_r (e' := nI (zt_cnt f (i + 1))) (by rw [nI_1, zt_cnt_1 e]) (nm_r (nI_1 i) (hw _ (fun q h1 h2 => ?_))))⟩
      rw [pk_un (zt_cell_ne hG hN (by omega) h2)]
      exact hI q (by omega) h2
    · have t : wX_replace_23 post 0 25 (nI N) (nI G) c fl h b k (nI (zt_cnt f (i + 1))) (nI (i + 1)) s a2 a3 a4 a5 := hw s (fun q h1 h2 => hI q (by omega) h2)
      rw [zt_cnt_0 e] at t
      exact br_f (fun z => e (v.symm.trans z)) (nm_r (nI_1 i) t)
theorem zt_having_l {post : Int32 → Prop} {C : Nat} (hC : C ≤ 60) : ∀ (R : List (Nat × Int32)) (i S : Nat), zt_Q a2 a3 i R → i + R.length = C → post (nI (S + zt_s R)) → wX_having_16 post 0 n g (nI C) fl h b a1 a2 a3 a4 a5 (R.length + 1) (nI S) (nI i) := by
  intro R
  induction R with
  | nil =>
    intro i S q hc H
    rw [List.length_nil] at hc
    exact pk_le C i (fun _ => H) (fun z => absurd z (by omega))
  | cons x R ih =>
    intro i S q hc H
    rw [zt_Q_cons] at q
    rw [List.length_cons] at hc
    have e : nI S + a2 (nI i).toNatClampNeg = nI (S + x.1) := by rw [nI_clamp (by omega), q.1, nI_add]
    have t := ih (i + 1) (S + x.1) q.2.2 (by omega) (by rw [zt_s_cons, ← Nat.add_assoc] at H; exact H)
    exact pk_le C i (fun z => absurd z (by omega)) (fun _ => ⟨pk_in i 68 (by omega), br_t Int32.and_zero ⟨pk_in i 68 (by omega), nm_r e (nm_r (nI_1 i) t)⟩⟩)
theorem zt_having {post : Int32 → Prop} {R : List (Nat × Int32)} (hR : zt_R c a2 a3 R) (hl : R.length ≤ 60) (H : post (nI (zt_s R))) : wpX_having post (n, g, c, fl, h, b, a1, a2, a3, a4, a5) 0 := by
  obtain ⟨hc, q⟩ := hR
  subst hc
  exact pk_lt 0 0 (fun z => absurd z (by omega)) (fun _ => pk_le 0 7 (fun _ => ⟨R.length + 1, zt_having_l hl R 0 0 q (by omega) (by rw [Nat.zero_add]; exact H)⟩) (fun z => absurd z (by omega)))
theorem zt_setFlag {post : Int32 → St2 → Prop} {N F : Nat} (hF : F ≤ N) (hN : N < 1000) (H : ∀ r, post r (nI N, g, c, nI F, h, b, a1, a2, a3, a4, a5)) : wpX_setFlag post (nI N, g, c, fl, h, b, a1, a2, a3, a4, a5) (nI F) :=
  pk_lt F 0 (fun z => absurd z (by omega)) (fun _ => pk_le F N (fun _ => H _) (fun z => absurd z (by omega)))
end
/-! the letters behind the move and behind the copy -/
def zt_f2 (i m p : Nat) : Nat → Int32 := zt_mid (zt_cutL (fun q => nI q) i m) (fun k => nI (i + k)) p m
def zt_f3 (i m p : Nat) : Nat → Int32 := zt_mid (zt_f2 i m p) (fun k => zt_f2 i m p (p + k)) 8 m
theorem zt_cnt3 : ∀ i, i < 8 → ∀ m, m < 9 → ∀ p, p < 9 → i + m ≤ 8 → p + m ≤ 8 → zt_cnt (zt_f3 i m p) (8 + m) = if i = 0 ∧ 0 < m then 2 else 1 := by decide +kernel
theorem zt_f2_in {i m p x : Nat} (h1 : p ≤ x) (h2 : x < p + m) : zt_f2 i m p x = nI (i + x - p) := by
  unfold zt_f2 zt_mid
  rw [if_neg (by omega), if_pos h2]
  show nI (i + (x - p)) = nI (i + x - p)
  rw [show i + (x - p) = i + x - p by omega]
theorem zt_f2_lo {i m p x : Nat} (h1 : x < p) : zt_f2 i m p x = if x < i then nI x else nI (x + m) := by
  unfold zt_f2 zt_mid zt_cutL
  rw [if_pos h1]
theorem zt_f2_hi {i m p x : Nat} (h1 : p + m ≤ x) : zt_f2 i m p x = if x - m < i then nI (x - m) else nI (x - m + m) := by
  unfold zt_f2 zt_mid zt_cutL
  rw [if_neg (by omega), if_neg (by omega)]
theorem zt_F_le {F i m q p : Nat} (hF : F ≤ 8) (hi : i + m + q = 8) (hp : p ≤ i + q) : zt_F2 (zt_F1 F i (i + m)) p m ≤ 8 := by
  have h1 : zt_F1 F i (i + m) ≤ i + q := by
    unfold zt_F1
    by_cases e : i + m ≤ F
    · rw [if_pos e]
      omega
    · rw [if_neg e]
      by_cases e2 : i < F
      · rw [if_pos e2]
        omega
      · rw [if_neg e2]
        omega
  unfold zt_F2
  by_cases e : p < zt_F1 F i (i + m)
  · rw [if_pos e]
    omega
  · rw [if_neg e]
    omega
theorem zt_F2_8 {F m : Nat} (hF : F ≤ 8) : zt_F2 F 8 m = F := if_neg (by omega)
/-- how many runs there are behind style -/
theorem zt_P_runs0 {i q : Nat} {s : Int32} (h : 0 < i + q) : (zt_P i 0 s q).length = 1 := by
  rw [zt_P_0, zt_Z_p h]
  rfl
theorem zt_P_runs {i m q : Nat} {s : Int32} (hm : 0 < m) : (zt_P i m s q).length = 1 + (if 0 < i then 1 else 0) + (if 0 < q then 1 else 0) := by
  have k : ∀ a, (zt_Z a).length = if 0 < a then 1 else 0 := by
    intro a
    rcases Nat.eq_zero_or_pos a with e | e
    · rw [e]
      rfl
    · rw [zt_Z_p e, if_pos e]
      rfl
  rw [zt_P_p hm, List.length_append, List.length_cons, k, k]
  omega
/-- the style at each place behind the move -/
theorem zt_P_at_lo {p m q x : Nat} {s : Int32} (h : x < p) : zt_at (zt_P p m s q) x 0 := by
  rcases Nat.eq_zero_or_pos m with e | e
  · rw [e, zt_P_0]
    have t := zt_atZ (a := p + q) (x := x) (by omega) []
    rw [List.append_nil] at t
    exact t
  · rw [zt_P_p e]
    exact zt_atZ h _
theorem zt_P_at_in {p m q x : Nat} {s : Int32} (h1 : p ≤ x) (h2 : x < p + m) : zt_at (zt_P p m s q) x s := by
  rw [zt_P_p (by omega)]
  exact zt_at_s (by rw [zt_Z_s]; exact h1) (by rw [zt_Z_s]; exact h2) _
theorem zt_P_at_hi {p m q x : Nat} {s : Int32} (h1 : p + m ≤ x) (h2 : x < p + m + q) : zt_at (zt_P p m s q) x 0 := by
  rcases Nat.eq_zero_or_pos m with e | e
  · rw [e, zt_P_0]
    have t := zt_atZ (a := p + q) (x := x) (by omega) []
    rw [List.append_nil] at t
    exact t
  · rw [zt_P_p e]
    exact zt_at_sZ h1 h2
end
section
/-! the law -/
section
variable {post : Int32 → St0 → Prop} {mc ms kc ks : Nat} {c b : Int32} {a1 a2 a3 a4 a5 : Nat → Int32}
theorem zt_333out {J : Int32 → Int32 → Int32 → Int32 → Int32 → Int32 → Int32 → Int32 → (Nat → Int32) → (Nat → Int32) → (Nat → Int32) → (Nat → Int32) → (Nat → Int32) → Prop} {x6 x7 x9 x11 x16 x20 fl h : Int32} {N G x : Nat} {f : Nat → Int32} {R : List (Nat × Int32)} (hL : zt_L a1 N G f) (hR : zt_R c a2 a3 R) (hl : R.length ≤ 60) (hs : zt_s R < 1000) (hx : x < N)
    (hv : f x = x20) (ha : zt_at R x 0) (HJ : ∀ b', J 1 (nI (x + 1)) (nI N) (nI G) c fl h b' a1 a2 a3 a4 a5) :
    wL_lawOf_333 post mc ms J x6 x7 x9 x11 x16 1 (nI x) x20 0 kc ks (nI N) (nI G) c fl h b a1 a2 a3 a4 a5 := by
  have hN := hL.2.1
  refine br_f (by decide) ?_
  refine zt_letter hL hx (br_t rfl ?_)
  refine br_t hv ?_
  refine zt_styleAt hx (by omega) hR hl hs ha (fun b' => br_t rfl ?_)
  exact br_t rfl (nm_r (nI_1 x) (HJ b'))
theorem zt_333in {J : Int32 → Int32 → Int32 → Int32 → Int32 → Int32 → Int32 → Int32 → (Nat → Int32) → (Nat → Int32) → (Nat → Int32) → (Nat → Int32) → (Nat → Int32) → Prop} {x6 x7 x9 x11 x16 x20 fl h : Int32} {N G x : Nat} {f : Nat → Int32} {R : List (Nat × Int32)} (hL : zt_L a1 N G f) (hR : zt_R c a2 a3 R) (hl : R.length ≤ 60) (hs : zt_s R < 1000) (hx : x < N)
    (hv : f x = x6 + nI x - x9) (ha : zt_at R x x11) (HJ : ∀ b', J 1 (nI (x + 1)) (nI N) (nI G) c fl h b' a1 a2 a3 a4 a5) :
    wL_lawOf_333 post mc ms J x6 x7 x9 x11 x16 1 (nI x) x20 1 kc ks (nI N) (nI G) c fl h b a1 a2 a3 a4 a5 := by
  have hN := hL.2.1
  refine br_f (by decide) ?_
  refine zt_letter hL hx (br_f (by decide) ?_)
  refine br_t hv ?_
  refine zt_styleAt hx (by omega) hR hl hs ha (fun b' => br_f (by decide) ?_)
  exact br_t rfl (nm_r (nI_1 x) (HJ b'))
/-- one place checked -/
theorem zt_turn {J : Int32 → Int32 → Int32 → Int32 → Int32 → Int32 → Int32 → Int32 → (Nat → Int32) → (Nat → Int32) → (Nat → Int32) → (Nat → Int32) → (Nat → Int32) → Prop} {x16 fl h s : Int32} {G i m p q x : Nat} (hi : i ≤ 8) (hm : m ≤ 8) (hq : p + m + q = 8) (hL : zt_L a1 8 G (zt_f2 i m p)) (hR : zt_R c a2 a3 (zt_P p m s q)) (hx : x < 8)
    (HJ : ∀ b', J 1 (nI (x + 1)) (nI 8) (nI G) c fl h b' a1 a2 a3 a4 a5) :
    ((nI p ≤ nI x → wL_lawOf_290 post mc ms J (nI i) (nI m) (nI p) s x16 1 (nI x) (nI x - nI m) kc ks (nI 8) (nI G) c fl h b a1 a2 a3 a4 a5) ∧ (¬ nI p ≤ nI x → wL_lawOf_290 post mc ms J (nI i) (nI m) (nI p) s x16 1 (nI x) (nI x) kc ks (nI 8) (nI G) c fl h b a1 a2 a3 a4 a5)) := by
  have hl := zt_P_len p m s q
  have hs := zt_P_s p m s q
  have out : ∀ v : Int32, zt_f2 i m p x = v → (x < p ∨ p + m ≤ x) → wL_lawOf_309 post mc ms J (nI i) (nI m) (nI p) s x16 1 (nI x) v kc ks (nI 8) (nI G) c fl h b a1 a2 a3 a4 a5 := by
    intro v hv hz
    have t : wL_lawOf_332 post mc ms J (nI i) (nI m) (nI p) s x16 1 (nI x) v kc ks (nI 8) (nI G) c fl h b a1 a2 a3 a4 a5 := by
      refine zt_333out hL hR (by omega) (by omega) hx hv ?_ HJ
      rcases hz with z | z
      · exact zt_P_at_lo z
      · exact zt_P_at_hi z (by omega)
    exact pk_lt x p (fun _ => t) (fun z => pk_le (p + m) x (fun _ => t) (fun y => absurd hz (by omega)) (nI_add p m))
  refine pk_le p x (fun z => ?_) (fun z => ?_)
  · rcases Nat.lt_or_ge x (p + m) with y | y
    · have inn : ∀ v : Int32, wL_lawOf_309 post mc ms J (nI i) (nI m) (nI p) s x16 1 (nI x) v kc ks (nI 8) (nI G) c fl h b a1 a2 a3 a4 a5 := by
        intro v
        refine pk_lt x p (fun w => absurd w (by omega)) (fun _ => pk_le (p + m) x (fun w => absurd w (by omega)) (fun _ => ?_) (nI_add p m))
        refine zt_333in hL hR (by omega) (by omega) hx ?_ (zt_P_at_in z y) HJ
        rw [zt_f2_in z y, nI_add, pk_sub (by omega)]
      exact br_c (fun _ => inn _) (fun _ => inn _)
    · have e : nI x - nI m = nI (x - m) := pk_sub (by omega)
      have v := zt_f2_hi (i := i) y
      refine pk_le i (x - m) (fun w => out _ ?_ (Or.inr y)) (fun w => out _ ?_ (Or.inr y)) rfl e
      · rw [v, if_neg (by omega), e, nI_add]
      · rw [v, if_pos w, e]
  · have v := zt_f2_lo (i := i) (m := m) z
    refine pk_le i x (fun w => out _ ?_ (Or.inl z)) (fun w => out _ ?_ (Or.inl z))
    · rw [v, if_neg (by omega), nI_add]
    · rw [v, if_pos w]
/-- the last check -/
theorem zt_498 {N m D : Nat} {h g z0 z1 s : Int32} {R : List (Nat × Int32)} (hz : z1 = z0) (hm : m ≤ 8) (hR : zt_R c a2 a3 R) (hl : R.length ≤ 10) (hs : zt_s R = 8 + m) (hk : 0 < m → ∃ A k, R = A ++ [(k, s)] ∧ zt_s A ≤ 8 ∧ 8 < zt_s A + k) (hN : N = 8 + m) (H : post 1 ()) :
    wL_lawOf_498 post mc ms (nI m) (nI D) z0 z1 kc ks (nI N) g c (nI D) h b a1 a2 a3 a4 a5 := by
  subst hN
  refine br_t hz ?_
  refine zt_having hR (by omega) (br_t ?_ ?_)
  · rw [hs]
    exact (nI_add 8 m).symm
  · refine zt_flag (br_t rfl ?_)
    rcases Nat.eq_zero_or_pos m with e | e
    · refine zt_runOff (x := 8) (by omega) (by omega) ?_
      exact pk_le m 0 (fun _ => br_t rfl H) (fun z => absurd z (by omega))
    · obtain ⟨A, k, eR, h1, h2⟩ := hk e
      refine zt_runOf (x := 8) (by omega) (by omega) hR (by omega) (by omega) eR h1 h2 (fun b' => ?_)
      refine pk_le m 0 (fun z => absurd z (by omega)) (fun _ => zt_runs (br_t ?_ H))
      rw [hR.1, eR, List.length_append]
      exact (nI_pred _).symm
theorem zt_452 {i N m D t r : Nat} {h g z0 x19 : Int32} {R : List (Nat × Int32)} (ht : 0 < t) (ht2 : t < 64) (hz : (z0 = 0 ∧ r = 1) ∨ (z0 = 1 ∧ r = 2)) (h19 : x19 = if m = 0 then -4 else nI t) (hm : m ≤ 8) (hR : zt_R c a2 a3 R) (hl : R.length ≤ 10) (hs : zt_s R = 8 + m) (hk : 0 < m → ∃ A k, R = A ++ [(k, nI t)] ∧ zt_s A ≤ 8 ∧ 8 < zt_s A + k) (hN : N = 8 + m) (H : post 1 ()) :
    wL_lawOf_452 post mc ms (nI m) (nI t) (nI D) 1 (nI (8 + m)) x19 (nI r) z0 kc ks (nI N) g c (nI D) h b a1 a2 a3 a4 a5 := by
  have two : ∀ v : Int32, x19 = v → wL_lawOf_483 post mc ms (nI m) (nI D) (nI r) z0 v x19 kc ks (nI N) g c (nI D) h b a1 a2 a3 a4 a5 := by
    intro v hv
    refine br_t hv ?_
    rcases hz with ⟨e1, e2⟩ | ⟨e1, e2⟩
    · subst e2
      exact br_t e1 (zt_498 (s := nI t) rfl hm hR hl hs hk hN H)
    · subst e2
      exact br_f (by rw [e1]; decide) (zt_498 (s := nI t) rfl hm hR hl hs hk hN H)
  refine br_f (by decide) (br_t (nI_add 8 m).symm (pk_le m 0 (fun z => two _ ?_) (fun z => two _ ?_)))
  · rw [h19, if_pos (by omega)]
  · rw [h19, if_neg (by omega)]
/-- the second loop, and all that stands behind it -/
theorem zt_266 {h : Int32} {G i m p q t D : Nat} (ht : 0 < t) (ht2 : t < 64) (hi : i + m ≤ 8) (hi2 : i < 8) (hq : p + m + q = 8) (hD : D ≤ 8) (hL : zt_L a1 8 G (zt_f2 i m p)) (hR : zt_R c a2 a3 (zt_P p m (nI t) q)) (H : post 1 ()) :
    ∃ fu, wL_lawOf_266 post mc ms (nI i) (nI m) (nI p) (nI t) (nI D) kc ks fu 1 0 (nI 8) (nI G) c (nI D) h b a1 a2 a3 a4 a5 := by
  have hne : nI t ≠ 0 := nI_ne0 ht (by omega)
  refine pk_loop (σ := Int32) (fun k x s => wL_lawOf_266 post mc ms (nI i) (nI m) (nI p) (nI t) (nI D) kc ks k 1 (nI x) (nI 8) (nI G) c (nI D) h s a1 a2 a3 a4 a5) (fun _ _ => True) 8 0 b (by omega) trivial ?_ ?_
  · intro k s _
    refine pk_le 8 8 (fun _ => ?_) (fun z => absurd z (by omega))
    refine zt_copy (nI_add p m) hne hL hq rfl hR (by omega) (fun G' c' b' a1' a2' a3' a4' a5' R' hL' hR' hl' hs' hk' => ?_)
    rw [zt_F2_8 hD]
    have cnt := zt_cnt3 i hi2 m (by omega) p (by omega) hi (by omega)
    have tail : ∀ (b'' x19 : Int32), x19 = (if m = 0 then -4 else nI t) → wpX_replace (fun r_156 u => match u with
        | (n2, g2, c2, fl2, h2, b2, a12, a22, a32, a42, a52) => ((nI i = 0 → ((nI m ≤ 0 → wL_lawOf_451 post mc ms (nI m) (nI t) (nI D) 1 (nI (8 + m)) x19 r_156 kc ks n2 g2 c2 fl2 h2 b2 a12 a22 a32 a42 a52) ∧ (¬ nI m ≤ 0 → wL_lawOf_452 post mc ms (nI m) (nI t) (nI D) 1 (nI (8 + m)) x19 r_156 1 kc ks n2 g2 c2 fl2 h2 b2 a12 a22 a32 a42 a52))) ∧ (¬ nI i = 0 → wL_lawOf_451 post mc ms (nI m) (nI t) (nI D) 1 (nI (8 + m)) x19 r_156 kc ks n2 g2 c2 fl2 h2 b2 a12 a22 a32 a42 a52)))
        (nI (8 + m), nI G', c', nI D, nI m, b'', a1', a2', a3', a4', a5') 0 25 := by
      intro b'' x19 h19
      refine zt_replace hL' (fun a1'' => ?_)
      have cnt' : zt_cnt (zt_mid (zt_f2 i m p) (fun k => zt_f2 i m p (p + k)) 8 m) (8 + m) = if i = 0 ∧ 0 < m then 2 else 1 := cnt
      rw [cnt']
      refine pk_eq i 0 (fun z => pk_le m 0 (fun y => ?_) (fun y => ?_)) (fun z => ?_)
      · rw [if_neg (by omega)]
        exact zt_452 (i := i) (r := 1) ht ht2 (Or.inl ⟨rfl, rfl⟩) h19 (by omega) hR' hl' hs' hk' rfl H
      · rw [if_pos (by omega)]
        exact zt_452 (i := i) (r := 2) ht ht2 (Or.inr ⟨rfl, rfl⟩) h19 (by omega) hR' hl' hs' hk' rfl H
      · rw [if_neg (by omega)]
        exact zt_452 (i := i) (r := 1) ht ht2 (Or.inl ⟨rfl, rfl⟩) h19 (by omega) hR' hl' hs' hk' rfl H
    rcases Nat.eq_zero_or_pos m with e | e
    · refine zt_styleOff (x := 8) (by omega) (by omega) ?_
      exact tail b' (-4) (by rw [if_pos e])
    · obtain ⟨A, k, eR, h1, h2⟩ := hk' e
      refine zt_styleAt (x := 8) (t := nI t) (by omega) (by omega) hR' (by omega) (by omega) ⟨A, k, [], eR, h1, h2⟩ (fun b'' => ?_)
      exact tail b'' (nI t) (by rw [if_neg (by omega)])
  · intro k x s hx _ hw
    exact pk_le 8 x (fun z => absurd z (by omega)) (fun _ => zt_turn (by omega) (by omega) hq hL hR hx (fun b' => hw b' trivial))
/-- the checks between the two loops -/
theorem zt_253 {x6 x7 x9 x11 x16 z0 z1 n g fl h : Int32} (e : z1 = z0) (H : ∃ fu, wL_lawOf_266 post mc ms x6 x7 x9 x11 x16 kc ks fu 1 0 n g c fl h b a1 a2 a3 a4 a5) : wL_lawOf_253 post mc ms x6 x7 x9 x11 x16 z0 z1 kc ks n g c fl h b a1 a2 a3 a4 a5 := br_t e H
theorem zt_183 {h g x13 : Int32} {i m p q t D : Nat} (hi : i + m + q = 8) (hi2 : i < 8) (h13 : x13 = nI (zt_P i m (nI t) q).length) (H : ∃ fu, wL_lawOf_266 post mc ms (nI i) (nI m) (nI p) (nI t) (nI D) kc ks fu 1 0 (nI 8) g c (nI D) h b a1 a2 a3 a4 a5) :
    wL_lawOf_183 post mc ms (nI i) (nI m) (nI (i + m)) (nI p) (nI t) (nI m) x13 0 (nI D) kc ks (nI 8) g c (nI D) h b a1 a2 a3 a4 a5 := by
  refine br_t rfl (br_t rfl (zt_flag (br_t rfl (zt_length (br_t rfl ?_)))))
  refine pk_eq m 0 (fun z => ?_) (fun z => ?_)
  · subst z
    rw [zt_P_runs0 (by omega)] at h13
    exact zt_253 h13 H
  · rw [zt_P_runs (by omega)] at h13
    refine pk_le i 0 (fun y => ?_) (fun y => ?_)
    · rw [if_neg (by omega)] at h13
      refine pk_le 8 (i + m) (fun w => ?_) (fun w => ?_)
      · rw [if_neg (by omega)] at h13
        exact zt_253 h13 H
      · rw [if_pos (by omega)] at h13
        exact zt_253 h13 H
    · rw [if_pos y] at h13
      refine pk_le 8 (i + m) (fun w => ?_) (fun w => ?_)
      · rw [if_neg (by omega)] at h13
        exact zt_253 h13 H
      · rw [if_pos (by omega)] at h13
        exact zt_253 h13 H
theorem zt_164 {h g x6 x7 x8 x11 x12 x13 x14 n fl : Int32} {K p m : Nat} (hK : K < 100) (hp : p < 100) (hx7 : x7 = nI m) (H : wL_lawOf_183 post mc ms x6 x7 x8 (nI p) x11 x12 x13 x14 (nI (zt_F2 K p m)) kc ks n g c fl h b a1 a2 a3 a4 a5) :
    wL_lawOf_164 post mc ms x6 x7 x8 (nI p) x11 x12 x13 x14 (nI K) kc ks n g c fl h b a1 a2 a3 a4 a5 := by
  subst hx7
  unfold zt_F2 at H
  unfold wL_lawOf_164
  refine pk_le K p (fun z => ?_) (fun z => ?_)
  · rw [if_neg (by omega)] at H
    exact H
  · rw [if_pos z] at H
    rw [nI_add]
    exact H
/-- the first loop and all that stands behind it -/
theorem zt_67 {i m p q t F : Nat} (ht : 0 < t) (ht2 : t < 64) (hi : i + m + q = 8) (hi2 : i < 8) (hp : p ≤ i + q) (hF : F ≤ 8) (H : post 1 ()) :
    ∃ fu, wL_lawOf_67 post mc ms (nI i) (nI m) (nI (i + m)) (nI p) (nI F) (nI t) kc ks fu 0 0 0 0 0 0 0 (fun _ => 0) (fun _ => 0) (fun _ => 0) (fun _ => 0) (fun _ => 0) := by
  have hne : nI t ≠ 0 := nI_ne0 ht (by omega)
  refine pk_loop (σ := Int32 × Int32 × (Nat → Int32) × (Nat → Int32) × (Nat → Int32)) (fun k x s => wL_lawOf_67 post mc ms (nI i) (nI m) (nI (i + m)) (nI p) (nI F) (nI t) kc ks k (nI x) (nI x) (nI x) s.1 0 0 s.2.1 s.2.2.1 s.2.2.2.1 s.2.2.2.2 (fun _ => 0) (fun _ => 0)) (fun x s => zt_L s.2.2.1 x x (fun q => nI q) ∧ zt_R s.1 s.2.2.2.1 s.2.2.2.2 (zt_Z x)) 8 0 (0, 0, (fun _ => 0), (fun _ => 0), (fun _ => 0)) (by omega) ⟨⟨by omega, by omega, fun q z => absurd z (by omega), fun q _ z => absurd z (by omega)⟩, ⟨rfl, trivial⟩⟩ ?_ ?_
  · intro k s hI
    obtain ⟨c0, b0, a10, a20, a30⟩ := s
    obtain ⟨hL, hR⟩ := hI
    refine pk_le 8 8 (fun _ => ?_) (fun z => absurd z (by omega))
    refine zt_setFlag (N := 8) hF (by omega) (fun r => ?_)
    refine zt_style (N := 8) hi (by omega) ht ht2 hR (fun c1 b1 a21 a31 hR1 => ?_)
    refine zt_runs ?_
    refine zt_move hne hL hi hp hR1 (by omega) (fun G2 c2 b2 a12 a22 a32 a42 a52 hL2 hR2 => ?_)
    have hD := zt_F_le hF hi hp
    have fin := zt_183 (x13 := c1) hi hi2 hR1.1 (zt_266 (post := post) (mc := mc) (ms := ms) (kc := kc) (ks := ks) (b := b2) (h := nI m) (a4 := a42) (a5 := a52) ht ht2 (by omega) hi2 (by omega) hD hL2 hR2 H)
    have K : wL_lawOf_164 post mc ms (nI i) (nI m) (nI (i + m)) (nI p) (nI t) (nI m) c1 0 (nI (zt_F1 F i (i + m))) kc ks (nI 8) (nI G2) c2 (nI (zt_F2 (zt_F1 F i (i + m)) p m)) (nI m) b2 a12 a22 a32 a42 a52 := by
      refine zt_164 ?_ (by omega) rfl fin
      unfold zt_F1
      by_cases e : i + m ≤ F
      · rw [if_pos e]
        omega
      · rw [if_neg e]
        by_cases e2 : i < F
        · rw [if_pos e2]
          omega
        · rw [if_neg e2]
          omega
    refine pk_lt F (i + m) (fun z => pk_le F i (fun y => ?_) (fun y => ?_)) (fun z => ?_)
    · rw [show zt_F1 F i (i + m) = F from (if_neg (by omega)).trans (if_neg (by omega))] at K ⊢
      exact K
    · rw [show zt_F1 F i (i + m) = i from (if_neg (by omega)).trans (if_pos y)] at K ⊢
      exact K
    · rw [show zt_F1 F i (i + m) = F - m from (if_pos z).trans (by rw [show i + m - i = m by omega])] at K ⊢
      rw [pk_sub (by omega)]
      exact K
  · intro k x s hx hI hw
    obtain ⟨c0, b0, a10, a20, a30⟩ := s
    obtain ⟨hL, hR⟩ := hI
    refine pk_le 8 x (fun z => absurd z (by omega)) (fun _ => ?_)
    exact zt_put hx hL hR (fun c1 b1 a11 a21 a31 hL1 hR1 => nm_r (nI_1 x) (hw (c1, b1, a11, a21, a31) ⟨hL1, hR1⟩))
theorem zt_lawOf (p0 p1 p2 p3 p4 : Int32) (H : post 1 ()) : wpL_lawOf post 6 339 () p0 p1 p2 p3 p4 := by
  obtain ⟨i, hi, e0⟩ := pk_andE p0 (m := 7) 3 (by decide)
  obtain ⟨a, ha, e1⟩ := pk_andE p1 (m := 15) 4 (by decide)
  obtain ⟨d, hd, e2⟩ := pk_andE p2 (m := 15) 4 (by decide)
  obtain ⟨g, hg, e3⟩ := pk_andE p3 (m := 15) 4 (by decide)
  obtain ⟨t, ht, e4⟩ := pk_andE p4 (m := 31) 5 (by decide)
  have hi' : i < 8 := hi
  have hm : a % (9 - i) < 9 - i := Nat.mod_lt _ (by omega)
  have hp : d % (9 - a % (9 - i)) < 9 - a % (9 - i) := Nat.mod_lt _ (by omega)
  have hF : g % 9 < 9 := Nat.mod_lt _ (by omega)
  have s9 : (9 : Int32) - nI i = nI (9 - i) := pk_sub (a := 9) (by omega)
  have s9' : (9 : Int32) - nI (a % (9 - i)) = nI (9 - a % (9 - i)) := pk_sub (a := 9) (by omega)
  refine ⟨by omega, by omega, 5, 328, by omega, by omega, ?_⟩
  refine ⟨by omega, by omega, by omega, by omega, by omega, by omega, by omega, by omega, by omega, by omega, ?_⟩
  refine nm_r e0 ⟨?_, nm_r (e' := nI (a % (9 - i))) ?_ (nm_r (nI_add i _) ⟨?_, nm_r (e' := nI (d % (9 - a % (9 - i)))) ?_ ⟨by decide, nm_r (e' := nI (g % 9)) ?_ (nm_r (e' := nI (1 + t)) ?_ ?_)⟩⟩)⟩
  · rw [s9]
    exact nI_ne0 (by omega) (by omega)
  · rw [e1, s9]
    exact pk_rem (by omega) (by omega) (by omega)
  · rw [s9']
    exact nI_ne0 (by omega) (by omega)
  · rw [e2, s9']
    exact pk_rem (by omega) (by omega) (by omega)
  · rw [e3]
    exact pk_rem (d := 9) (by omega) (by omega) (by omega)
  · rw [e4]
    exact nI_add 1 t
  · exact zt_67 (q := 8 - i - a % (9 - i)) (by omega) (by omega) (by omega) hi' (by omega) (by omega) H
end
theorem zt_cellAt {post : Int32 → Prop} {L : Nat} {xs : Nat → Int32} {u : St0} {x : Int32} (k : Nat) (hk : k < 1000) (hL : L ≤ 5) (H : ∀ r, post r) (hx : x = nI k := by rfl) : wpL_cellAt post L xs u x :=
  pk_le L k (fun _ => H _) (fun z => ⟨pk_in k L z hx, H _⟩) rfl hx
theorem i_vc (xs : Nat → Int32) (L : Nat) (hL : L ≤ 5) : wpL_law (fun r => r = 1) L xs := by
  unfold wpL_law
  refine zt_cellAt 0 (by omega) hL (fun r1 => zt_cellAt 1 (by omega) hL (fun r2 => zt_cellAt 2 (by omega) hL (fun r3 => zt_cellAt 3 (by omega) hL (fun r4 => zt_cellAt 4 (by omega) hL (fun r5 => ?_)))))
  exact ⟨6, 339, by omega, by omega, zt_lawOf r1 r2 r3 r4 r5 rfl⟩
end
