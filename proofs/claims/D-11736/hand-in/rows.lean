section
/-- data: variable 0, variable 1, accumulator 0, accumulator 1, the peak of variable 0 -/
abbrev te_Q : Type := Nat × Nat × Nat × Nat × Nat
def te_K (x : Nat → Nat) (i : Nat) : Nat := x i % 4
def te_P (x : Nat → Nat) (i : Nat) : Nat := x i / 4 % 2
def te_N (x : Nat → Nat) (i : Nat) : Nat := x i / 8
def te_now (k n own val : Nat) : Nat := if k = 1 then n else if k = 2 then (own + n) % 8 else (val + n) % 8
/-- one step of kind k at place p with number n, of thread th -/
def te_f (k p n th : Nat) (q : te_Q) : te_Q := match q with
  | (v0, v1, h0, h1, pk) =>
    if k = 0 then
      (if th = 0 then (v0, v1, (if p = 0 then v0 else v1), h1, max pk v0) else (v0, v1, h0, (if p = 0 then v0 else v1), max pk v0))
    else if p = 0 then (te_now k n (if th = 0 then h0 else h1) v0, v1, h0, h1, max pk (te_now k n (if th = 0 then h0 else h1) v0))
    else (v0, te_now k n (if th = 0 then h0 else h1) v1, h0, h1, max pk v0)
/-- paths: the latest step first -/
def te_run (x : Nat → Nat) (s0 s1 : Nat) : List Nat → te_Q
  | [] => (s0, s1, 0, 0, s0)
  | i :: p => te_f (te_K x i) (te_P x i) (te_N x i) (i / 2) (te_run x s0 s1 p)
def te_ti (x : Nat → Nat) (i j : Nat) : Bool := i / 2 == j / 2 || (te_P x i == te_P x j && !(te_K x i == 0 && te_K x j == 0))
def te_T (b02 b03 b12 b13 : Bool) (i j : Nat) : Bool :=
  if i / 2 = j / 2 then true else if min i j = 0 then (if max i j = 2 then b02 else b03) else (if max i j = 2 then b12 else b13)
theorem te_ti_sym (x : Nat → Nat) (i j : Nat) : te_ti x i j = te_ti x j i := by
  unfold te_ti
  rw [Bool.beq_comm (a := i / 2), Bool.beq_comm (a := te_P x i), Bool.and_comm (te_K x i == 0)]
theorem te_four {i : Nat} (h : i < 4) : i = 0 ∨ i = 1 ∨ i = 2 ∨ i = 3 := by omega
theorem te_T_ti (x : Nat → Nat) {i j : Nat} (hi : i < 4) (hj : j < 4) : te_T (te_ti x 0 2) (te_ti x 0 3) (te_ti x 1 2) (te_ti x 1 3) i j = te_ti x i j := by
  have same : ∀ a b : Nat, a / 2 = b / 2 → te_ti x a b = true := fun a b h => by
    unfold te_ti
    rw [h]
    simp
  rcases te_four hi with rfl | rfl | rfl | rfl <;> rcases te_four hj with rfl | rfl | rfl | rfl <;>
    first
    | exact (same _ _ (by decide)).symm
    | rfl
    | exact te_ti_sym x 0 2
    | exact te_ti_sym x 0 3
    | exact te_ti_sym x 1 2
    | exact te_ti_sym x 1 3
def te_g8 (q : te_Q) : Prop := q.1 < 8 ∧ q.2.1 < 8 ∧ q.2.2.1 < 8 ∧ q.2.2.2.1 < 8 ∧ q.2.2.2.2 < 8 ∧ q.1 ≤ q.2.2.2.2
theorem te_now8 {k n own val : Nat} (hn : n < 8) : te_now k n own val < 8 := by
  unfold te_now
  split
  · exact hn
  · split <;> omega
theorem te_f8 {k p n th : Nat} {q : te_Q} (hn : n < 8) (h : te_g8 q) : te_g8 (te_f k p n th q) := by
  obtain ⟨v0, v1, h0, h1, pk⟩ := q
  obtain ⟨a0, a1, a2, a3, a4, a5⟩ := h
  dsimp only at a0 a1 a2 a3 a4 a5
  have w0 : te_now k n (if th = 0 then h0 else h1) v0 < 8 := te_now8 hn
  have w1 : te_now k n (if th = 0 then h0 else h1) v1 < 8 := te_now8 hn
  unfold te_f
  dsimp only
  split
  · split <;> split <;> (refine ⟨?_, ?_, ?_, ?_, ?_, ?_⟩ <;> dsimp only <;> omega)
  · split
    · generalize te_now k n (if th = 0 then h0 else h1) v0 = w at *
      refine ⟨?_, ?_, ?_, ?_, ?_, ?_⟩ <;> dsimp only <;> omega
    · generalize te_now k n (if th = 0 then h0 else h1) v1 = w at *
      refine ⟨?_, ?_, ?_, ?_, ?_, ?_⟩ <;> dsimp only <;> omega
theorem te_run8 {x : Nat → Nat} {s0 s1 : Nat} (hx : ∀ i, x i < 64) (h0 : s0 < 8) (h1 : s1 < 8) : ∀ p, te_g8 (te_run x s0 s1 p) := by
  intro p
  induction p with
  | nil => exact ⟨h0, h1, Nat.zero_lt_succ 7, Nat.zero_lt_succ 7, h0, Nat.le_refl _⟩
  | cons i p ih => exact te_f8 (by have := hx i; unfold te_N; omega) ih
theorem te_fcomm (k1 p1 n1 k2 p2 n2 : Nat) (q : te_Q) (h1 : p1 < 2) (h2 : p2 < 2) (hq : q.1 ≤ q.2.2.2.2) (h : p1 = p2 → k1 = 0 ∧ k2 = 0) :
    te_f k1 p1 n1 0 (te_f k2 p2 n2 1 q) = te_f k2 p2 n2 1 (te_f k1 p1 n1 0 q) := by
  obtain ⟨v0, v1, g0, g1, pk⟩ := q
  dsimp only at hq
  have e1 : p1 = 0 ∨ p1 = 1 := by omega
  have e2 : p2 = 0 ∨ p2 = 1 := by omega
  have m1 : max pk v0 = pk := by omega
  have m2 : ∀ w, max (max pk w) w = max pk w := fun w => by omega
  rcases e1 with rfl | rfl <;> rcases e2 with rfl | rfl
  · obtain ⟨rfl, rfl⟩ := h rfl
    simp [te_f]
  · by_cases a : k1 = 0 <;> by_cases b : k2 = 0 <;> simp [te_f, a, b, m1, m2]
  · by_cases a : k1 = 0 <;> by_cases b : k2 = 0 <;> simp [te_f, a, b, m1, m2]
  · obtain ⟨rfl, rfl⟩ := h rfl
    simp [te_f]
theorem te_untied {x : Nat → Nat} {i j : Nat} (h : te_ti x i j = false) : i / 2 ≠ j / 2 ∧ (te_P x i = te_P x j → te_K x i = 0 ∧ te_K x j = 0) := by
  unfold te_ti at h
  simp only [Bool.or_eq_false_iff, Bool.and_eq_false_iff, Bool.not_eq_false', Bool.and_eq_true, beq_eq_false_iff_ne, beq_iff_eq] at h
  obtain ⟨a, b⟩ := h
  refine ⟨a, fun e => ?_⟩
  rcases b with b | b
  · exact absurd e b
  · exact b
theorem te_comm {x : Nat → Nat} {i j : Nat} {q : te_Q} (hi : i < 4) (hj : j < 4) (h : te_ti x i j = false) (hq : q.1 ≤ q.2.2.2.2) :
    te_f (te_K x i) (te_P x i) (te_N x i) (i / 2) (te_f (te_K x j) (te_P x j) (te_N x j) (j / 2) q) = te_f (te_K x j) (te_P x j) (te_N x j) (j / 2) (te_f (te_K x i) (te_P x i) (te_N x i) (i / 2) q) := by
  obtain ⟨a, b⟩ := te_untied h
  have p1 : te_P x i < 2 := by unfold te_P; omega
  have p2 : te_P x j < 2 := by unfold te_P; omega
  have e : (i / 2 = 0 ∧ j / 2 = 1) ∨ (i / 2 = 1 ∧ j / 2 = 0) := by omega
  rcases e with ⟨e1, e2⟩ | ⟨e1, e2⟩
  · rw [e1, e2]
    exact te_fcomm _ _ _ _ _ _ q p1 p2 hq b
  · rw [e1, e2]
    exact (te_fcomm _ _ _ _ _ _ q p2 p1 hq (fun z => (b z.symm).symm)).symm
/-- a step moves ahead of later ones that aren't tied to it -/
def te_in (T : Nat → Nat → Bool) (y : Nat) : List Nat → List Nat
  | [] => [y]
  | x :: r => if y < x ∧ T y x = false then x :: te_in T y r else y :: x :: r
def te_cn (T : Nat → Nat → Bool) : List Nat → List Nat
  | [] => []
  | y :: p => te_in T y (te_cn T p)
theorem te_in4 (T : Nat → Nat → Bool) {y : Nat} (hy : y < 4) : ∀ p : List Nat, (∀ a, a ∈ p → a < 4) → ∀ a, a ∈ te_in T y p → a < 4 := by
  intro p
  induction p with
  | nil =>
    intro _ a ha
    rw [te_in, List.mem_singleton] at ha
    omega
  | cons x r ih =>
    intro h a ha
    rw [te_in] at ha
    split at ha
    · rcases List.mem_cons.mp ha with e | e
      · rw [e]
        exact h x (List.mem_cons_self ..)
      · exact ih (fun b hb => h b (List.mem_cons_of_mem _ hb)) a e
    · rcases List.mem_cons.mp ha with e | e
      · omega
      · exact h a e
theorem te_cn4 (T : Nat → Nat → Bool) : ∀ p : List Nat, (∀ a, a ∈ p → a < 4) → ∀ a, a ∈ te_cn T p → a < 4 := by
  intro p
  induction p with
  | nil =>
    intro h a ha
    exact h a ha
  | cons y p ih =>
    intro h
    exact te_in4 T (h y (List.mem_cons_self ..)) _ (ih (fun b hb => h b (List.mem_cons_of_mem _ hb)))
section
variable {x : Nat → Nat} {s0 s1 : Nat} (hx : ∀ i, x i < 64) (h0 : s0 < 8) (h1 : s1 < 8) {T : Nat → Nat → Bool} (hT : ∀ i j, i < 4 → j < 4 → T i j = te_ti x i j)
theorem te_run_in (hx : ∀ i, x i < 64) (h0 : s0 < 8) (h1 : s1 < 8) (hT : ∀ i j, i < 4 → j < 4 → T i j = te_ti x i j) {y : Nat} (hy : y < 4) : ∀ p : List Nat, (∀ a, a ∈ p → a < 4) → te_run x s0 s1 (te_in T y p) = te_run x s0 s1 (y :: p) := by
  intro p
  induction p with
  | nil => intro _; rfl
  | cons z r ih =>
    intro h
    have hz : z < 4 := h z (List.mem_cons_self ..)
    rw [te_in]
    split
    · rename_i c
      have c2 : te_ti x y z = false := by rw [← hT y z hy hz]; exact c.2
      rw [te_run, ih (fun b hb => h b (List.mem_cons_of_mem _ hb)), te_run, te_run, te_run]
      exact (te_comm hy hz c2 (te_run8 hx h0 h1 r).2.2.2.2.2).symm
    · rfl
theorem te_run_cn (hx : ∀ i, x i < 64) (h0 : s0 < 8) (h1 : s1 < 8) (hT : ∀ i j, i < 4 → j < 4 → T i j = te_ti x i j) : ∀ p : List Nat, (∀ a, a ∈ p → a < 4) → te_run x s0 s1 (te_cn T p) = te_run x s0 s1 p := by
  intro p
  induction p with
  | nil => intro _; rfl
  | cons y p ih =>
    intro h
    have h' : ∀ a, a ∈ p → a < 4 := fun b hb => h b (List.mem_cons_of_mem _ hb)
    rw [te_cn, te_run_in hx h0 h1 hT (h y (List.mem_cons_self ..)) _ (te_cn4 T p h'), te_run, te_run, ih h']
end
/-- the search: frames (path, sleep, turn), the top one first; the runs gone to their end; the paths entered -/
abbrev te_F : Type := List Nat × Nat × Nat
abbrev te_C : Type := List te_F × List (List Nat) × List (List Nat)
def te_c0 : List Nat → Nat
  | [] => 0
  | i :: p => (if i < 2 then 1 else 0) + te_c0 p
def te_c1 : List Nat → Nat
  | [] => 0
  | i :: p => (if i < 2 then 0 else 1) + te_c1 p
def te_nx (p : List Nat) (t : Nat) : Nat := if t = 0 then (if te_c0 p < 2 then te_c0 p else 9) else if t = 1 then (if te_c1 p < 2 then 2 + te_c1 p else 9) else 9
def te_st (T : Nat → Nat → Bool) (p : List Nat) (sl a : Nat) : Nat :=
  (if sl % 2 = 1 ∧ te_nx p 0 < 9 ∧ T (te_nx p 0) a = false then 1 else 0) + (if sl / 2 % 2 = 1 ∧ te_nx p 1 < 9 ∧ T (te_nx p 1) a = false then 2 else 0)
def te_step (T : Nat → Nat → Bool) (slp : Bool) (c : te_C) : te_C := match c with
  | ([], l, e) => ([], l, e)
  | ((p, sl, t) :: st, l, e) =>
    if t = 3 then (st, (if te_c0 p = 2 ∧ te_c1 p = 2 then p :: l else l), e)
    else if te_nx p t < 9 ∧ sl / 2 ^ t % 2 = 0 then
      ((te_nx p t :: p, te_st T p sl (te_nx p t), 0) :: (p, (if slp = true then sl + 2 ^ t else sl), t + 1) :: st, l, (te_nx p t :: p) :: e)
    else ((p, sl, t + 1) :: st, l, e)
def te_it (T : Nat → Nat → Bool) (slp : Bool) : Nat → te_C → te_C
  | 0, c => c
  | n + 1, c => te_it T slp n (te_step T slp c)
def te_okS : List te_F → Bool
  | [] => true
  | (p, sl, t) :: st => decide (p.length = st.length ∧ te_c0 p ≤ 2 ∧ te_c1 p ≤ 2 ∧ te_c0 p + te_c1 p = p.length ∧ sl < 4 ∧ t ≤ 3) && te_okS st
def te_okN (T : Nat → Nat → Bool) (slp : Bool) : Nat → te_C → Bool
  | 0, c => c.1.isEmpty
  | n + 1, c => te_okS c.1 && te_okN T slp n (te_step T slp c)
def te_C0 : te_C := ([([], 0, 0)], [], [])
theorem te_okAll : ∀ a b c d s : Bool, te_okN (te_T a b c d) s 80 te_C0 = true := by decide +kernel
def te_at (o k : Nat) : Nat :=
  let n := (if 0 < k then o % 2 else 0) + (if 1 < k then o / 2 % 2 else 0) + (if 2 < k then o / 4 % 2 else 0) + (if 3 < k then o / 8 % 2 else 0)
  if o / 2 ^ k % 2 = 1 then 2 + n else k - n
def te_op (o : Nat) : List Nat := [te_at o 3, te_at o 2, te_at o 1, te_at o 0]
def te_gd (o : Nat) : Bool := o % 2 + o / 2 % 2 + o / 4 % 2 + o / 8 % 2 == 2
def te_gl : Nat → List Nat
  | 0 => []
  | o + 1 => if te_gd o = true then o :: te_gl o else te_gl o
/-- one pair of the key -/
def te_k1 (T : Nat → Nat → Bool) (o k l : Nat) (z : Int32) : Int32 :=
  if T (te_at o k) (te_at o l) = true then z ||| ((1 : Int32) <<< (((4 * nI (te_at o l)) + nI (te_at o k)) &&& 31)) else z
def te_ky (T : Nat → Nat → Bool) (o : Nat) : Int32 :=
  te_k1 T o 3 2 (te_k1 T o 3 1 (te_k1 T o 3 0 (te_k1 T o 2 1 (te_k1 T o 2 0 (te_k1 T o 1 0 0)))))
/-- those of a list whose key isn't that of one behind them -/
def te_frl (f : Nat → Int32) : List Nat → List Nat
  | [] => []
  | o :: l => if f o ∈ l.map f then te_frl f l else o :: te_frl f l
def te_sfx : List Nat → List (List Nat)
  | [] => []
  | i :: p => (i :: p) :: te_sfx p
def te_fins (T : Nat → Nat → Bool) (s : Bool) : List (List Nat) := (te_it T s 80 te_C0).2.1
def te_ents (T : Nat → Nat → Bool) (s : Bool) : List (List Nat) := (te_it T s 80 te_C0).2.2
theorem te_gl16 : te_gl 16 = [12, 10, 9, 6, 5, 3] := by decide +kernel
theorem te_six : ∀ a b c d : Bool, (te_fins (te_T a b c d) false).length = 6 := by decide +kernel
theorem te_fA : ∀ a b c d : Bool, (te_fins (te_T a b c d) true).length = (te_frl (te_ky (te_T a b c d)) (te_gl 16)).length := by decide +kernel
theorem te_fB : ∀ a b c d : Bool, ((te_fins (te_T a b c d) true).map (te_cn (te_T a b c d))).isPerm ((te_frl (te_ky (te_T a b c d)) (te_gl 16)).map (fun o => te_cn (te_T a b c d) (te_op o))) = true := by decide +kernel
theorem te_fC1 : ∀ a b c d : Bool, ((te_fins (te_T a b c d) true).all (fun f => (te_gl 16).any (fun o => te_op o == f))) = true := by decide +kernel
theorem te_fC2 : ∀ a b c d : Bool, ((te_gl 16).all (fun o => (te_fins (te_T a b c d) true).any (fun f => te_cn (te_T a b c d) f == te_cn (te_T a b c d) (te_op o)))) = true := by decide +kernel
theorem te_fE1 : ∀ a b c d : Bool, ((te_ents (te_T a b c d) true).all (fun p => (te_gl 16).any (fun o => (te_sfx (te_op o)).contains p))) = true := by decide +kernel
theorem te_fE2 : ∀ a b c d : Bool, ((te_fins (te_T a b c d) true).all (fun f => (te_sfx f).all (fun p => (te_ents (te_T a b c d) true).contains p))) = true := by decide +kernel
theorem te_op4 : ∀ o, o ∈ te_gl 16 → ∀ a, a ∈ te_op o → a < 4 := by decide +kernel
end
section
def te_TX (x : Nat → Nat) : Nat → Nat → Bool := te_T (te_ti x 0 2) (te_ti x 0 3) (te_ti x 1 2) (te_ti x 1 3)
theorem te_TXe (x : Nat → Nat) : ∀ i j, i < 4 → j < 4 → te_TX x i j = te_ti x i j := fun _ _ hi hj => te_T_ti x hi hj
def te_res (q : te_Q) : Nat := 64 * q.1 + 8 * q.2.1
theorem te_fin_op {x : Nat → Nat} {p : List Nat} (hp : p ∈ te_fins (te_TX x) true) : ∃ o, o ∈ te_gl 16 ∧ te_op o = p := by
  have h := te_fC1 (te_ti x 0 2) (te_ti x 0 3) (te_ti x 1 2) (te_ti x 1 3)
  rw [List.all_eq_true] at h
  have h2 := h p hp
  rw [List.any_eq_true] at h2
  obtain ⟨o, ho, e⟩ := h2
  exact ⟨o, ho, eq_of_beq e⟩
theorem te_fin4 {x : Nat → Nat} {p : List Nat} (hp : p ∈ te_fins (te_TX x) true) : ∀ a, a ∈ p → a < 4 := by
  obtain ⟨o, ho, e⟩ := te_fin_op hp
  rw [← e]
  exact te_op4 o ho
theorem te_op_fin {x : Nat → Nat} {s0 s1 : Nat} (hx : ∀ i, x i < 64) (h0 : s0 < 8) (h1 : s1 < 8) {o : Nat} (ho : o ∈ te_gl 16) : ∃ p, p ∈ te_fins (te_TX x) true ∧ te_run x s0 s1 p = te_run x s0 s1 (te_op o) := by
  have h := te_fC2 (te_ti x 0 2) (te_ti x 0 3) (te_ti x 1 2) (te_ti x 1 3)
  rw [List.all_eq_true] at h
  have h2 := h o ho
  rw [List.any_eq_true] at h2
  obtain ⟨p, hp, e⟩ := h2
  have e' : te_cn (te_TX x) p = te_cn (te_TX x) (te_op o) := eq_of_beq e
  have hp' : p ∈ te_fins (te_TX x) true := hp
  refine ⟨p, hp', ?_⟩
  rw [← te_run_cn hx h0 h1 (te_TXe x) p (te_fin4 hp'), e', te_run_cn hx h0 h1 (te_TXe x) (te_op o) (te_op4 o ho)]
theorem te_same {x : Nat → Nat} {s0 s1 : Nat} (hx : ∀ i, x i < 64) (h0 : s0 < 8) (h1 : s1 < 8) (f : te_Q → Nat) (r : Nat) :
    r ∈ (te_fins (te_TX x) true).map (fun p => f (te_run x s0 s1 p)) ↔ r ∈ (te_gl 16).map (fun o => f (te_run x s0 s1 (te_op o))) := by
  constructor
  · intro h
    obtain ⟨p, hp, e⟩ := List.mem_map.mp h
    obtain ⟨o, ho, e2⟩ := te_fin_op hp
    exact List.mem_map.mpr ⟨o, ho, by rw [e2]; exact e⟩
  · intro h
    obtain ⟨o, ho, e⟩ := List.mem_map.mp h
    obtain ⟨p, hp, e2⟩ := te_op_fin hx h0 h1 ho
    exact List.mem_map.mpr ⟨p, hp, by rw [e2]; exact e⟩
theorem te_frl_mem {f : Nat → Int32} : ∀ (l : List Nat) {o : Nat}, o ∈ te_frl f l → o ∈ l := by
  intro l
  induction l with
  | nil => intro o h; exact h
  | cons a l ih =>
    intro o h
    rw [te_frl] at h
    split at h
    · exact List.mem_cons_of_mem _ (ih h)
    · rcases List.mem_cons.mp h with e | e
      · rw [e]; exact List.mem_cons_self ..
      · exact List.mem_cons_of_mem _ (ih e)
/-- how many of a list of paths end in r -/
def te_cnt (R : List Nat → te_Q) (l : List (List Nat)) (r : Nat) : Nat := l.countP (fun p => decide (te_res (R p) = r))
def te_ofc (R : List Nat → te_Q) (l : List Nat) (r : Nat) : Nat := l.countP (fun o => decide (te_res (R (te_op o)) = r))
theorem te_count {x : Nat → Nat} {s0 s1 : Nat} (hx : ∀ i, x i < 64) (h0 : s0 < 8) (h1 : s1 < 8) (r : Nat) :
    te_cnt (te_run x s0 s1) (te_fins (te_TX x) true) r = te_ofc (te_run x s0 s1) (te_frl (te_ky (te_TX x)) (te_gl 16)) r := by
  have h := List.isPerm_iff.mp (te_fB (te_ti x 0 2) (te_ti x 0 3) (te_ti x 1 2) (te_ti x 1 3))
  have c := List.Perm.countP_eq (fun p => decide (te_res (te_run x s0 s1 p) = r)) h
  rw [List.countP_map, List.countP_map] at c
  unfold te_cnt te_ofc
  refine Eq.trans (List.countP_congr (fun p hp => ?_)) (Eq.trans c (List.countP_congr (fun o ho => ?_)))
  · have e : te_run x s0 s1 (te_cn (te_TX x) p) = te_run x s0 s1 p := te_run_cn hx h0 h1 (te_TXe x) p (te_fin4 hp)
    show decide (te_res (te_run x s0 s1 p) = r) = true ↔ decide (te_res (te_run x s0 s1 (te_cn (te_TX x) p)) = r) = true
    rw [e]
  · have e : te_run x s0 s1 (te_cn (te_TX x) (te_op o)) = te_run x s0 s1 (te_op o) := te_run_cn hx h0 h1 (te_TXe x) (te_op o) (te_op4 o (te_frl_mem _ ho))
    show decide (te_res (te_run x s0 s1 (te_cn (te_TX x) (te_op o))) = r) = true ↔ decide (te_res (te_run x s0 s1 (te_op o)) = r) = true
    rw [e]
theorem te_cnt_pos {R : List Nat → te_Q} {l : List (List Nat)} {r : Nat} : 0 < te_cnt R l r ↔ r ∈ l.map (fun p => te_res (R p)) := by
  unfold te_cnt
  rw [List.countP_pos_iff]
  constructor
  · rintro ⟨p, hp, e⟩
    exact List.mem_map.mpr ⟨p, hp, of_decide_eq_true e⟩
  · intro h
    obtain ⟨p, hp, e⟩ := List.mem_map.mp h
    exact ⟨p, hp, decide_eq_true e⟩
/-! the peak -/
def te_mx (R : List Nat → te_Q) (s0 : Nat) : List (List Nat) → Nat
  | [] => s0
  | p :: e => max (te_mx R s0 e) (R p).1
def te_pk (R : List Nat → te_Q) : List Nat → Nat
  | [] => 0
  | o :: l => max (te_pk R l) (R (te_op o)).2.2.2.2
theorem te_mx_le {R : List Nat → te_Q} {s0 m : Nat} : ∀ e : List (List Nat), te_mx R s0 e ≤ m ↔ s0 ≤ m ∧ ∀ p, p ∈ e → (R p).1 ≤ m := by
  intro e
  induction e with
  | nil => exact ⟨fun h => ⟨h, fun p hp => absurd hp (List.not_mem_nil)⟩, fun h => h.1⟩
  | cons a e ih =>
    rw [te_mx, Nat.max_le, ih]
    constructor
    · rintro ⟨⟨h, h2⟩, h3⟩
      refine ⟨h, fun p hp => ?_⟩
      rcases List.mem_cons.mp hp with e | e
      · rw [e]; exact h3
      · exact h2 p e
    · rintro ⟨h, h2⟩
      exact ⟨⟨h, fun p hp => h2 p (List.mem_cons_of_mem _ hp)⟩, h2 a (List.mem_cons_self ..)⟩
theorem te_pk_le {R : List Nat → te_Q} {m : Nat} : ∀ l : List Nat, te_pk R l ≤ m ↔ ∀ o, o ∈ l → (R (te_op o)).2.2.2.2 ≤ m := by
  intro l
  induction l with
  | nil => exact ⟨fun _ o ho => absurd ho (List.not_mem_nil), fun _ => Nat.zero_le _⟩
  | cons a l ih =>
    rw [te_pk, Nat.max_le, ih]
    constructor
    · rintro ⟨h2, h3⟩ o ho
      rcases List.mem_cons.mp ho with e | e
      · rw [e]; exact h3
      · exact h2 o e
    · intro h2
      exact ⟨fun o ho => h2 o (List.mem_cons_of_mem _ ho), h2 a (List.mem_cons_self ..)⟩
theorem te_fpk (k p n th : Nat) (q : te_Q) : (te_f k p n th q).2.2.2.2 = max q.2.2.2.2 (te_f k p n th q).1 := by
  obtain ⟨v0, v1, h0, h1, pk⟩ := q
  unfold te_f
  dsimp only
  split
  · split <;> rfl
  · split <;> rfl
theorem te_s0pk {x : Nat → Nat} {s0 s1 : Nat} : ∀ f, s0 ≤ (te_run x s0 s1 f).2.2.2.2 := by
  intro f
  induction f with
  | nil => exact Nat.le_refl _
  | cons i p ih =>
    rw [te_run, te_fpk]
    omega
theorem te_sfx_pk {x : Nat → Nat} {s0 s1 : Nat} : ∀ f p, p ∈ te_sfx f → (te_run x s0 s1 p).1 ≤ (te_run x s0 s1 f).2.2.2.2 := by
  intro f
  induction f with
  | nil => intro p hp; exact absurd hp (List.not_mem_nil)
  | cons i f ih =>
    intro p hp
    rcases List.mem_cons.mp hp with e | e
    · rw [e, te_run, te_fpk]
      exact Nat.le_max_right _ _
    · have h := ih p e
      rw [te_run, te_fpk]
      exact Nat.le_trans h (Nat.le_max_left _ _)
theorem te_pk_of {x : Nat → Nat} {s0 s1 m : Nat} (hm : s0 ≤ m) : ∀ f, (∀ p, p ∈ te_sfx f → (te_run x s0 s1 p).1 ≤ m) → (te_run x s0 s1 f).2.2.2.2 ≤ m := by
  intro f
  induction f with
  | nil => intro _; exact hm
  | cons i f ih =>
    intro h
    have a := ih (fun p hp => h p (List.mem_cons_of_mem _ hp))
    have b := h (i :: f) (List.mem_cons_self ..)
    rw [te_run] at b
    rw [te_run, te_fpk]
    exact Nat.max_le.mpr ⟨a, b⟩
theorem te_peakE {x : Nat → Nat} {s0 s1 : Nat} (hx : ∀ i, x i < 64) (h0 : s0 < 8) (h1 : s1 < 8) :
    te_mx (te_run x s0 s1) s0 (te_ents (te_TX x) true) = te_pk (te_run x s0 s1) (te_gl 16) := by
  apply Nat.le_antisymm
  · rw [te_mx_le]
    have hp := (te_pk_le (R := te_run x s0 s1) (te_gl 16)).mp (Nat.le_refl _)
    refine ⟨?_, fun p hp1 => ?_⟩
    · exact Nat.le_trans (te_s0pk (te_op 3)) (hp 3 (by decide +kernel))
    · have h := te_fE1 (te_ti x 0 2) (te_ti x 0 3) (te_ti x 1 2) (te_ti x 1 3)
      rw [List.all_eq_true] at h
      have h2 := h p hp1
      rw [List.any_eq_true] at h2
      obtain ⟨o, ho, e⟩ := h2
      exact Nat.le_trans (te_sfx_pk (te_op o) p (List.contains_iff_mem.mp e)) (hp o ho)
  · rw [te_pk_le]
    intro o ho
    have hm := (te_mx_le (R := te_run x s0 s1) (s0 := s0) (te_ents (te_TX x) true)).mp (Nat.le_refl _)
    obtain ⟨f, hf, e⟩ := te_op_fin hx h0 h1 ho
    rw [← e]
    refine te_pk_of hm.1 f (fun p hp => hm.2 p ?_)
    have h := te_fE2 (te_ti x 0 2) (te_ti x 0 3) (te_ti x 1 2) (te_ti x 1 3)
    rw [List.all_eq_true] at h
    have h2 := h f hf
    rw [List.all_eq_true] at h2
    exact List.contains_iff_mem.mp (h2 p hp)
theorem te_mx8 {R : List Nat → te_Q} {s0 : Nat} (h0 : s0 < 8) (hR : ∀ p, te_g8 (R p)) (e : List (List Nat)) : te_mx R s0 e < 8 :=
  Nat.lt_succ_of_le ((te_mx_le (m := 7) e).mpr ⟨by omega, fun p _ => Nat.le_of_lt_succ (hR p).1⟩)
theorem te_pk8 {R : List Nat → te_Q} (hR : ∀ p, te_g8 (R p)) (l : List Nat) : te_pk R l < 8 :=
  Nat.lt_succ_of_le ((te_pk_le (m := 7) l).mpr (fun o _ => Nat.le_of_lt_succ (hR _).2.2.2.2.1))
/-! different ones among a list of numbers -/
def te_dc : List Nat → Nat
  | [] => 0
  | a :: l => te_dc l + (if a ∈ l then 0 else 1)
theorem te_range1 (a : Nat) : ∀ N, (List.range N).countP (fun r => decide (r = a)) = if a < N then 1 else 0 := by
  intro N
  induction N with
  | zero => rfl
  | succ N ih =>
    rw [List.range_succ, List.countP_append, ih, List.countP_cons, List.countP_nil]
    simp only [decide_eq_true_eq]
    split <;> split <;> split <;> omega
theorem te_or1 (P Q : Nat → Prop) (hP : ∀ r, Decidable (P r)) (hQ : ∀ r, Decidable (Q r)) (hd : ∀ r, P r → ¬ Q r) : ∀ l : List Nat,
    l.countP (fun r => decide (P r ∨ Q r)) = l.countP (fun r => decide (P r)) + l.countP (fun r => decide (Q r)) := by
  intro l
  induction l with
  | nil => rfl
  | cons a l ih =>
    rw [List.countP_cons, List.countP_cons, List.countP_cons, ih]
    by_cases p : P a
    · have q := hd a p
      simp [p, q]
      omega
    · by_cases q : Q a
      · simp [p, q]
        omega
      · simp [p, q]
theorem te_dcr (N : Nat) : ∀ L : List Nat, (∀ a, a ∈ L → a < N) → (List.range N).countP (fun r => decide (r ∈ L)) = te_dc L := by
  intro L
  induction L with
  | nil =>
    intro _
    rw [te_dc, List.countP_eq_zero]
    intro a _
    simp
  | cons a L ih =>
    intro h
    have i := ih (fun b hb => h b (List.mem_cons_of_mem _ hb))
    rw [te_dc]
    by_cases c : a ∈ L
    · rw [if_pos c, ← i]
      refine List.countP_congr (fun r _ => ?_)
      rw [decide_eq_true_iff, decide_eq_true_iff, List.mem_cons]
      constructor
      · rintro (e | e)
        · rw [e]; exact c
        · exact e
      · exact Or.inr
    · rw [if_neg c, ← i]
      have k := te_or1 (fun r => r ∈ L) (fun r => r = a) (fun r => inferInstance) (fun r => inferInstance) (fun r hr e => c (e ▸ hr)) (List.range N)
      rw [te_range1, if_pos (h a (List.mem_cons_self ..))] at k
      rw [← k]
      refine List.countP_congr (fun r _ => ?_)
      rw [decide_eq_true_iff, decide_eq_true_iff, List.mem_cons]
      exact or_comm
/-! the sets of endings -/
def te_or : List Nat → Int32
  | [] => 0
  | h :: l => te_or l ||| ((1 : Int32) <<< (nI h &&& 31))
theorem te_or_mem : ∀ (l : List Nat) {h : Nat}, h ∈ l → te_or l ||| ((1 : Int32) <<< (nI h &&& 31)) = te_or l := by
  intro l
  induction l with
  | nil => intro h m; exact absurd m (List.not_mem_nil)
  | cons a l ih =>
    intro h m
    rw [te_or]
    rcases List.mem_cons.mp m with e | e
    · rw [e, Int32.or_assoc, Int32.or_self]
    · rw [Int32.or_assoc, Int32.or_comm ((1 : Int32) <<< (nI a &&& 31)), ← Int32.or_assoc, ih e]
theorem te_or_sub (l' : List Nat) : ∀ l : List Nat, (∀ h, h ∈ l → h ∈ l') → te_or l' ||| te_or l = te_or l' := by
  intro l
  induction l with
  | nil => intro _; rw [te_or, Int32.or_zero]
  | cons a l ih =>
    intro h
    rw [te_or, ← Int32.or_assoc, ih (fun b hb => h b (List.mem_cons_of_mem _ hb)), te_or_mem l' (h a (List.mem_cons_self ..))]
theorem te_or_eq {l l' : List Nat} (h : ∀ a, a ∈ l ↔ a ∈ l') : te_or l = te_or l' := by
  rw [← te_or_sub l l' (fun a => (h a).mpr), Int32.or_comm, te_or_sub l' l (fun a => (h a).mp)]
/-! the least -/
def te_ls : List Nat → Nat
  | [] => 999
  | a :: l => min (te_ls l) a
theorem te_ls_le : ∀ (l : List Nat) {a : Nat}, a ∈ l → te_ls l ≤ a := by
  intro l
  induction l with
  | nil => intro a m; exact absurd m (List.not_mem_nil)
  | cons b l ih =>
    intro a m
    rw [te_ls]
    rcases List.mem_cons.mp m with e | e
    · rw [e]; exact Nat.min_le_right _ _
    · exact Nat.le_trans (Nat.min_le_left _ _) (ih e)
theorem te_ls_mem : ∀ l : List Nat, te_ls l < 999 → te_ls l ∈ l := by
  intro l
  induction l with
  | nil => intro h; exact absurd h (by decide)
  | cons b l ih =>
    intro h
    rw [te_ls] at h ⊢
    rcases Nat.le_total (te_ls l) b with e | e
    · rw [Nat.min_eq_left e] at h ⊢
      exact List.mem_cons_of_mem _ (ih h)
    · rw [Nat.min_eq_right e]
      exact List.mem_cons_self ..
end
section
theorem te_sl : ∀ n, n < 32 → ((nI n &&& 31).toBitVec.smod 32).toNat = n := by decide +kernel
theorem te_get {n o : Nat} (hn : n < 2 ^ 31) (ho : o < 32) : (nI n >>> (nI o &&& 31)) &&& 7 = nI (n / 2 ^ o % 8) := by
  have h : n / 2 ^ o ≤ n := Nat.div_le_self _ _
  rw [pk_shrN hn _ o (te_sl o ho), pk_andN (by omega) 3 (by decide)]
theorem te_mask : ∀ o, o < 20 → ∀ i, i < 32 → (((7 : Int32) <<< (nI o &&& 31)) ^^^ (-1)).toBitVec.getLsbD i = !(decide (o ≤ i ∧ i < o + 3)) := by decide +kernel
theorem te_shb : ∀ y, y < 8 → ∀ o, o < 20 → ∀ i, i < 32 → (nI y <<< (nI o &&& 31)).toBitVec.getLsbD i = (decide (o ≤ i) && y.testBit (i - o)) := by decide +kernel
theorem te_nIb (n i : Nat) (hi : i < 32) : (nI n).toBitVec.getLsbD i = n.testBit i := by
  show (BitVec.ofNat 32 n).getLsbD i = _
  rw [BitVec.getLsbD_ofNat, decide_eq_true hi, Bool.true_and]
/-- a field of three bits is written -/
theorem te_set {E E' o lo f y hi : Nat} (ho : o < 20) (hlo : lo < 2 ^ o) (hf : f < 8) (hy : y < 8) (hE : E = 2 ^ o * (2 ^ 3 * hi + f) + lo) (hE' : E' = 2 ^ o * (2 ^ 3 * hi + y) + lo) :
    (nI E &&& (((7 : Int32) <<< (nI o &&& 31)) ^^^ (-1))) ||| (nI y <<< (nI o &&& 31)) = nI E' := by
  apply Int32.toBitVec_inj.1
  apply BitVec.eq_of_getLsbD_eq
  intro i hi'
  rw [Int32.toBitVec_or, BitVec.getLsbD_or, Int32.toBitVec_and, BitVec.getLsbD_and, te_mask o ho i hi', te_shb y hy o ho i hi', te_nIb _ _ hi', te_nIb _ _ hi', hE, hE',
    Nat.testBit_two_pow_mul_add _ hlo, Nat.testBit_two_pow_mul_add _ hlo]
  by_cases c : i < o
  · rw [if_pos c, if_pos c, decide_eq_false (show ¬ (o ≤ i ∧ i < o + 3) by omega), decide_eq_false (show ¬ o ≤ i by omega)]
    simp
  · rw [if_neg c, if_neg c, Nat.testBit_two_pow_mul_add _ (show f < 2 ^ 3 by omega), Nat.testBit_two_pow_mul_add _ (show y < 2 ^ 3 by omega), decide_eq_true (show o ≤ i by omega)]
    by_cases d : i < o + 3
    · rw [if_pos (by omega), if_pos (by omega), decide_eq_true (show o ≤ i ∧ i < o + 3 by omega)]
      simp
    · rw [if_neg (by omega), if_neg (by omega), decide_eq_false (show ¬ (o ≤ i ∧ i < o + 3) by omega), Nat.testBit_lt_two_pow (show y < 2 ^ (i - o) from Nat.lt_of_lt_of_le (show y < 2 ^ 3 by omega) (Nat.pow_le_pow_right (by omega) (by omega)))]
      simp
theorem te_cast {P : Int32 → Prop} {x y : Int32} (e : x = y) (h : P y) : P x := by rw [e]; exact h
/-- the class's state -/
def te_e (q : te_Q) : Nat := q.1 + 8 * q.2.1 + 512 * q.2.2.1 + 4096 * q.2.2.2.1
theorem te_e31 {q : te_Q} (h : te_g8 q) : te_e q < 32768 := by
  obtain ⟨a, b, c, d, _, _⟩ := h
  unfold te_e
  omega
def te_ix (i : Nat) : Nat := 3 * (i / 2) + i % 2
theorem te_ix9 {i : Nat} (h : i < 4) : te_ix i < 9 := by unfold te_ix; omega
theorem te_d1 : ∀ d, d < 11 → ∀ t, t < 3 → (nI d >>> ((2 * nI t) &&& 31)) &&& 3 = nI (d / 4 ^ t % 4) := by decide +kernel
theorem te_d2 : ∀ s, s < 4 → ∀ t, t < 3 → (nI s >>> (nI t &&& 31)) &&& 1 = nI (s / 2 ^ t % 2) := by decide +kernel
theorem te_d3 : ∀ s, s < 4 → ∀ t, t < 2 → s / 2 ^ t % 2 = 0 → nI s ||| ((1 : Int32) <<< (nI t &&& 31)) = nI (s + 2 ^ t) := by decide +kernel
theorem te_d4 : ∀ d, d < 11 → ∀ t, t < 2 → nI d + ((1 : Int32) <<< ((2 * nI t) &&& 31)) = nI (d + 4 ^ t) := by decide +kernel
theorem te_m3 (p : Nat) : 3 * nI p = nI (3 * p) := pk_mul 3 p
theorem te_e0 {q : te_Q} (h : te_g8 q) : te_e q / 2 ^ 0 % 8 = q.1 := by
  obtain ⟨a, b, c, d, _, _⟩ := h
  unfold te_e
  omega
theorem te_e3 {q : te_Q} (h : te_g8 q) : te_e q / 2 ^ 3 % 8 = q.2.1 := by
  obtain ⟨a, b, c, d, _, _⟩ := h
  unfold te_e
  omega
theorem te_e6 {q : te_Q} (h : te_g8 q) : te_e q / 2 ^ 6 % 8 = 0 := by
  obtain ⟨a, b, c, d, _, _⟩ := h
  unfold te_e
  omega
theorem te_e9 {q : te_Q} (h : te_g8 q) : te_e q / 2 ^ 9 % 8 = q.2.2.1 := by
  obtain ⟨a, b, c, d, _, _⟩ := h
  unfold te_e
  omega
theorem te_e12 {q : te_Q} (h : te_g8 q) : te_e q / 2 ^ 12 % 8 = q.2.2.2.1 := by
  obtain ⟨a, b, c, d, _, _⟩ := h
  unfold te_e
  omega
theorem te_eV {q : te_Q} (h : te_g8 q) {p : Nat} (hp : p < 2) : te_e q / 2 ^ (3 * p) % 8 = if p = 0 then q.1 else q.2.1 := by
  have e : p = 0 ∨ p = 1 := by omega
  rcases e with rfl | rfl
  · exact te_e0 h
  · exact te_e3 h
theorem te_eH {q : te_Q} (h : te_g8 q) {t : Nat} (ht : t < 2) : te_e q / 2 ^ (9 + 3 * t) % 8 = if t = 0 then q.2.2.1 else q.2.2.2.1 := by
  have e : t = 0 ∨ t = 1 := by omega
  rcases e with rfl | rfl
  · exact te_e9 h
  · exact te_e12 h
/-- an accumulator is written -/
theorem te_setH {q : te_Q} (h : te_g8 q) {t y k p n : Nat} (ht : t < 2) (hy : y < 8) (hk : k = 0) (hv : y = if p = 0 then q.1 else q.2.1) :
    (nI (te_e q) &&& (((7 : Int32) <<< (nI (9 + 3 * t) &&& 31)) ^^^ (-1))) ||| (nI y <<< (nI (9 + 3 * t) &&& 31)) = nI (te_e (te_f k p n t q)) := by
  obtain ⟨v0, v1, g0, g1, pk⟩ := q
  obtain ⟨a, b, c, d, _, _⟩ := h
  dsimp only at a b c d hv
  have e : t = 0 ∨ t = 1 := by omega
  subst hk
  rcases e with rfl | rfl
  · refine te_set (o := 9) (lo := v0 + 8 * v1) (f := g0) (hi := g1) (by omega) (by omega) c hy (by unfold te_e; dsimp only; omega) ?_
    rw [hv]
    unfold te_e te_f
    simp only [if_pos]
    omega
  · refine te_set (o := 12) (lo := v0 + 8 * v1 + 512 * g0) (f := g1) (hi := 0) (by omega) (by omega) d hy (by unfold te_e; dsimp only; omega) ?_
    rw [hv]
    unfold te_e te_f
    simp only [if_pos]
    rw [if_neg (by decide)]
    dsimp only
    omega
/-- a variable is written -/
theorem te_setV {q : te_Q} (h : te_g8 q) {t y k p n : Nat} (hp : p < 2) (hy : y < 8) (hk : k ≠ 0) (hv : y = te_now k n (if t = 0 then q.2.2.1 else q.2.2.2.1) (if p = 0 then q.1 else q.2.1)) :
    (nI (te_e q) &&& (((7 : Int32) <<< (nI (3 * p) &&& 31)) ^^^ (-1))) ||| (nI y <<< (nI (3 * p) &&& 31)) = nI (te_e (te_f k p n t q)) := by
  obtain ⟨v0, v1, g0, g1, pk⟩ := q
  obtain ⟨a, b, c, d, _, _⟩ := h
  dsimp only at a b c d hv
  have e : p = 0 ∨ p = 1 := by omega
  rcases e with rfl | rfl
  · refine te_set (o := 0) (lo := 0) (f := v0) (hi := v1 + 64 * g0 + 512 * g1) (by omega) (by omega) a hy (by unfold te_e; dsimp only; omega) ?_
    unfold te_f
    dsimp only
    rw [if_neg hk, if_pos rfl]
    rw [if_pos rfl] at hv
    rw [← hv]
    unfold te_e
    dsimp only
    omega
  · refine te_set (o := 3) (lo := v0) (f := v1) (hi := 8 * g0 + 64 * g1) (by omega) (by omega) b hy (by unfold te_e; dsimp only; omega) ?_
    unfold te_f
    dsimp only
    rw [if_neg hk, if_neg (by decide)]
    rw [if_neg (show ¬ (1 : Nat) = 0 by decide)] at hv
    rw [← hv]
    unfold te_e
    dsimp only
    omega
theorem te_add7 (a b : Nat) (h : a + b < 2 ^ 31) : (nI a + nI b) &&& 7 = nI ((a + b) % 8) := by
  rw [nI_add, pk_andN (by omega) 3 (by decide)]
end
section
/-- what the steps put in: three arrays, the sizes -/
def te_Fx (x : Nat → Nat) (a1 a2 a3 a4 : Nat → Int32) : Prop := a1 0 = nI 2 ∧ a1 1 = nI 2 ∧ a1 2 = nI 0 ∧ ∀ i, i < 4 → a2 (te_ix i) = nI (te_K x i) ∧ a3 (te_ix i) = nI (te_P x i) ∧ a4 (te_ix i) = nI (te_N x i)
theorem te_K4 (x : Nat → Nat) (i : Nat) : te_K x i < 4 := by unfold te_K; omega
theorem te_P2 (x : Nat → Nat) (i : Nat) : te_P x i < 2 := by unfold te_P; omega
theorem te_ixd : ∀ i, i < 4 → nI (te_ix i) / 3 = nI (i / 2) := by decide +kernel
theorem te_nextOf {post : Int32 → Prop} {f0 f1 f2 f3 f4 f5 f6 : Int32} {a1 a2 a3 a4 a5 a6 a7 a8 a9 a10 a11 a12 a13 : Nat → Int32} {x : Nat → Nat} (F : te_Fx x a1 a2 a3 a4) {p : List Nat} {t : Nat} (ht : t < 3) (h0 : te_c0 p ≤ 2) (h1 : te_c1 p ≤ 2) {z : Int32} (hz : z = nI (te_c0 p + 4 * te_c1 p))
    (H9 : te_nx p t = 9 → post (-1)) (H : te_nx p t < 4 → te_nx p t / 2 = t → post (nI (te_ix (te_nx p t)))) : wpX_nextOf post (f0, f1, f2, f3, f4, f5, f6, a1, a2, a3, a4, a5, a6, a7, a8, a9, a10, a11, a12, a13) (nI t) z := by
  subst hz
  unfold wpX_nextOf
  dsimp only
  refine nm_r (te_d1 _ (by omega) t ht) ⟨pk_in t 3 ht, ?_⟩
  rw [nI_clamp (show t < 2 ^ 31 by omega)]
  have e : t = 0 ∨ t = 1 ∨ t = 2 := by omega
  rcases e with rfl | rfl | rfl
  · rw [F.1, show (te_c0 p + 4 * te_c1 p) / 4 ^ 0 % 4 = te_c0 p from (show (te_c0 p + 4 * te_c1 p) / 1 % 4 = te_c0 p by omega)]
    refine pk_le 2 (te_c0 p) (fun z => H9 (by unfold te_nx; rw [if_pos rfl, if_neg (by omega)])) (fun z => ?_)
    have n : te_nx p 0 = te_c0 p := by unfold te_nx; rw [if_pos rfl, if_pos z]
    have h := H (by omega) (by omega)
    rw [n] at h
    refine te_cast (P := post) ?_ h
    rw [te_m3, nI_add]
    congr 1
    unfold te_ix
    omega
  · rw [F.2.1, show (te_c0 p + 4 * te_c1 p) / 4 ^ 1 % 4 = te_c1 p from (show (te_c0 p + 4 * te_c1 p) / 4 % 4 = te_c1 p by omega)]
    refine pk_le 2 (te_c1 p) (fun z => H9 (by unfold te_nx; rw [if_neg (by decide), if_pos rfl, if_neg (by omega)])) (fun z => ?_)
    have n : te_nx p 1 = 2 + te_c1 p := by unfold te_nx; rw [if_neg (by decide), if_pos rfl, if_pos z]
    have h := H (by omega) (by omega)
    rw [n] at h
    refine te_cast (P := post) ?_ h
    rw [te_m3, nI_add]
    congr 1
    unfold te_ix
    omega
  · rw [F.2.2.1]
    refine pk_le 0 ((te_c0 p + 4 * te_c1 p) / 4 ^ 2 % 4) (fun _ => H9 (by unfold te_nx; rw [if_neg (by decide), if_neg (by decide)])) (fun z => absurd z (Nat.not_lt_zero _)) (ha := by decide) (hb := ?_)
    exact Nat.lt_of_lt_of_le (Nat.mod_lt _ (by decide)) (by decide)
theorem te_canDo {post : Int32 → Prop} {f0 f1 f2 f3 f4 f5 f6 : Int32} {a1 a2 a3 a4 a5 a6 a7 a8 a9 a10 a11 a12 a13 : Nat → Int32} {x : Nat → Nat} (F : te_Fx x a1 a2 a3 a4) {i : Nat} (hi : i < 4) {z : Int32} (H : post 1) : wpX_canDo post (f0, f1, f2, f3, f4, f5, f6, a1, a2, a3, a4, a5, a6, a7, a8, a9, a10, a11, a12, a13) (nI (te_ix i)) z := by
  have h9 := te_ix9 hi
  have hk := te_K4 x i
  unfold wpX_canDo
  dsimp only
  refine ⟨pk_in (te_ix i) 9 h9, ?_⟩
  rw [nI_clamp (show te_ix i < 2 ^ 31 by omega), (F.2.2.2 i hi).1]
  exact pk_eq (te_K x i) 4 (fun z => absurd z (by omega)) (fun _ => H)
theorem te_t87 {post : Int32 → Prop} {f0 f1 f2 f3 f4 f5 f6 : Int32} {a1 a2 a3 a4 a5 a6 a7 a8 a9 a10 a11 a12 a13 : Nat → Int32} {x : Nat → Nat} (F : te_Fx x a1 a2 a3 a4) {i j : Nat} (hi : i < 4) (hj : j < 4) {z0 : Int32}
    (H1 : te_P x i = te_P x j → z0 = 0 → post 1) (H0 : te_P x i = te_P x j → ¬ z0 = 0 → post 0) (H0' : ¬ te_P x i = te_P x j → post 0) : wX_areTied_87 post (nI (te_ix i)) (nI (te_ix j)) 0 1 z0 f0 f1 f2 f3 f4 f5 f6 a1 a2 a3 a4 a5 a6 a7 a8 a9 a10 a11 a12 a13 := by
  have hi9 := te_ix9 hi
  have hj9 := te_ix9 hj
  have pi := te_P2 x i
  have pj := te_P2 x j
  unfold wX_areTied_87
  refine ⟨pk_in (te_ix i) 9 hi9, pk_in (te_ix j) 9 hj9, ?_⟩
  rw [nI_clamp (show te_ix i < 2 ^ 31 by omega), nI_clamp (show te_ix j < 2 ^ 31 by omega), (F.2.2.2 i hi).2.1, (F.2.2.2 j hj).2.1]
  exact pk_eq (te_P x i) (te_P x j) (fun e => br_t rfl (br_f (by decide) (br_c (H1 e) (H0 e)))) H0'
theorem te_areTied {post : Int32 → Prop} {f0 f1 f2 f3 f4 f5 f6 : Int32} {a1 a2 a3 a4 a5 a6 a7 a8 a9 a10 a11 a12 a13 : Nat → Int32} {x : Nat → Nat} (F : te_Fx x a1 a2 a3 a4) {i j : Nat} (hi : i < 4) (hj : j < 4)
    (H1 : te_ti x i j = true → post 1) (H0 : te_ti x i j = false → post 0) : wpX_areTied post (f0, f1, f2, f3, f4, f5, f6, a1, a2, a3, a4, a5, a6, a7, a8, a9, a10, a11, a12, a13) (nI (te_ix i)) (nI (te_ix j)) := by
  have hi9 := te_ix9 hi
  have hj9 := te_ix9 hj
  have ki := te_K4 x i
  have kj := te_K4 x j
  unfold wpX_areTied
  dsimp only
  refine ⟨by decide, by decide, ?_⟩
  rw [te_ixd i hi, te_ixd j hj]
  refine pk_eq (i / 2) (j / 2) (fun e => H1 (by unfold te_ti; rw [e]; simp)) (fun e => ⟨pk_in (te_ix i) 9 hi9, ?_⟩)
  have ci : (nI (te_ix i)).toNatClampNeg = te_ix i := nI_clamp (by omega)
  have cj : (nI (te_ix j)).toNatClampNeg = te_ix j := nI_clamp (by omega)
  have k1 : a2 (nI (te_ix i)).toNatClampNeg = nI (te_K x i) := by rw [ci]; exact (F.2.2.2 i hi).1
  have k2 : a2 (nI (te_ix j)).toNatClampNeg = nI (te_K x j) := by rw [cj]; exact (F.2.2.2 j hj).1
  have big : wX_areTied_62 post (nI (te_ix i)) (nI (te_ix j)) 0 1 f0 f1 f2 f3 f4 f5 f6 a1 a2 a3 a4 a5 a6 a7 a8 a9 a10 a11 a12 a13 := by
    unfold wX_areTied_62
    refine ⟨pk_in (te_ix i) 9 hi9, ?_⟩
    rw [k1, k2]
    refine pk_eq (te_K x i) 0 (fun z1 => ⟨pk_in (te_ix j) 9 hj9, pk_eq (te_K x j) 0 (fun z2 => ?_) (fun z2 => ?_)⟩) (fun z1 => ?_)
    · refine te_t87 F hi hj (fun _ z => absurd z (by decide)) (fun _ _ => H0 ?_) (fun g => H0 ?_)
      · unfold te_ti
        simp [e, z1, z2]
      · unfold te_ti
        simp [e, g]
    · unfold wX_areTied_86
      refine te_t87 F hi hj (fun g _ => H1 ?_) (fun _ z => absurd rfl z) (fun g => H0 ?_)
      · unfold te_ti
        simp [g, z2]
      · unfold te_ti
        simp [e, g]
    · unfold wX_areTied_86
      refine te_t87 F hi hj (fun g _ => H1 ?_) (fun _ z => absurd rfl z) (fun g => H0 ?_)
      · unfold te_ti
        simp [g, z1]
      · unfold te_ti
        simp [e, g]
  rw [k1, k2]
  refine pk_lt (te_K x i) 4 (fun _ => ?_) (fun z => absurd z (by omega))
  unfold wX_areTied_35 wX_areTied_36
  refine ⟨pk_in (te_ix i) 9 hi9, ?_⟩
  rw [k1, k2]
  exact pk_le 4 (te_K x i) (fun z => absurd z (by omega)) (fun _ => ⟨pk_in (te_ix j) 9 hj9, pk_le 4 (te_K x j) (fun z => absurd z (by omega)) (fun _ => big)⟩)
theorem te_after {post : Int32 → Prop} {f0 f1 f2 f3 f4 f5 f6 : Int32} {a1 a2 a3 a4 a5 a6 a7 a8 a9 a10 a11 a12 a13 : Nat → Int32} {x : Nat → Nat} (hx : ∀ i, x i < 64) (F : te_Fx x a1 a2 a3 a4) {i : Nat} (hi : i < 4) {q : te_Q} (hq : te_g8 q)
    (H : post (nI (te_e (te_f (te_K x i) (te_P x i) (te_N x i) (i / 2) q)))) : wpX_after post (f0, f1, f2, f3, f4, f5, f6, a1, a2, a3, a4, a5, a6, a7, a8, a9, a10, a11, a12, a13) (nI (te_ix i)) (nI (te_e q)) := by
  have h9 := te_ix9 hi
  have kk := te_K4 x i
  have pp := te_P2 x i
  have nn : te_N x i < 8 := by have := hx i; unfold te_N; omega
  have tt : i / 2 < 2 := by omega
  have e31 := te_e31 hq
  have ci : (nI (te_ix i)).toNatClampNeg = te_ix i := nI_clamp (by omega)
  have k2 : a2 (nI (te_ix i)).toNatClampNeg = nI (te_K x i) := by rw [ci]; exact (F.2.2.2 i hi).1
  have k3 : a3 (nI (te_ix i)).toNatClampNeg = nI (te_P x i) := by rw [ci]; exact (F.2.2.2 i hi).2.1
  have k4 : a4 (nI (te_ix i)).toNatClampNeg = nI (te_N x i) := by rw [ci]; exact (F.2.2.2 i hi).2.2
  have vin : vp_in (nI (te_ix i)) 9 := pk_in (te_ix i) 9 h9
  have v8 : (if te_P x i = 0 then q.1 else q.2.1) < 8 := by
    split
    · exact hq.1
    · exact hq.2.1
  have o8 : (if i / 2 = 0 then q.2.2.1 else q.2.2.2.1) < 8 := by
    split
    · exact hq.2.2.1
    · exact hq.2.2.2.1
  unfold wpX_after
  dsimp only
  rw [k2, k3, k4]
  refine ⟨by decide, nm_r (te_ixd i hi) ⟨vin, nm_r (te_m3 (te_P x i)) (nm_r (show 9 + 3 * nI (i / 2) = nI (9 + 3 * (i / 2)) by rw [te_m3]; exact nI_add 9 _) ?_)⟩⟩
  refine nm_r (e' := nI (if te_P x i = 0 then q.1 else q.2.1)) (by rw [te_get (by omega) (by omega), te_eV hq pp]) ?_
  refine nm_r (e' := nI (if i / 2 = 0 then q.2.2.1 else q.2.2.2.1)) (by rw [te_get (by omega) (by omega), te_eH hq tt]) ⟨vin, nm_e ?_⟩
  refine pk_eq (te_K x i) 0 (fun z => te_cast (P := post) (te_setH hq tt v8 z rfl) H) (fun z0 => ?_)
  refine pk_eq (te_K x i) 1 (fun z => ⟨vin, te_cast (P := post) (te_setV hq pp nn z0 (by unfold te_now; rw [if_pos z])) H⟩) (fun z1 => ?_)
  refine pk_eq (te_K x i) 2 (fun z => ⟨vin, te_cast (P := post) ?_ H⟩) (fun z2 => ?_)
  · rw [te_add7 _ _ (by omega)]
    exact te_setV hq pp (Nat.mod_lt _ (by decide)) z0 (by unfold te_now; rw [if_neg z1, if_pos z])
  refine pk_eq (te_K x i) 3 (fun z => ⟨vin, te_cast (P := post) ?_ H⟩) (fun z3 => absurd kk (by omega))
  rw [te_add7 _ _ (by omega)]
  exact te_setV hq pp (Nat.mod_lt _ (by decide)) z0 (by unfold te_now; rw [if_neg z1, if_neg z2])
end
section
/-- one bit of the sleepers that go on sleeping -/
def te_bit (x : Nat → Nat) (p : List Nat) (sl i t : Nat) : Nat := if sl / 2 ^ t % 2 = 1 ∧ te_nx p t < 9 ∧ te_ti x (te_nx p t) i = false then 2 ^ t else 0
theorem te_e52s {post : St2 → Prop} {f0 f1 f2 f3 f4 f5 f6 : Int32} {a1 a2 a3 a4 a5 a6 a7 a8 a9 a10 a11 a12 a13 : Nat → Int32} {x : Nat → Nat} (F : te_Fx x a1 a2 a3 a4) {d i sl n z t : Nat} {p : List Nat} (hd : d < 10) (hi : i < 4) (hsl : sl < 4) (hc0 : te_c0 p ≤ 2) (hc1 : te_c1 p ≤ 2)
    (h7 : a7 d = nI (te_c0 p + 4 * te_c1 p)) (h8 : a8 d = nI sl) (ht : t < 3) (hz : z < 2 ^ t) (hz4 : z < 4)
    (H : wX_enter_52 post (nI d) (nI (te_ix i)) f0 f1 f2 f3 f4 f5 f6 a1 a2 a3 a4 a5 a6 a7 a8 a9 a10 a11 a12 a13 n (nI (z + te_bit x p sl i t)) (nI (t + 1))) :
    wX_enter_52 post (nI d) (nI (te_ix i)) f0 f1 f2 f3 f4 f5 f6 a1 a2 a3 a4 a5 a6 a7 a8 a9 a10 a11 a12 a13 (n + 1) (nI z) (nI t) := by
  have cd : (nI d).toNatClampNeg = d := nI_clamp (by omega)
  refine pk_le 3 t (fun z => absurd z (by omega)) (fun _ => ⟨pk_in d 11 (by omega), ?_⟩)
  rw [cd, h7, h8]
  have no : ∀ P : Prop, (te_bit x p sl i t = 0 → P) → ¬ (sl / 2 ^ t % 2 = 1 ∧ te_nx p t < 9 ∧ te_ti x (te_nx p t) i = false) → P := fun P f g => f (by unfold te_bit; rw [if_neg g])
  have H0 : te_bit x p sl i t = 0 → wX_enter_52 post (nI d) (nI (te_ix i)) f0 f1 f2 f3 f4 f5 f6 a1 a2 a3 a4 a5 a6 a7 a8 a9 a10 a11 a12 a13 n (nI z) (nI (t + 1)) := fun e => by
    rw [e] at H
    exact H
  have s2 : sl / 2 ^ t % 2 < 2 := Nat.mod_lt _ (by decide)
  refine te_nextOf F ht hc0 hc1 rfl (fun h9 => ⟨pk_in d 11 (by omega), ?_⟩) (fun h4 ht2 => ⟨pk_in d 11 (by omega), ?_⟩)
  · refine pk_eq (sl / 2 ^ t % 2) 1 (fun _ => br_t (by decide) (nm_r (nI_1 t) (no _ H0 (fun g => ?_)))) (fun _ => nm_r (nI_1 t) (no _ H0 (fun g => ?_))) (hx := te_d2 sl hsl t ht)
    · omega
    · omega
  · refine pk_eq (sl / 2 ^ t % 2) 1 (fun s1 => br_f (nI_pos (by have := te_ix9 h4; omega)) ?_) (fun s1 => nm_r (nI_1 t) (no _ H0 (fun g => s1 g.1))) (hx := te_d2 sl hsl t ht)
    refine te_areTied F h4 hi (fun e => br_f (by decide) (nm_r (nI_1 t) (no _ H0 (fun g => ?_)))) (fun e => br_t rfl ?_)
    · rw [e] at g
      exact absurd g.2.2 (by decide)
    · have b : te_bit x p sl i t = 2 ^ t := by
        unfold te_bit
        rw [if_pos ⟨s1, by omega, e⟩]
      rw [b] at H
      have t2 : t < 2 := by
        have : te_nx p t / 2 < 2 := by omega
        omega
      have zz : z / 2 ^ t % 2 = 0 := by rw [Nat.div_eq_of_lt hz]
      exact nm_r (te_d3 z hz4 t t2 zz) (nm_r (nI_1 t) H)
theorem te_e139 {post : St2 → Prop} {f0 f1 f2 f3 f4 f5 f6 : Int32} {a1 a2 a3 a4 a5 a6 a7 a8 a9 a10 a11 a12 a13 : Nat → Int32} {d m : Nat} {q : te_Q} (hd : d < 10) (hq : te_g8 q) (hm : m < 8) (h6 : a6 (d + 1) = nI (te_e q)) (h12 : a12 0 = nI m)
    (H : ∀ b : Nat → Int32, b 0 = nI (max m q.1) → post (f0, f1, f2, f3, f4, f5, f6, a1, a2, a3, a4, a5, a6, a7, a8, a9, a10, a11, b, a13)) : ∃ n, wX_enter_139 post (nI d) f0 f1 f2 f3 f4 f5 f6 n 0 a1 a2 a3 a4 a5 a6 a7 a8 a9 a10 a11 a12 a13 := by
  have e31 := te_e31 hq
  have q8 := hq.1
  refine pk_loop (fun n i s => wX_enter_139 post (nI d) f0 f1 f2 f3 f4 f5 f6 n (nI i) a1 a2 a3 a4 a5 a6 a7 a8 a9 a10 a11 s a13) (fun i s => s 0 = if i = 0 then nI m else nI (max m q.1)) 3 0 a12 (by omega) h12
    (fun n s h => pk_le 3 3 (fun _ => H s h) (fun z => absurd z (by omega))) (fun n i s hi h hw => ?_)
  refine pk_le 3 i (fun z => absurd z (by omega)) (fun _ => ⟨pk_in (d + 1) 11 (by omega) (hx := nI_1 d), ?_⟩)
  have ci : (nI i).toNatClampNeg = i := nI_clamp (by omega)
  refine nm_r (e' := nI (te_e q / 2 ^ (3 * i) % 8)) ?_ ⟨pk_in i 3 hi, ?_⟩
  · rw [nI_1, nI_clamp (show d + 1 < 2 ^ 31 by omega), h6, te_m3, te_get (by omega) (by omega)]
  rw [ci]
  by_cases i0 : i = 0
  · subst i0
    have h' : s 0 = nI m := h
    rw [h', te_e0 hq]
    refine pk_le q.1 m (fun g => ⟨pk_in 0 3 hi, pk_in 0 3 hi, nm_e (nm_r (nI_1 0) (hw _ ?_))⟩) (fun g => ⟨pk_in 0 3 hi, nm_e (nm_r (nI_1 0) (hw _ ?_))⟩)
    · show upd s 0 (nI m) 0 = nI (max m q.1)
      rw [pk_us, Nat.max_eq_left g]
    · show upd s 0 (nI q.1) 0 = nI (max m q.1)
      rw [pk_us, Nat.max_eq_right (by omega)]
  · have h' : s 0 = nI (max m q.1) := by rw [h, if_neg i0]
    have g : ∀ y : Int32, upd s i y 0 = if i + 1 = 0 then nI m else nI (max m q.1) := fun y => by
      rw [pk_un (fun z => i0 z.symm), if_neg (by omega), h']
    exact br_c (fun _ => ⟨pk_in i 3 hi, pk_in i 3 hi, nm_e (nm_r (nI_1 i) (hw _ (g _)))⟩) (fun _ => ⟨pk_in i 3 hi, nm_e (nm_r (nI_1 i) (hw _ (g _)))⟩)
theorem te_st_bit {x : Nat → Nat} {p : List Nat} {sl i : Nat} (hi : i < 4) (h0 : te_c0 p ≤ 2) (h1 : te_c1 p ≤ 2) (hsl : sl < 4) :
    te_bit x p sl i 0 + te_bit x p sl i 1 + te_bit x p sl i 2 = te_st (te_TX x) p sl i := by
  have b2 : te_bit x p sl i 2 = 0 := by
    unfold te_bit
    rw [if_neg (fun g => ?_)]
    have := g.1
    have e : sl / 2 ^ 2 = 0 := Nat.div_eq_of_lt (by omega)
    rw [e] at this
    omega
  rw [b2]
  unfold te_bit te_st
  have n0 : te_nx p 0 < 9 → te_nx p 0 < 4 := by unfold te_nx; rw [if_pos rfl]; split <;> omega
  have n1 : te_nx p 1 < 9 → te_nx p 1 < 4 := by unfold te_nx; rw [if_neg (by decide), if_pos rfl]; split <;> omega
  have c0 : (sl / 2 ^ 0 % 2 = 1 ∧ te_nx p 0 < 9 ∧ te_ti x (te_nx p 0) i = false) ↔ (sl % 2 = 1 ∧ te_nx p 0 < 9 ∧ te_TX x (te_nx p 0) i = false) := by
    constructor
    · rintro ⟨a, b, c⟩
      exact ⟨by simpa using a, b, by rw [te_TXe x _ _ (n0 b) hi]; exact c⟩
    · rintro ⟨a, b, c⟩
      exact ⟨by simpa using a, b, by rw [← te_TXe x _ _ (n0 b) hi]; exact c⟩
  have c1 : (sl / 2 ^ 1 % 2 = 1 ∧ te_nx p 1 < 9 ∧ te_ti x (te_nx p 1) i = false) ↔ (sl / 2 % 2 = 1 ∧ te_nx p 1 < 9 ∧ te_TX x (te_nx p 1) i = false) := by
    constructor
    · rintro ⟨a, b, c⟩
      exact ⟨by simpa using a, b, by rw [te_TXe x _ _ (n1 b) hi]; exact c⟩
    · rintro ⟨a, b, c⟩
      exact ⟨by simpa using a, b, by rw [← te_TXe x _ _ (n1 b) hi]; exact c⟩
  have i0 : (if sl / 2 ^ 0 % 2 = 1 ∧ te_nx p 0 < 9 ∧ te_ti x (te_nx p 0) i = false then 2 ^ 0 else 0) = (if sl % 2 = 1 ∧ te_nx p 0 < 9 ∧ te_TX x (te_nx p 0) i = false then 1 else 0) := by
    by_cases g : sl % 2 = 1 ∧ te_nx p 0 < 9 ∧ te_TX x (te_nx p 0) i = false
    · rw [if_pos g, if_pos (c0.mpr g)]
    · rw [if_neg g, if_neg (fun k => g (c0.mp k))]
  have i1 : (if sl / 2 ^ 1 % 2 = 1 ∧ te_nx p 1 < 9 ∧ te_ti x (te_nx p 1) i = false then 2 ^ 1 else 0) = (if sl / 2 % 2 = 1 ∧ te_nx p 1 < 9 ∧ te_TX x (te_nx p 1) i = false then 2 else 0) := by
    by_cases g : sl / 2 % 2 = 1 ∧ te_nx p 1 < 9 ∧ te_TX x (te_nx p 1) i = false
    · rw [if_pos g, if_pos (c1.mpr g)]
    · rw [if_neg g, if_neg (fun k => g (c1.mp k))]
  rw [i0, i1, Nat.add_zero]
theorem te_bit_le (x : Nat → Nat) (p : List Nat) (sl i t : Nat) : te_bit x p sl i t ≤ 2 ^ t := by
  unfold te_bit
  split
  · exact Nat.le_refl _
  · exact Nat.zero_le _
theorem te_enter {post : St2 → Prop} {f0 f1 f2 f3 f4 f5 f6 : Int32} {a1 a2 a3 a4 a5 a6 a7 a8 a9 a10 a11 a12 a13 : Nat → Int32} {x : Nat → Nat} (hx : ∀ i, x i < 64) (F : te_Fx x a1 a2 a3 a4) {d i sl t m : Nat} {p : List Nat} {q : te_Q} (hd : d < 10) (hi : i < 4) (ht : i / 2 = t) (hsl : sl < 4) (hc0 : te_c0 p ≤ 2) (hc1 : te_c1 p ≤ 2)
    (hq : te_g8 q) (hm : m < 8) (h6 : a6 d = nI (te_e q)) (h7 : a7 d = nI (te_c0 p + 4 * te_c1 p)) (h8 : a8 d = nI sl) (h12 : a12 0 = nI m)
    (H : ∀ b : Nat → Int32, b 0 = nI (max m (te_f (te_K x i) (te_P x i) (te_N x i) (i / 2) q).1) →
      post (f0, f1, f2, f3, f4, f5, f6, a1, a2, a3, a4, a5, upd a6 (d + 1) (nI (te_e (te_f (te_K x i) (te_P x i) (te_N x i) (i / 2) q))), upd a7 (d + 1) (nI (te_c0 p + 4 * te_c1 p + 4 ^ t)), upd a8 (d + 1) (nI (te_st (te_TX x) p sl i)), upd a9 (d + 1) 0, upd a10 d (nI (te_ix i)), a11, b, a13)) :
    wpX_enter post (f0, f1, f2, f3, f4, f5, f6, a1, a2, a3, a4, a5, a6, a7, a8, a9, a10, a11, a12, a13) (nI d) (nI t) (nI (te_ix i)) := by
  have cd : (nI d).toNatClampNeg = d := nI_clamp (by omega)
  have cd1 : (nI (d + 1)).toNatClampNeg = d + 1 := nI_clamp (by omega)
  have t2 : t < 2 := by omega
  have hq' : te_g8 (te_f (te_K x i) (te_P x i) (te_N x i) (i / 2) q) := te_f8 (by have := hx i; unfold te_N; omega) hq
  unfold wpX_enter
  dsimp only
  refine ⟨pk_in d 11 (by omega), ?_⟩
  rw [nI_1, cd, cd1, h6, h7]
  refine te_after hx F hi hq ?_
  refine ⟨pk_in (d + 1) 11 (by omega), nm_e ⟨pk_in d 11 (by omega), pk_in (d + 1) 11 (by omega), nm_r (congrArg (upd a7 (d + 1)) (te_d4 _ (by omega) t t2)) ⟨pk_in d 10 hd, nm_e ⟨4, ?_⟩⟩⟩⟩
  have g7 : upd a7 (d + 1) (nI (te_c0 p + 4 * te_c1 p + 4 ^ t)) d = nI (te_c0 p + 4 * te_c1 p) := by rw [pk_un (by omega), h7]
  have b0 := te_bit_le x p sl i 0
  have b1 := te_bit_le x p sl i 1
  refine te_e52s (z := 0) (t := 0) F hd hi hsl hc0 hc1 g7 h8 (by decide) (by decide) (by decide) ?_
  refine te_e52s (z := 0 + te_bit x p sl i 0) (t := 1) F hd hi hsl hc0 hc1 g7 h8 (by decide) (by omega) (by omega) ?_
  refine te_e52s (z := 0 + te_bit x p sl i 0 + te_bit x p sl i 1) (t := 2) F hd hi hsl hc0 hc1 g7 h8 (by decide) (by omega) (by omega) ?_
  have es : 0 + te_bit x p sl i 0 + te_bit x p sl i 1 + te_bit x p sl i 2 = te_st (te_TX x) p sl i := by
    rw [Nat.zero_add]
    exact te_st_bit hi hc0 hc1 hsl
  rw [es]
  refine pk_le 3 3 (fun _ => ⟨pk_in (d + 1) 11 (by omega) (hx := nI_1 d), ?_⟩) (fun z => absurd z (by omega))
  rw [nI_1, cd1]
  refine nm_e ⟨pk_in (d + 1) 11 (by omega), nm_e ?_⟩
  exact te_e139 hd hq' hm (by rw [pk_us]) h12 H
theorem te_isEndS {post : Int32 → Prop} {f0 f1 f2 f3 f4 f5 f6 : Int32} {a1 a2 a3 a4 a5 a6 a7 a8 a9 a10 a11 a12 a13 : Nat → Int32} {x : Nat → Nat} (F : te_Fx x a1 a2 a3 a4) {d n t : Nat} {p : List Nat} (hd : d < 10) (hc0 : te_c0 p ≤ 2) (hc1 : te_c1 p ≤ 2)
    (h7 : a7 d = nI (te_c0 p + 4 * te_c1 p)) (ht : t < 3) (H : te_nx p t = 9 → wX_isEnd_2 post (nI d) f0 f1 f2 f3 f4 f5 f6 a1 a2 a3 a4 a5 a6 a7 a8 a9 a10 a11 a12 a13 n (nI (t + 1))) (H0 : te_nx p t < 4 → post 0) : wX_isEnd_2 post (nI d) f0 f1 f2 f3 f4 f5 f6 a1 a2 a3 a4 a5 a6 a7 a8 a9 a10 a11 a12 a13 (n + 1) (nI t) := by
  have cd : (nI d).toNatClampNeg = d := nI_clamp (by omega)
  refine pk_le 3 t (fun z => absurd z (by omega)) (fun _ => ⟨pk_in d 11 (by omega), ?_⟩)
  rw [cd, h7]
  refine te_nextOf F ht hc0 hc1 rfl (fun h9 => br_t (by decide) (nm_r (nI_1 t) (H h9))) (fun h4 ht2 => br_f (nI_pos (by have := te_ix9 h4; omega)) ⟨pk_in d 11 (by omega), te_canDo F h4 (br_f (by decide) (H0 h4))⟩)
theorem te_isEnd {post : Int32 → Prop} {f0 f1 f2 f3 f4 f5 f6 : Int32} {a1 a2 a3 a4 a5 a6 a7 a8 a9 a10 a11 a12 a13 : Nat → Int32} {x : Nat → Nat} (F : te_Fx x a1 a2 a3 a4) {d : Nat} {p : List Nat} (hd : d < 10) (hc0 : te_c0 p ≤ 2) (hc1 : te_c1 p ≤ 2)
    (h7 : a7 d = nI (te_c0 p + 4 * te_c1 p)) (H1 : te_c0 p = 2 ∧ te_c1 p = 2 → post 1) (H0 : ¬ (te_c0 p = 2 ∧ te_c1 p = 2) → post 0) : wpX_isEnd post (f0, f1, f2, f3, f4, f5, f6, a1, a2, a3, a4, a5, a6, a7, a8, a9, a10, a11, a12, a13) (nI d) := by
  unfold wpX_isEnd
  dsimp only
  refine ⟨4, te_isEndS (t := 0) F hd hc0 hc1 h7 (by decide) (fun e0 => ?_) (fun e0 => H0 ?_)⟩
  · refine te_isEndS (t := 1) F hd hc0 hc1 h7 (by decide) (fun e1 => ?_) (fun e1 => H0 ?_)
    · refine te_isEndS (t := 2) F hd hc0 hc1 h7 (by decide) (fun _ => ?_) (fun e2 => absurd e2 (by unfold te_nx; rw [if_neg (by decide), if_neg (by decide)]; decide))
      refine pk_le 3 3 (fun _ => H1 ?_) (fun z => absurd z (by omega))
      unfold te_nx at e0 e1
      rw [if_pos rfl] at e0
      rw [if_neg (by decide), if_pos rfl] at e1
      constructor
      · split at e0 <;> omega
      · split at e1 <;> omega
    · unfold te_nx at e1
      rw [if_neg (by decide), if_pos rfl] at e1
      split at e1 <;> omega
  · unfold te_nx at e0
    rw [if_pos rfl] at e0
    split at e0 <;> omega
theorem te_f190 {post : St2 → Prop} {f0 f1 f2 f3 f4 f5 f6 : Int32} {a1 a2 a3 a4 a5 a6 a7 a8 a9 a10 a11 a12 a13 : Nat → Int32} (x5 x6 : Int32) (H : ∀ f : Int32, post (f0, f1, f2, f3, f4, f5, f, a1, a2, a3, a4, a5, a6, a7, a8, a9, a10, a11, a12, a13)) : ∃ n, wX_finish_190 post (nI 4) f0 f1 f2 f3 f4 f5 f6 a1 a2 a3 a4 a5 a6 a7 a8 a9 a10 a11 a12 a13 n x5 x6 0 := by
  refine pk_loop (σ := Int32 × Int32) (fun n i s => wX_finish_190 post (nI 4) f0 f1 f2 f3 f4 f5 f6 a1 a2 a3 a4 a5 a6 a7 a8 a9 a10 a11 a12 a13 n s.1 s.2 (nI i)) (fun _ _ => True) 4 0 (x5, x6) (by omega) trivial
    (fun n s _ => pk_le 4 4 (fun _ => br_c (fun _ => br_c (fun _ => H _) (fun _ => H _)) (fun _ => H _)) (fun z => absurd z (by omega))) (fun n i s hi _ hw => ?_)
  have vi : vp_in (nI i) 10 := pk_in i 10 (by omega)
  refine pk_le 4 i (fun z => absurd z (by omega)) (fun _ => ⟨vi, ?_⟩)
  have g : ∀ z0 : Int32, wX_finish_217 post (wX_finish_190 post (nI 4) f0 f1 f2 f3 f4 f5 f6 a1 a2 a3 a4 a5 a6 a7 a8 a9 a10 a11 a12 a13 n) (nI 4) s.2 (nI i) z0 f0 f1 f2 f3 f4 f5 f6 a1 a2 a3 a4 a5 a6 a7 a8 a9 a10 a11 a12 a13 := fun z0 =>
    ⟨vi, br_c (fun _ => nm_r (nI_1 i) (hw (z0, nI i) trivial)) (fun _ => nm_r (nI_1 i) (hw (z0, s.2) trivial))⟩
  exact br_c (fun _ => g _) (fun _ => g _)
theorem te_finish {post : St2 → Prop} {f0 f1 f2 f3 f4 f5 f6 : Int32} {a1 a2 a3 a4 a5 a6 a7 a8 a9 a10 a11 a12 a13 : Nat → Int32} {x : Nat → Nat} (F : te_Fx x a1 a2 a3 a4) {q : te_Q} (hq : te_g8 q) (h6 : a6 4 = nI (te_e q))
    (H : ∀ (f : Int32) (b : Nat → Int32), b 0 = a13 0 ||| ((1 : Int32) <<< (nI q.2.2.1 &&& 31)) → post (f0 + 1, f1 + 1, f2, f3, f4, f5, f, a1, a2, a3, a4, a5, a6, a7, a8, a9, a10, upd a11 (te_res q) (a11 (te_res q) + 1), a12, b)) :
    wpX_finish post (f0, f1, f2, f3, f4, f5, f6, a1, a2, a3, a4, a5, a6, a7, a8, a9, a10, a11, a12, a13) (nI 4) := by
  have e31 := te_e31 hq
  obtain ⟨q0, q1, q2, q3, q4, q5⟩ := id hq
  have r5 : te_res q < 512 := by unfold te_res; omega
  unfold wpX_finish
  dsimp only
  refine nm_e (nm_e (br_t ?_ ?_))
  · rw [F.1, F.2.1, F.2.2.1]
    decide
  unfold wX_finish_49
  refine br_f (by decide) ⟨pk_in 4 11 (by omega), nm_r h6 (nm_r (e' := nI (te_res q)) ?_ ⟨pk_in _ 512 r5, pk_in _ 512 r5, ?_⟩)⟩
  · have g0 : nI (te_e q) &&& 7 = nI q.1 := by
      rw [pk_andN (by omega) 3 (by decide)]
      congr 1
      have := te_e0 hq
      omega
    have g3 : (nI (te_e q) >>> ((3 : Int32) &&& 31)) &&& 7 = nI q.2.1 := (te_get (n := te_e q) (o := 3) (by omega) (by decide)).trans (by rw [te_e3 hq])
    have g6 : (nI (te_e q) >>> ((6 : Int32) &&& 31)) &&& 7 = nI 0 := (te_get (n := te_e q) (o := 6) (by omega) (by decide)).trans (by rw [te_e6 hq])
    rw [g0, g3, g6]
    have m1 : (64 : Int32) * nI q.1 = nI (64 * q.1) := pk_mul 64 q.1
    have m2 : (8 : Int32) * nI q.2.1 = nI (8 * q.2.1) := pk_mul 8 q.2.1
    rw [m1, m2, nI_add, nI_add]
    rfl
  rw [nI_clamp (show te_res q < 2 ^ 31 by omega)]
  refine nm_e ?_
  refine pk_loop (fun n i s => wX_finish_140 post (nI 4) (nI (te_e q)) (f0 + 1) (f1 + 1) f2 f3 f4 f5 f6 n (nI i) a1 a2 a3 a4 a5 a6 a7 a8 a9 a10 (upd a11 (te_res q) (a11 (te_res q) + 1)) a12 s) (fun i s => s 0 = if i = 0 then a13 0 else a13 0 ||| ((1 : Int32) <<< (nI q.2.2.1 &&& 31))) 3 0 a13 (by omega) rfl
    (fun n s h => pk_le 3 3 (fun _ => te_f190 _ _ (fun f => H f s h)) (fun z => absurd z (by omega))) (fun n i s hi h hw => ?_)
  refine pk_le 3 i (fun z => absurd z (by omega)) (fun _ => ⟨pk_in i 3 hi, pk_in i 3 hi, ?_⟩)
  have ci : (nI i).toNatClampNeg = i := nI_clamp (by omega)
  rw [ci]
  refine nm_e (nm_r (nI_1 i) (hw _ ?_))
  by_cases i0 : i = 0
  · subst i0
    have h' : s 0 = a13 0 := h
    have g9 : (nI (te_e q) >>> ((9 + 3 * nI 0) &&& 31)) &&& 7 = nI q.2.2.1 := (te_get (n := te_e q) (o := 9) (by omega) (by decide)).trans (by rw [te_e9 hq])
    show upd s 0 (s 0 ||| ((1 : Int32) <<< (((nI (te_e q) >>> ((9 + 3 * nI 0) &&& 31)) &&& 7) &&& 31))) 0 = a13 0 ||| ((1 : Int32) <<< (nI q.2.2.1 &&& 31))
    rw [pk_us, g9, h']
  · show upd s i _ 0 = if i + 1 = 0 then _ else _
    rw [pk_un (fun z => i0 z.symm), if_neg (by omega), h, if_neg i0]
end
section
def te_Frs (R : List Nat → te_Q) (a6 a7 a8 a9 : Nat → Int32) : List te_F → Prop
  | [] => True
  | f :: st => a6 st.length = nI (te_e (R f.1)) ∧ a7 st.length = nI (te_c0 f.1 + 4 * te_c1 f.1) ∧ a8 st.length = nI f.2.1 ∧ a9 st.length = nI f.2.2 ∧ te_Frs R a6 a7 a8 a9 st
theorem te_Frs_c {R : List Nat → te_Q} {a6 a7 a8 a9 b6 b7 b8 b9 : Nat → Int32} : ∀ st : List te_F, (∀ j, j < st.length → b6 j = a6 j ∧ b7 j = a7 j ∧ b8 j = a8 j ∧ b9 j = a9 j) → te_Frs R a6 a7 a8 a9 st → te_Frs R b6 b7 b8 b9 st := by
  intro st
  induction st with
  | nil => intro _ _; trivial
  | cons f st ih =>
    intro h g
    obtain ⟨g6, g7, g8, g9, gs⟩ := g
    obtain ⟨k6, k7, k8, k9⟩ := h st.length (Nat.lt_succ_self _)
    exact ⟨k6.trans g6, k7.trans g7, k8.trans g8, k9.trans g9, ih (fun j hj => h j (Nat.lt_succ_of_lt hj)) gs⟩
def te_X2 : List te_F → Int32
  | [] => -1
  | _ :: st => nI st.length
theorem te_X2d (st : List te_F) : nI st.length + (-1) = te_X2 st := by
  cases st with
  | nil => rfl
  | cons f st => exact pk_m1 st.length
def te_Rl (R : List Nat → te_Q) (s0 : Nat) (c : te_C) (f0 f1 f2 f3 : Int32) (a6 a7 a8 a9 a11 a12 a13 : Nat → Int32) : Prop :=
  te_Frs R a6 a7 a8 a9 c.1 ∧ f0 = nI c.2.1.length ∧ f1 = nI c.2.1.length ∧ f2 = 0 ∧ f3 = 0 ∧ (∀ r, r < 512 → a11 r = nI (te_cnt R c.2.1 r)) ∧ a12 0 = nI (te_mx R s0 c.2.2) ∧ a13 0 = te_or (c.2.1.map (fun p => (R p).2.2.1))
theorem te_cons_c (p : List Nat) {i t : Nat} (hi : i / 2 = t) (ht : t < 2) : te_c0 (i :: p) + 4 * te_c1 (i :: p) = te_c0 p + 4 * te_c1 p + 4 ^ t := by
  rw [te_c0, te_c1]
  have e : t = 0 ∨ t = 1 := by omega
  rcases e with rfl | rfl
  · rw [if_pos (by omega), if_pos (by omega)]
    omega
  · rw [if_neg (by omega), if_neg (by omega)]
    omega
theorem te_cnt_cons (R : List Nat → te_Q) (p : List Nat) (l : List (List Nat)) (r : Nat) : te_cnt R (p :: l) r = te_cnt R l r + if te_res (R p) = r then 1 else 0 := by
  unfold te_cnt
  rw [List.countP_cons]
  by_cases h : te_res (R p) = r
  · rw [if_pos h, if_pos (by simp [h])]
  · rw [if_neg h, if_neg (by simp [h])]
theorem te_body {post : St2 → Prop} {x1 : Int32} {slp : Bool} (hs : x1 = if slp = true then 1 else 0) {f0 f1 f2 f3 f4 f5 f6 : Int32} {a1 a2 a3 a4 a5 a6 a7 a8 a9 a10 a11 a12 a13 : Nat → Int32} {x : Nat → Nat} {s0 s1 : Nat} (hx : ∀ i, x i < 64) (h0 : s0 < 8) (h1 : s1 < 8) (F : te_Fx x a1 a2 a3 a4)
    {p : List Nat} {sl t : Nat} {st : List te_F} {l e : List (List Nat)} {n j : Nat} (hok : te_okS ((p, sl, t) :: st) = true) (hj : j < 100000)
    (hR : te_Rl (te_run x s0 s1) s0 ((p, sl, t) :: st, l, e) f0 f1 f2 f3 a6 a7 a8 a9 a11 a12 a13)
    (H : ∀ (g0 g1 g2 g3 g6 : Int32) (b6 b7 b8 b9 b10 b11 b12 b13 : Nat → Int32), te_Rl (te_run x s0 s1) s0 (te_step (te_TX x) slp ((p, sl, t) :: st, l, e)) g0 g1 g2 g3 b6 b7 b8 b9 b11 b12 b13 →
      wX_explore_60 post x1 n (te_X2 (te_step (te_TX x) slp ((p, sl, t) :: st, l, e)).1) (nI (j + 1)) g0 g1 g2 g3 f4 f5 g6 a1 a2 a3 a4 a5 b6 b7 b8 b9 b10 b11 b12 b13) :
    wX_explore_60 post x1 (n + 1) (nI st.length) (nI j) f0 f1 f2 f3 f4 f5 f6 a1 a2 a3 a4 a5 a6 a7 a8 a9 a10 a11 a12 a13 := by
  obtain ⟨⟨h6, h7, h8, h9, hst⟩, r0, r1, r2, r3, r11, r12, r13⟩ := hR
  dsimp only at h6 h7 h8 h9 hst r0 r1 r11 r12 r13
  rw [te_okS, Bool.and_eq_true, decide_eq_true_iff] at hok
  obtain ⟨⟨lp, hc0, hc1, lc, hsl, ht⟩, _⟩ := hok
  generalize hd : st.length = d at *
  have d4 : d ≤ 4 := by omega
  have cd : (nI d).toNatClampNeg = d := nI_clamp (by omega)
  have vd : vp_in (nI d) 11 := pk_in d 11 (by omega)
  have hq : te_g8 (te_run x s0 s1 p) := te_run8 hx h0 h1 p
  have hm : te_mx (te_run x s0 s1) s0 e < 8 := te_mx8 h0 (te_run8 hx h0 h1) e
  refine pk_le 100000 j (fun z => absurd z (by omega)) (fun _ => br_f (nI_pos (by omega)) ⟨vd, ?_⟩)
  rw [cd, h7, h8, h9]
  refine nm_e (pk_eq t 3 (fun t3 => ?_) (fun t3 => ⟨vd, vd, ?_⟩))
  · refine te_isEnd F (by omega) hc0 hc1 h7 (fun c => br_f (by decide) ?_) (fun c => br_t rfl ?_)
    · have d4' : d = 4 := by omega
      subst d4'
      refine te_finish F hq h6 (fun f b hb => ?_)
      dsimp only
      have es : te_step (te_TX x) slp ((p, sl, t) :: st, l, e) = (st, p :: l, e) := by
        unfold te_step
        dsimp only
        rw [if_pos t3, if_pos c]
      rw [es] at H
      have ex : nI 4 + (-1) = te_X2 st := by rw [← hd]; exact te_X2d st
      refine nm_r ex (nm_r (nI_1 j) (H _ _ _ _ _ _ _ _ _ _ _ _ _ ⟨hst, ?_, ?_, r2, r3, ?_, r12, ?_⟩))
      · rw [r0]; exact nI_1 _
      · rw [r1]; exact nI_1 _
      · intro r hr
        dsimp only
        rw [te_cnt_cons]
        by_cases g : te_res (te_run x s0 s1 p) = r
        · rw [if_pos g, g, pk_us, r11 r hr]
          exact nI_1 _
        · rw [if_neg g, pk_un (fun z => g z.symm)]
          exact r11 r hr
      · rw [hb, r13]
        rfl
    · have es : te_step (te_TX x) slp ((p, sl, t) :: st, l, e) = (st, l, e) := by
        unfold te_step
        dsimp only
        rw [if_pos t3, if_neg c]
      rw [es] at H
      have ex : nI d + (-1) = te_X2 st := by rw [← hd]; exact te_X2d st
      exact nm_r ex (nm_r (nI_1 j) (H _ _ _ _ _ _ _ _ _ _ _ _ _ ⟨hst, r0, r1, r2, r3, r11, r12, r13⟩))
  have t2 : t < 3 := by omega
  refine nm_r (e' := upd a9 d (nI (t + 1))) (by rw [nI_1]) ⟨vd, ?_⟩
  have idle : te_step (te_TX x) slp ((p, sl, t) :: st, l, e) = ((p, sl, t + 1) :: st, l, e) →
      wX_explore_60 post x1 n (nI d) (nI (j + 1)) f0 f1 f2 f3 f4 f5 f6 a1 a2 a3 a4 a5 a6 a7 a8 (upd a9 d (nI (t + 1))) a10 a11 a12 a13 := fun es => by
    rw [es] at H
    have g := H f0 f1 f2 f3 f6 a6 a7 a8 (upd a9 d (nI (t + 1))) a10 a11 a12 a13 ⟨⟨?_, ?_, ?_, ?_, ?_⟩, r0, r1, r2, r3, r11, r12, r13⟩
    · dsimp only [te_X2] at g
      rw [hd] at g
      exact g
    · rw [hd]; exact h6
    · rw [hd]; exact h7
    · rw [hd]; exact h8
    · rw [hd]; exact pk_us
    · exact te_Frs_c st (fun k hk => ⟨rfl, rfl, rfl, pk_un (by omega)⟩) hst
  refine te_nextOf F t2 hc0 hc1 rfl (fun n9 => br_t (by decide) (br_t rfl (nm_r (nI_1 j) (idle ?_)))) (fun n4 nt => br_f (nI_pos (by have := te_ix9 n4; omega)) ⟨vd, pk_eq (sl / 2 ^ t % 2) 0 (fun z0 => ?_) (fun z0 => br_t rfl (nm_r (nI_1 j) (idle ?_))) (hx := te_d2 sl hsl t t2) (ha := Nat.lt_of_lt_of_le (Nat.mod_lt _ (by decide)) (by decide))⟩)
  · unfold te_step
    dsimp only
    rw [if_neg t3, if_neg (fun g => absurd g.1 (by omega))]
  rotate_left
  · unfold te_step
    dsimp only
    rw [if_neg t3, if_neg (fun g => z0 g.2)]
  have tt : t < 2 := by omega
  have es : te_step (te_TX x) slp ((p, sl, t) :: st, l, e) = ((te_nx p t :: p, te_st (te_TX x) p sl (te_nx p t), 0) :: (p, (if slp = true then sl + 2 ^ t else sl), t + 1) :: st, l, (te_nx p t :: p) :: e) := by
    unfold te_step
    dsimp only
    rw [if_neg t3, if_pos ⟨by omega, z0⟩]
  rw [es] at H
  dsimp only [te_X2] at H
  rw [List.length_cons, hd] at H
  refine br_f (by decide) ⟨vd, te_canDo F n4 (br_f (by decide) (te_enter hx F (d := d) (i := te_nx p t) (sl := sl) (t := t) (p := p) (q := te_run x s0 s1 p) (by omega) n4 nt hsl hc0 hc1 hq hm h6 h7 h8 r12 (fun b hb => ?_)))⟩
  dsimp only
  have st8 : ∀ b8 : Nat → Int32, b8 (d + 1) = nI (te_st (te_TX x) p sl (te_nx p t)) → b8 d = nI (if slp = true then sl + 2 ^ t else sl) → (∀ k, k < d → b8 k = a8 k) →
      te_Rl (te_run x s0 s1) s0 ((te_nx p t :: p, te_st (te_TX x) p sl (te_nx p t), 0) :: (p, (if slp = true then sl + 2 ^ t else sl), t + 1) :: st, l, (te_nx p t :: p) :: e) f0 f1 f2 f3
        (upd a6 (d + 1) (nI (te_e (te_f (te_K x (te_nx p t)) (te_P x (te_nx p t)) (te_N x (te_nx p t)) (te_nx p t / 2) (te_run x s0 s1 p))))) (upd a7 (d + 1) (nI (te_c0 p + 4 * te_c1 p + 4 ^ t))) b8 (upd (upd a9 d (nI (t + 1))) (d + 1) 0) a11 b a13 := by
    intro b8 k1 k2 k3
    refine ⟨⟨?_, ?_, ?_, ?_, ?_, ?_, ?_, ?_, ?_⟩, r0, r1, r2, r3, r11, hb, r13⟩ <;> (try dsimp only) <;> (try rw [List.length_cons]) <;> (try rw [hd])
    · exact pk_us
    · rw [pk_us, te_cons_c p nt tt]
    · exact k1
    · exact pk_us
    · rw [pk_un (by omega)]; exact h6
    · rw [pk_un (by omega)]; exact h7
    · exact k2
    · rw [pk_un (by omega)]; exact pk_us
    · exact te_Frs_c st (fun k hk => ⟨pk_un (by omega), pk_un (by omega), k3 k (by omega), (pk_un (by omega)).trans (pk_un (by omega))⟩) hst
  cases slp with
  | false =>
    refine br_t hs (nm_r (nI_1 d) (nm_r (nI_1 j) (H _ _ _ _ _ _ _ _ _ _ _ _ _ (st8 _ pk_us ?_ (fun k hk => pk_un (by omega))))))
    rw [pk_un (by omega)]
    exact h8
  | true =>
    refine br_f (by rw [hs]; decide) ⟨vd, vd, nm_r (e' := upd (upd a8 (d + 1) (nI (te_st (te_TX x) p sl (te_nx p t)))) d (nI (sl + 2 ^ t))) ?_ (nm_r (nI_1 d) (nm_r (nI_1 j) (H _ _ _ _ _ _ _ _ _ _ _ _ _ (st8 _ ?_ ?_ ?_))))⟩
    · rw [cd, pk_un (show d ≠ d + 1 by omega), h8, te_d3 sl hsl t tt z0]
    · rw [pk_un (by omega)]
      exact pk_us
    · exact pk_us
    · intro k hk
      rw [pk_un (by omega), pk_un (by omega)]
theorem te_it_nil (T : Nat → Nat → Bool) (slp : Bool) (l e : List (List Nat)) : ∀ n, te_it T slp n ([], l, e) = ([], l, e) := by
  intro n
  induction n with
  | zero => rfl
  | succ n ih => exact ih
theorem te_loop {post : St2 → Prop} {x1 : Int32} {slp : Bool} (hs : x1 = if slp = true then 1 else 0) {f4 f5 : Int32} {a1 a2 a3 a4 a5 : Nat → Int32} {x : Nat → Nat} {s0 s1 : Nat} (hx : ∀ i, x i < 64) (h0 : s0 < 8) (h1 : s1 < 8) (F : te_Fx x a1 a2 a3 a4) (C : te_C)
    (H : ∀ (f0 f1 f2 f3 f6 : Int32) (a6 a7 a8 a9 a10 a11 a12 a13 : Nat → Int32), te_Rl (te_run x s0 s1) s0 C f0 f1 f2 f3 a6 a7 a8 a9 a11 a12 a13 → post (f0, f1, f2, f3, f4, f5, f6, a1, a2, a3, a4, a5, a6, a7, a8, a9, a10, a11, a12, a13)) :
    ∀ (n : Nat) (c : te_C) (j : Nat) (f0 f1 f2 f3 f6 : Int32) (a6 a7 a8 a9 a10 a11 a12 a13 : Nat → Int32), te_okN (te_TX x) slp n c = true → j + n < 100000 → te_it (te_TX x) slp n c = C →
      te_Rl (te_run x s0 s1) s0 c f0 f1 f2 f3 a6 a7 a8 a9 a11 a12 a13 → wX_explore_60 post x1 (n + 1) (te_X2 c.1) (nI j) f0 f1 f2 f3 f4 f5 f6 a1 a2 a3 a4 a5 a6 a7 a8 a9 a10 a11 a12 a13 := by
  intro n
  induction n with
  | zero =>
    intro c j f0 f1 f2 f3 f6 a6 a7 a8 a9 a10 a11 a12 a13 hok hj hc hR
    obtain ⟨stk, l, e⟩ := c
    cases stk with
    | nil =>
      rw [← hc] at H
      exact pk_le 100000 j (fun z => absurd z (by omega)) (fun _ => br_t (show (-1 : Int32) < 0 by decide) (H _ _ _ _ _ _ _ _ _ _ _ _ _ hR))
    | cons f st => exact absurd (show false = true from hok) (by decide)
  | succ n ih =>
    intro c j f0 f1 f2 f3 f6 a6 a7 a8 a9 a10 a11 a12 a13 hok hj hc hR
    obtain ⟨stk, l, e⟩ := c
    cases stk with
    | nil =>
      rw [te_it_nil] at hc
      rw [← hc] at H
      exact pk_le 100000 j (fun z => absurd z (by omega)) (fun _ => br_t (show (-1 : Int32) < 0 by decide) (H _ _ _ _ _ _ _ _ _ _ _ _ _ hR))
    | cons f st =>
      obtain ⟨p, sl, t⟩ := f
      rw [te_okN, Bool.and_eq_true] at hok
      exact te_body hs hx h0 h1 F hok.1 (by omega) hR (fun g0 g1 g2 g3 g6 b6 b7 b8 b9 b10 b11 b12 b13 hR' => ih _ _ _ _ _ _ _ _ _ _ _ _ _ _ _ hok.2 (by omega) hc hR')
theorem te_clear {post : St2 → Prop} {f0 f1 f2 f3 f4 f5 f6 : Int32} {a1 a2 a3 a4 a5 a6 a7 a8 a9 a10 a11 a12 a13 : Nat → Int32} (H : ∀ b11 b12 b13 : Nat → Int32, (∀ r, r < 512 → b11 r = 0) → b12 0 = a5 0 → b13 0 = 0 → post (0, 0, 0, 0, f4, f5, 0, a1, a2, a3, a4, a5, a6, a7, a8, a9, a10, b11, b12, b13)) : wpX_clear post (f0, f1, f2, f3, f4, f5, f6, a1, a2, a3, a4, a5, a6, a7, a8, a9, a10, a11, a12, a13) := by
  unfold wpX_clear
  dsimp only
  refine pk_loop (fun n i s => wX_clear_27 post 0 0 0 0 f4 f5 0 n (nI i) a1 a2 a3 a4 a5 a6 a7 a8 a9 a10 s a12 a13) (fun i s => ∀ r, r < i → s r = 0) 512 0 a11 (by omega) (fun r hr => absurd hr (by omega)) (fun n s h => pk_le 512 512 (fun _ => ?_) (fun z => absurd z (by omega))) (fun n i s hi h hw => ?_)
  · refine pk_loop (σ := (Nat → Int32) × (Nat → Int32)) (fun n i w => wX_clear_49 post 0 0 0 0 f4 f5 0 n (nI i) a1 a2 a3 a4 a5 a6 a7 a8 a9 a10 s w.1 w.2) (fun i w => 0 < i → w.1 0 = a5 0 ∧ w.2 0 = 0) 3 0 (a12, a13) (by omega) (fun z => absurd z (by omega))
      (fun n w hw => pk_le 3 3 (fun _ => H s w.1 w.2 h (hw (by omega)).1 (hw (by omega)).2) (fun z => absurd z (by omega))) (fun n i w hi g hw => ?_)
    have ci : (nI i).toNatClampNeg = i := nI_clamp (by omega)
    refine pk_le 3 i (fun z => absurd z (by omega)) (fun _ => ⟨pk_in i 3 hi, pk_in i 3 hi, ?_⟩)
    rw [ci]
    refine nm_e ⟨pk_in i 3 hi, nm_e (nm_r (nI_1 i) (hw (upd w.1 i (a5 i), upd w.2 i 0) (fun _ => ?_)))⟩
    dsimp only
    by_cases i0 : i = 0
    · subst i0
      exact ⟨pk_us, pk_us⟩
    · rw [pk_un (fun z => i0 z.symm), pk_un (fun z => i0 z.symm)]
      exact g (by omega)
  · have ci : (nI i).toNatClampNeg = i := nI_clamp (by omega)
    refine pk_le 512 i (fun z => absurd z (by omega)) (fun _ => ⟨pk_in i 512 hi, ?_⟩)
    rw [ci]
    refine nm_e (nm_r (nI_1 i) (hw _ (fun r hr => ?_)))
    by_cases e : r = i
    · rw [e]; exact pk_us
    · rw [pk_un e]
      exact h r (by omega)
theorem te_st0 : ∀ a, a < 8 → ∀ b, b < 8 → (nI a ||| (nI b <<< ((3 : Int32) &&& 31))) ||| (nI 0 <<< ((6 : Int32) &&& 31)) = nI (a + 8 * b) := by decide +kernel
/-- the object between the calls -/
def te_O (x : Nat → Nat) (s0 s1 : Nat) (a1 a2 a3 a4 a5 : Nat → Int32) : Prop := te_Fx x a1 a2 a3 a4 ∧ a5 0 = nI s0 ∧ a5 1 = nI s1 ∧ a5 2 = nI 0
theorem te_explore {post : St2 → Prop} {x1 : Int32} (slp : Bool) (hs : x1 = if slp = true then 1 else 0) {f0 f1 f2 f3 f4 f5 f6 : Int32} {a1 a2 a3 a4 a5 a6 a7 a8 a9 a10 a11 a12 a13 : Nat → Int32} {x : Nat → Nat} {s0 s1 : Nat} (hx : ∀ i, x i < 64) (h0 : s0 < 8) (h1 : s1 < 8) (O : te_O x s0 s1 a1 a2 a3 a4 a5)
    (H : ∀ (g0 g1 g2 g3 g6 : Int32) (b6 b7 b8 b9 b10 b11 b12 b13 : Nat → Int32), te_Rl (te_run x s0 s1) s0 (te_it (te_TX x) slp 80 te_C0) g0 g1 g2 g3 b6 b7 b8 b9 b11 b12 b13 → post (g0, g1, g2, g3, f4, f5, g6, a1, a2, a3, a4, a5, b6, b7, b8, b9, b10, b11, b12, b13)) :
    wpX_explore post (f0, f1, f2, f3, f4, f5, f6, a1, a2, a3, a4, a5, a6, a7, a8, a9, a10, a11, a12, a13) x1 := by
  obtain ⟨F, o0, o1, o2⟩ := O
  unfold wpX_explore
  dsimp only
  refine te_clear (fun b11 b12 b13 k11 k12 k13 => ?_)
  dsimp only
  refine nm_r (e' := upd a6 0 (nI (s0 + 8 * s1))) (by rw [o0, o1, o2, te_st0 s0 h0 s1 h1]) (nm_e (nm_e (nm_e ⟨81, ?_⟩)))
  refine te_loop hs hx h0 h1 F (te_it (te_TX x) slp 80 te_C0) H 80 te_C0 0 _ _ _ _ _ _ _ _ _ _ _ _ _ (te_okAll _ _ _ _ slp) (by decide) rfl ?_
  refine ⟨⟨?_, ?_, ?_, ?_, trivial⟩, rfl, rfl, rfl, rfl, ?_, ?_, ?_⟩
  · exact pk_us
  · exact pk_us
  · exact pk_us
  · exact pk_us
  · intro r hr
    rw [k11 r hr]
    rfl
  · rw [k12, o0]
    rfl
  · exact k13
end
section
theorem te_len6 : ∀ a b c d : Bool, (te_fins (te_T a b c d) true).length ≤ 6 := by decide +kernel
theorem te_cnt6 (x : Nat → Nat) (R : List Nat → te_Q) (r : Nat) : te_cnt R (te_fins (te_TX x) true) r ≤ 6 := Nat.le_trans List.countP_le_length (te_len6 _ _ _ _)
theorem te_sixX (x : Nat → Nat) : (te_fins (te_TX x) false).length = 6 := by
  unfold te_TX
  exact te_six _ _ _ _
theorem te_fAX (x : Nat → Nat) : (te_fins (te_TX x) true).length = (te_frl (te_ky (te_TX x)) (te_gl 16)).length := by
  unfold te_TX
  exact te_fA _ _ _ _
/-- the results of the six orders -/
def te_L (R : List Nat → te_Q) : List Nat := (te_gl 16).map (fun o => te_res (R (te_op o)))
theorem te_res512 {q : te_Q} (h : te_g8 q) : te_res q < 512 := by
  obtain ⟨a, b, _⟩ := h
  unfold te_res
  omega
section
variable {post : Int32 → St2 → Prop} {f0 f1 f2 f3 f4 f5 f6 : Int32} {a1 a2 a3 a4 a5 a6 a7 a8 a9 a10 a11 a12 a13 : Nat → Int32} {x : Nat → Nat} {s0 s1 : Nat}
theorem te_runs (hx : ∀ i, x i < 64) (h0 : s0 < 8) (h1 : s1 < 8) (O : te_O x s0 s1 a1 a2 a3 a4 a5)
    (H : ∀ (g0 g1 g2 g3 g6 : Int32) (b6 b7 b8 b9 b10 b11 b12 b13 : Nat → Int32), post 6 (g0, g1, g2, g3, f4, f5, g6, a1, a2, a3, a4, a5, b6, b7, b8, b9, b10, b11, b12, b13)) :
    wpX_runs post (f0, f1, f2, f3, f4, f5, f6, a1, a2, a3, a4, a5, a6, a7, a8, a9, a10, a11, a12, a13) := by
  unfold wpX_runs
  dsimp only
  refine te_explore false rfl hx h0 h1 O (fun g0 g1 g2 g3 g6 b6 b7 b8 b9 b10 b11 b12 b13 hR => ?_)
  dsimp only
  have e : g0 = 6 := by
    have r0 : g0 = nI (te_fins (te_TX x) false).length := hR.2.1
    rw [r0, te_sixX]
    rfl
  subst e
  exact H _ _ _ _ _ _ _ _ _ _ _ _ _
theorem te_kinds (hx : ∀ i, x i < 64) (h0 : s0 < 8) (h1 : s1 < 8) (O : te_O x s0 s1 a1 a2 a3 a4 a5)
    (H : ∀ (g0 g1 g2 g3 g6 : Int32) (b6 b7 b8 b9 b10 b11 b12 b13 : Nat → Int32), post (nI (te_frl (te_ky (te_TX x)) (te_gl 16)).length) (g0, g1, g2, g3, f4, f5, g6, a1, a2, a3, a4, a5, b6, b7, b8, b9, b10, b11, b12, b13)) :
    wpX_kinds post (f0, f1, f2, f3, f4, f5, f6, a1, a2, a3, a4, a5, a6, a7, a8, a9, a10, a11, a12, a13) := by
  unfold wpX_kinds
  dsimp only
  refine te_explore true rfl hx h0 h1 O (fun g0 g1 g2 g3 g6 b6 b7 b8 b9 b10 b11 b12 b13 hR => ?_)
  dsimp only
  have e : g1 = nI (te_frl (te_ky (te_TX x)) (te_gl 16)).length := by
    have r1 : g1 = nI (te_fins (te_TX x) true).length := hR.2.2.1
    rw [r1, te_fAX]
  subst e
  exact H _ _ _ _ _ _ _ _ _ _ _ _ _
theorem te_stuckKinds (hx : ∀ i, x i < 64) (h0 : s0 < 8) (h1 : s1 < 8) (O : te_O x s0 s1 a1 a2 a3 a4 a5)
    (H : ∀ (g0 g1 g2 g3 g6 : Int32) (b6 b7 b8 b9 b10 b11 b12 b13 : Nat → Int32), post 0 (g0, g1, g2, g3, f4, f5, g6, a1, a2, a3, a4, a5, b6, b7, b8, b9, b10, b11, b12, b13)) :
    wpX_stuckKinds post (f0, f1, f2, f3, f4, f5, f6, a1, a2, a3, a4, a5, a6, a7, a8, a9, a10, a11, a12, a13) := by
  unfold wpX_stuckKinds
  dsimp only
  refine te_explore true rfl hx h0 h1 O (fun g0 g1 g2 g3 g6 b6 b7 b8 b9 b10 b11 b12 b13 hR => ?_)
  dsimp only
  have e : g2 = 0 := hR.2.2.2.1
  subst e
  exact H _ _ _ _ _ _ _ _ _ _ _ _ _
theorem te_shortest (hx : ∀ i, x i < 64) (h0 : s0 < 8) (h1 : s1 < 8) (O : te_O x s0 s1 a1 a2 a3 a4 a5)
    (H : ∀ (g0 g1 g2 g3 g6 : Int32) (b6 b7 b8 b9 b10 b11 b12 b13 : Nat → Int32), post 0 (g0, g1, g2, g3, f4, f5, g6, a1, a2, a3, a4, a5, b6, b7, b8, b9, b10, b11, b12, b13)) :
    wpX_shortestStuck post (f0, f1, f2, f3, f4, f5, f6, a1, a2, a3, a4, a5, a6, a7, a8, a9, a10, a11, a12, a13) := by
  unfold wpX_shortestStuck
  dsimp only
  refine te_explore true rfl hx h0 h1 O (fun g0 g1 g2 g3 g6 b6 b7 b8 b9 b10 b11 b12 b13 hR => ?_)
  dsimp only
  have e : g3 = 0 := hR.2.2.2.2.1
  subst e
  exact H _ _ _ _ _ _ _ _ _ _ _ _ _
theorem te_results (hx : ∀ i, x i < 64) (h0 : s0 < 8) (h1 : s1 < 8) (O : te_O x s0 s1 a1 a2 a3 a4 a5)
    (H : ∀ (g0 g1 g2 g3 g6 : Int32) (b6 b7 b8 b9 b10 b11 b12 b13 : Nat → Int32), post (nI (te_dc (te_L (te_run x s0 s1)))) (g0, g1, g2, g3, f4, f5, g6, a1, a2, a3, a4, a5, b6, b7, b8, b9, b10, b11, b12, b13)) :
    wpX_results post (f0, f1, f2, f3, f4, f5, f6, a1, a2, a3, a4, a5, a6, a7, a8, a9, a10, a11, a12, a13) := by
  unfold wpX_results
  dsimp only
  refine te_explore true rfl hx h0 h1 O (fun g0 g1 g2 g3 g6 b6 b7 b8 b9 b10 b11 b12 b13 hR => ?_)
  dsimp only
  have k11 : ∀ r, r < 512 → b11 r = nI (te_cnt (te_run x s0 s1) (te_fins (te_TX x) true) r) := hR.2.2.2.2.2.1
  refine pk_loop (σ := Unit) (fun n i _ => wX_results_9 post g0 g1 g2 g3 f4 f5 g6 a1 a2 a3 a4 a5 b6 b7 b8 b9 b10 b11 b12 b13 n (nI ((List.range i).countP (fun r => decide (0 < te_cnt (te_run x s0 s1) (te_fins (te_TX x) true) r)))) (nI i)) (fun _ _ => True) 512 0 () (by omega) trivial
    (fun n _ _ => pk_le 512 512 (fun _ => ?_) (fun z => absurd z (by omega))) (fun n i _ hi _ hw => ?_)
  · have e : (List.range 512).countP (fun r => decide (0 < te_cnt (te_run x s0 s1) (te_fins (te_TX x) true) r)) = te_dc (te_L (te_run x s0 s1)) := by
      rw [← te_dcr 512 (te_L (te_run x s0 s1)) (fun a ha => by
        obtain ⟨o, _, e⟩ := List.mem_map.mp ha
        rw [← e]
        exact te_res512 (te_run8 hx h0 h1 _))]
      refine List.countP_congr (fun r _ => ?_)
      rw [decide_eq_true_iff, decide_eq_true_iff, te_cnt_pos]
      exact te_same hx h0 h1 te_res r
    rw [e]
    exact H _ _ _ _ _ _ _ _ _ _ _ _ _
  · have ci : (nI i).toNatClampNeg = i := nI_clamp (by omega)
    have c6 := te_cnt6 x (te_run x s0 s1) i
    have g := hw () trivial
    rw [List.range_succ, List.countP_append, List.countP_cons, List.countP_nil] at g
    refine pk_le 512 i (fun z => absurd z (by omega)) (fun _ => ⟨pk_in i 512 hi, ?_⟩)
    rw [ci, k11 i hi]
    refine pk_le (te_cnt (te_run x s0 s1) (te_fins (te_TX x) true) i) 0 (fun z => ?_) (fun z => ?_)
    · rw [if_neg (by rw [decide_eq_true_iff]; omega)] at g
      exact nm_r (nI_add _ 0) (nm_r (nI_1 i) g)
    · rw [if_pos (by rw [decide_eq_true_iff]; omega)] at g
      exact nm_r (nI_1 _) (nm_r (nI_1 i) g)
theorem te_kindsOf (hx : ∀ i, x i < 64) (h0 : s0 < 8) (h1 : s1 < 8) (O : te_O x s0 s1 a1 a2 a3 a4 a5) {r : Nat} (hr : r < 512) {p0 : Int32} (hp : p0 = nI r)
    (H : ∀ (g0 g1 g2 g3 g6 : Int32) (b6 b7 b8 b9 b10 b11 b12 b13 : Nat → Int32), post (nI (te_ofc (te_run x s0 s1) (te_frl (te_ky (te_TX x)) (te_gl 16)) r)) (g0, g1, g2, g3, f4, f5, g6, a1, a2, a3, a4, a5, b6, b7, b8, b9, b10, b11, b12, b13)) :
    wpX_kindsOf post (f0, f1, f2, f3, f4, f5, f6, a1, a2, a3, a4, a5, a6, a7, a8, a9, a10, a11, a12, a13) p0 := by
  subst hp
  unfold wpX_kindsOf
  dsimp only
  refine br_f (nI_pos (by omega)) (pk_le r 511 (fun _ => ?_) (fun z => absurd z (by omega)))
  refine te_explore true rfl hx h0 h1 O (fun g0 g1 g2 g3 g6 b6 b7 b8 b9 b10 b11 b12 b13 hR => ?_)
  dsimp only
  have k11 : ∀ r, r < 512 → b11 r = nI (te_cnt (te_run x s0 s1) (te_fins (te_TX x) true) r) := hR.2.2.2.2.2.1
  refine ⟨pk_in r 512 hr, ?_⟩
  rw [nI_clamp (show r < 2 ^ 31 by omega), k11 r hr, te_count hx h0 h1 r]
  exact H _ _ _ _ _ _ _ _ _ _ _ _ _
theorem te_nextResult (hx : ∀ i, x i < 64) (h0 : s0 < 8) (h1 : s1 < 8) (O : te_O x s0 s1 a1 a2 a3 a4 a5)
    (H : ∀ (g0 g1 g2 g3 g6 : Int32) (b6 b7 b8 b9 b10 b11 b12 b13 : Nat → Int32), post (nI (te_ls (te_L (te_run x s0 s1)))) (g0, g1, g2, g3, f4, f5, g6, a1, a2, a3, a4, a5, b6, b7, b8, b9, b10, b11, b12, b13)) :
    wpX_nextResult post (f0, f1, f2, f3, f4, f5, f6, a1, a2, a3, a4, a5, a6, a7, a8, a9, a10, a11, a12, a13) (-1) := by
  unfold wpX_nextResult
  dsimp only
  refine te_explore true rfl hx h0 h1 O (fun g0 g1 g2 g3 g6 b6 b7 b8 b9 b10 b11 b12 b13 hR => ?_)
  dsimp only
  have k11 : ∀ r, r < 512 → b11 r = nI (te_cnt (te_run x s0 s1) (te_fins (te_TX x) true) r) := hR.2.2.2.2.2.1
  have m3 : te_res (te_run x s0 s1 (te_op 3)) ∈ te_L (te_run x s0 s1) := List.mem_map.mpr ⟨3, by decide +kernel, rfl⟩
  have l5 : te_ls (te_L (te_run x s0 s1)) < 512 := Nat.lt_of_le_of_lt (te_ls_le _ m3) (te_res512 (te_run8 hx h0 h1 _))
  have lm : te_ls (te_L (te_run x s0 s1)) ∈ te_L (te_run x s0 s1) := te_ls_mem _ (by omega)
  generalize hl : te_ls (te_L (te_run x s0 s1)) = lv at *
  refine br_t (by decide) ?_
  refine pk_loop (σ := Unit) (fun n i _ => wX_nextResult_18 post (-1) g0 g1 g2 g3 f4 f5 g6 a1 a2 a3 a4 a5 b6 b7 b8 b9 b10 b11 b12 b13 n (nI i)) (fun _ _ => True) lv 0 () (by omega) trivial
    (fun n _ _ => ?_) (fun n i _ hi _ hw => ?_)
  · have c6 := te_cnt6 x (te_run x s0 s1) lv
    have pos : 0 < te_cnt (te_run x s0 s1) (te_fins (te_TX x) true) lv := te_cnt_pos.mpr ((te_same hx h0 h1 te_res lv).mpr lm)
    refine pk_le 512 lv (fun z => absurd z (by omega)) (fun _ => br_f ?_ ⟨pk_in lv 512 l5, ?_⟩)
    · intro z
      exact nI_pos (n := lv) (by omega) (Int32.lt_of_le_of_lt z (by decide))
    rw [nI_clamp (show lv < 2 ^ 31 by omega), k11 lv l5]
    exact pk_le (te_cnt (te_run x s0 s1) (te_fins (te_TX x) true) lv) 0 (fun z => absurd z (by omega)) (fun _ => H _ _ _ _ _ _ _ _ _ _ _ _ _)
  · have zero : te_cnt (te_run x s0 s1) (te_fins (te_TX x) true) i = 0 := by
      rcases Nat.eq_zero_or_pos (te_cnt (te_run x s0 s1) (te_fins (te_TX x) true) i) with z | z
      · exact z
      · have m := (te_same hx h0 h1 te_res i).mp (te_cnt_pos.mp z)
        have := te_ls_le (te_L (te_run x s0 s1)) m
        omega
    refine pk_le 512 i (fun z => absurd z (by omega)) (fun _ => br_f ?_ ⟨pk_in i 512 (by omega), ?_⟩)
    · intro z
      exact nI_pos (n := i) (by omega) (Int32.lt_of_le_of_lt z (by decide))
    rw [nI_clamp (show i < 2 ^ 31 by omega), k11 i (by omega), zero]
    exact br_t (by decide) (nm_r (nI_1 i) (hw () trivial))
theorem te_endings (hx : ∀ i, x i < 64) (h0 : s0 < 8) (h1 : s1 < 8) (O : te_O x s0 s1 a1 a2 a3 a4 a5)
    (H : ∀ (g0 g1 g2 g3 g6 : Int32) (b6 b7 b8 b9 b10 b11 b12 b13 : Nat → Int32), post (te_or ((te_gl 16).map (fun o => (te_run x s0 s1 (te_op o)).2.2.1))) (g0, g1, g2, g3, f4, f5, g6, a1, a2, a3, a4, a5, b6, b7, b8, b9, b10, b11, b12, b13)) :
    wpX_endings post (f0, f1, f2, f3, f4, f5, f6, a1, a2, a3, a4, a5, a6, a7, a8, a9, a10, a11, a12, a13) 0 := by
  unfold wpX_endings
  dsimp only
  refine br_f (by decide) (br_f (by decide) (br_f (by decide) ?_))
  refine te_explore true rfl hx h0 h1 O (fun g0 g1 g2 g3 g6 b6 b7 b8 b9 b10 b11 b12 b13 hR => ?_)
  dsimp only
  have k13 : b13 0 = te_or ((te_fins (te_TX x) true).map (fun p => (te_run x s0 s1 p).2.2.1)) := hR.2.2.2.2.2.2.2
  refine ⟨pk_in 0 3 (by decide), te_cast (P := fun r => post r _) ?_ (H _ _ _ _ _ _ _ _ _ _ _ _ _)⟩
  rw [show (0 : Int32).toNatClampNeg = 0 from rfl, k13]
  exact te_or_eq (fun a => te_same hx h0 h1 (fun q => q.2.2.1) a)
theorem te_peak (hx : ∀ i, x i < 64) (h0 : s0 < 8) (h1 : s1 < 8) (O : te_O x s0 s1 a1 a2 a3 a4 a5)
    (H : ∀ (g0 g1 g2 g3 g6 : Int32) (b6 b7 b8 b9 b10 b11 b12 b13 : Nat → Int32), post (nI (te_pk (te_run x s0 s1) (te_gl 16))) (g0, g1, g2, g3, f4, f5, g6, a1, a2, a3, a4, a5, b6, b7, b8, b9, b10, b11, b12, b13)) :
    wpX_peak post (f0, f1, f2, f3, f4, f5, f6, a1, a2, a3, a4, a5, a6, a7, a8, a9, a10, a11, a12, a13) 0 := by
  unfold wpX_peak
  dsimp only
  refine br_f (by decide) (br_f (by decide) (br_f (by decide) ?_))
  refine te_explore true rfl hx h0 h1 O (fun g0 g1 g2 g3 g6 b6 b7 b8 b9 b10 b11 b12 b13 hR => ?_)
  dsimp only
  have k12 : b12 0 = nI (te_mx (te_run x s0 s1) s0 (te_ents (te_TX x) true)) := hR.2.2.2.2.2.2.1
  refine ⟨pk_in 0 3 (by decide), te_cast (P := fun r => post r _) ?_ (H _ _ _ _ _ _ _ _ _ _ _ _ _)⟩
  rw [show (0 : Int32).toNatClampNeg = 0 from rfl, k12, te_peakE hx h0 h1]
end
end
section
theorem te_initial {post : Int32 → St2 → Prop} {f0 f1 f2 f3 f4 f5 f6 : Int32} {a1 a2 a3 a4 a5 a6 a7 a8 a9 a10 a11 a12 a13 : Nat → Int32} {v w : Nat} (hv : v < 3) (hw : w < 8) {p0 p1 : Int32} (h0 : p0 = nI v) (h1 : p1 = nI w) (H : ∀ r, post r (f0, f1, f2, f3, f4, f5, f6, a1, a2, a3, a4, upd a5 v (nI w), a6, a7, a8, a9, a10, a11, a12, a13)) : wpX_initial post (f0, f1, f2, f3, f4, f5, f6, a1, a2, a3, a4, a5, a6, a7, a8, a9, a10, a11, a12, a13) p0 p1 := by
  subst h0 h1
  unfold wpX_initial
  dsimp only
  refine br_f (nI_pos (by omega)) (pk_le 3 v (fun z => absurd z (by omega)) (fun _ => br_f (by decide) (br_f (nI_pos (by omega)) (pk_le w 7 (fun _ => ⟨pk_in v 3 hv, nm_e ⟨pk_in v 3 hv, nm_e ?_⟩⟩) (fun z => absurd z (by omega))))))
  rw [nI_clamp (show v < 2 ^ 31 by omega)]
  exact H _
theorem te_w1 : ∀ k, k < 4 → ∀ p, p < 2 → nI (8 * k + p) >>> ((3 : Int32) &&& 31) = nI k ∧ nI (8 * k + p) &&& 7 = nI p := by decide +kernel
theorem te_stepT {post : Int32 → St2 → Prop} {f0 f1 f2 f3 f4 f5 f6 : Int32} {a1 a2 a3 a4 a5 a6 a7 a8 a9 a10 a11 a12 a13 : Nat → Int32} {t k p w z : Nat} (ht : t < 3) (hk : k < 4) (hp : p < 2) (hw : w < 8) (hz : z < 3) {p0 p1 p2 : Int32} (h0 : p0 = nI t) (h1 : p1 = nI (8 * k + p)) (h2 : p2 = nI w) (hs : a1 t = nI z)
    (H : post (nI (z + 1)) (f0, f1, f2, f3, f4, f5, f6, upd a1 t (nI (z + 1)), upd a2 (3 * t + z) (nI k), upd a3 (3 * t + z) (nI p), upd a4 (3 * t + z) (nI w), a5, a6, a7, a8, a9, a10, a11, a12, a13)) : wpX_step post (f0, f1, f2, f3, f4, f5, f6, a1, a2, a3, a4, a5, a6, a7, a8, a9, a10, a11, a12, a13) p0 p1 p2 := by
  subst h0 h1 h2
  obtain ⟨e1, e2⟩ := te_w1 k hk p hp
  have ct : (nI t).toNatClampNeg = t := nI_clamp (by omega)
  have vt : vp_in (nI t) 3 := pk_in t 3 ht
  have va : vp_in (nI (3 * t + z)) 9 := pk_in (3 * t + z) 9 (by omega)
  unfold wpX_step
  dsimp only
  refine br_f (nI_pos (by omega)) (pk_le 3 t (fun z => absurd z (by omega)) (fun _ => br_f (by decide) (nm_r e1 (nm_r e2 (br_f (nI_pos (by omega)) ?_)))))
  refine pk_lt 5 k (fun z => absurd z (by omega)) (fun _ => pk_lt 2 p (fun z => absurd z (by omega)) (fun _ => pk_lt k 4 (fun _ => ?_) (fun z => absurd z (by omega))))
  unfold wX_step_51
  refine br_f (nI_pos (by omega)) (pk_le w 7 (fun _ => ⟨vt, ?_⟩) (fun z => absurd z (by omega)))
  rw [ct, hs]
  refine pk_eq z 3 (fun z => absurd z (by omega)) (fun _ => ⟨vt, nm_r (e' := nI (3 * t + z)) (by rw [te_m3, nI_add]) ⟨va, ?_⟩⟩)
  rw [nI_clamp (show 3 * t + z < 2 ^ 31 by omega), nI_1]
  refine nm_e ⟨va, nm_e ⟨va, nm_e ⟨vt, vt, nm_e ⟨vt, ?_⟩⟩⟩⟩
  rw [pk_us]
  exact H
end
section
/-- the parts of the code -/
def te_x (c : Int32) (s : Nat) : Nat := ((c >>> ((6 * nI s) &&& 31)) &&& 63).toNatClampNeg
theorem te_xE (c : Int32) (s : Nat) : (c >>> ((6 * nI s) &&& 31)) &&& 63 = nI (te_x c s) ∧ te_x c s < 64 := by
  obtain ⟨j, hj, e⟩ := pk_andE (c >>> ((6 * nI s) &&& 31)) (m := 63) 6 (by decide)
  have c' : te_x c s = j := by
    unfold te_x
    rw [e]
    exact nI_clamp (by omega)
  rw [c']
  exact ⟨e, by omega⟩
theorem te_part {post : Int32 → Prop} (c : Int32) (s : Nat) (H : post (nI (te_x c s))) : wpL_part post () c (nI s) := te_cast (P := post) (te_xE c s).1 H
theorem te_b16 : ∀ o, o < 16 → ∀ i, i < 4 → (nI o >>> (nI i &&& 31)) &&& 1 = nI (o / 2 ^ i % 2) := by decide +kernel
def te_on (o k : Nat) : Nat → Nat
  | 0 => 0
  | i + 1 => te_on o k i + (if i < k then o / 2 ^ i % 2 else 0)
theorem te_atE : ∀ o, o < 16 → ∀ k, k < 4 → te_at o k = (if o / 2 ^ k % 2 = 1 then 2 + te_on o k 4 else k - te_on o k 4) ∧ te_on o k 4 ≤ k := by decide +kernel
theorem te_at6 : ∀ o, o < 16 → ∀ k, k < 4 → te_at o k < 6 := by decide +kernel
theorem te_atW {post : Int32 → Prop} {o k : Nat} (ho : o < 16) (hk : k < 4) (H : post (nI (te_at o k))) : wpL_at post () (nI o) (nI k) := by
  obtain ⟨e, le⟩ := te_atE o ho k hk
  refine pk_loop (σ := Unit) (fun n i _ => wL_at_4 post (nI o) (nI k) n (nI (te_on o k i)) (nI i)) (fun _ _ => True) 4 0 () (by omega) trivial (fun n _ _ => pk_le 4 4 (fun _ => ?_) (fun z => absurd z (by omega))) (fun n i _ hi _ hw => ?_)
  · have b := te_b16 o ho k hk
    refine pk_eq (o / 2 ^ k % 2) 1 (fun z => ?_) (fun z => ?_) (hx := b) (ha := Nat.lt_of_lt_of_le (Nat.mod_lt _ (by decide)) (by decide))
    · rw [if_pos z] at e
      rw [e] at H
      exact te_cast (P := post) (nI_add 2 _) H
    · rw [if_neg z] at e
      rw [e] at H
      exact te_cast (P := post) (pk_sub le) H
  · have g := hw () trivial
    rw [te_on] at g
    refine pk_le 4 i (fun z => absurd z (by omega)) (fun _ => pk_le k i (fun z => ?_) (fun z => ?_))
    · rw [if_neg (by omega)] at g
      exact nm_r (nI_add _ 0) (nm_r (nI_1 i) g)
    · rw [if_pos z] at g
      exact nm_r (by rw [te_b16 o ho i hi, nI_add]) (nm_r (nI_1 i) g)
theorem te_x2 : ∀ v, v < 64 → (nI v >>> ((2 : Int32) &&& 31)) &&& 1 = nI (v / 4 % 2) ∧ nI v &&& 3 = nI (v % 4) ∧ nI v >>> ((3 : Int32) &&& 31) = nI (v / 8) := by decide +kernel
theorem te_s2 : ∀ s, s < 6 → nI s / 2 = nI (s / 2) ∧ 4 * (nI s >>> ((1 : Int32) &&& 31)) = nI (4 * (s / 2)) := by decide +kernel
theorem te_tiedW {post : Int32 → Prop} (c : Int32) {s t : Nat} (hs : s < 6) (ht : t < 6) (H1 : te_ti (te_x c) s t = true → post 1) (H0 : te_ti (te_x c) s t = false → post 0) : wpL_tied post () c (nI s) (nI t) := by
  obtain ⟨a1, a2, a3⟩ := te_x2 _ (te_xE c s).2
  obtain ⟨b1, b2, b3⟩ := te_x2 _ (te_xE c t).2
  refine te_part c s (te_part c t ⟨by decide, by decide, ?_⟩)
  rw [(te_s2 s hs).1, (te_s2 t ht).1, a1, a2, b1, b2]
  have k1 : te_x c s % 4 = te_K (te_x c) s := rfl
  have k2 : te_x c t % 4 = te_K (te_x c) t := rfl
  have p1 : te_x c s / 4 % 2 = te_P (te_x c) s := rfl
  have p2 : te_x c t / 4 % 2 = te_P (te_x c) t := rfl
  rw [k1, k2, p1, p2]
  have m1 := te_K4 (te_x c) s
  have m2 := te_K4 (te_x c) t
  have m3 := te_P2 (te_x c) s
  have m4 := te_P2 (te_x c) t
  unfold te_ti at H1 H0
  refine pk_eq (s / 2) (t / 2) (fun e => H1 (by rw [e]; simp)) (fun e => pk_eq (te_P (te_x c) s) (te_P (te_x c) t) (fun g => pk_eq (te_K (te_x c) s) 0 (fun z1 => pk_eq (te_K (te_x c) t) 0 (fun z2 => H0 ?_) (fun z2 => H1 ?_)) (fun z1 => H1 ?_)) (fun g => H0 ?_))
  · simp [e, z1, z2]
  · simp [g, z2]
  · simp [g, z1]
  · simp [e, g]
/-! played -/
def te_pl (v s : Nat) (w : Int32 × Int32 × Int32) : Int32 × Int32 × Int32 :=
  if nI v &&& 3 = 0 then
    (w.1, (w.2.1 &&& (((7 : Int32) <<< ((4 * (nI s >>> ((1 : Int32) &&& 31))) &&& 31)) ^^^ (-1))) ||| (((w.1 >>> ((4 * ((nI v >>> ((2 : Int32) &&& 31)) &&& 1)) &&& 31)) &&& 7) <<< ((4 * (nI s >>> ((1 : Int32) &&& 31))) &&& 31)), if w.1 &&& 7 ≤ w.2.2 then w.2.2 else w.1 &&& 7)
  else
    ((w.1 &&& (((7 : Int32) <<< ((4 * ((nI v >>> ((2 : Int32) &&& 31)) &&& 1)) &&& 31)) ^^^ (-1))) ||| ((if nI v &&& 3 = 1 then nI v >>> ((3 : Int32) &&& 31) else if nI v &&& 3 = 2 then (((w.2.1 >>> ((4 * (nI s >>> ((1 : Int32) &&& 31))) &&& 31)) &&& 7) + (nI v >>> ((3 : Int32) &&& 31))) &&& 7 else (((w.1 >>> ((4 * ((nI v >>> ((2 : Int32) &&& 31)) &&& 1)) &&& 31)) &&& 7) + (nI v >>> ((3 : Int32) &&& 31))) &&& 7) <<< ((4 * ((nI v >>> ((2 : Int32) &&& 31)) &&& 1)) &&& 31)),
      w.2.1,
      if ((w.1 &&& (((7 : Int32) <<< ((4 * ((nI v >>> ((2 : Int32) &&& 31)) &&& 1)) &&& 31)) ^^^ (-1))) ||| ((if nI v &&& 3 = 1 then nI v >>> ((3 : Int32) &&& 31) else if nI v &&& 3 = 2 then (((w.2.1 >>> ((4 * (nI s >>> ((1 : Int32) &&& 31))) &&& 31)) &&& 7) + (nI v >>> ((3 : Int32) &&& 31))) &&& 7 else (((w.1 >>> ((4 * ((nI v >>> ((2 : Int32) &&& 31)) &&& 1)) &&& 31)) &&& 7) + (nI v >>> ((3 : Int32) &&& 31))) &&& 7) <<< ((4 * ((nI v >>> ((2 : Int32) &&& 31)) &&& 1)) &&& 31))) &&& 7 ≤ w.2.2 then w.2.2
      else ((w.1 &&& (((7 : Int32) <<< ((4 * ((nI v >>> ((2 : Int32) &&& 31)) &&& 1)) &&& 31)) ^^^ (-1))) ||| ((if nI v &&& 3 = 1 then nI v >>> ((3 : Int32) &&& 31) else if nI v &&& 3 = 2 then (((w.2.1 >>> ((4 * (nI s >>> ((1 : Int32) &&& 31))) &&& 31)) &&& 7) + (nI v >>> ((3 : Int32) &&& 31))) &&& 7 else (((w.1 >>> ((4 * ((nI v >>> ((2 : Int32) &&& 31)) &&& 1)) &&& 31)) &&& 7) + (nI v >>> ((3 : Int32) &&& 31))) &&& 7) <<< ((4 * ((nI v >>> ((2 : Int32) &&& 31)) &&& 1)) &&& 31))) &&& 7)
theorem te_p161 {post : Int32 → Prop} {J : Int32 → Int32 → Int32 → Int32 → Prop} {c o x3 x4 x5 : Int32} {k : Nat} (H : J x3 x4 (if x3 &&& 7 ≤ x5 then x5 else x3 &&& 7) (nI (k + 1))) : wL_played_161 post J c o x3 x4 x5 (nI k) := by
  unfold wL_played_161
  refine br_c (fun z => nm_r (nI_1 k) ?_) (fun z => nm_e (nm_r (nI_1 k) ?_))
  · rw [if_pos z] at H
    exact H
  · rw [if_neg z] at H
    exact H
theorem te_p115 {post : Int32 → Prop} {J : Int32 → Int32 → Int32 → Int32 → Prop} {c o x3 x4 x5 x8 x9 x10 x11 z0 : Int32} {k : Nat}
    (H0 : x8 &&& 3 = 0 → J x3 ((x4 &&& (((7 : Int32) <<< (x10 &&& 31)) ^^^ (-1))) ||| (x11 <<< (x10 &&& 31))) (if x3 &&& 7 ≤ x5 then x5 else x3 &&& 7) (nI (k + 1)))
    (H1 : ¬ x8 &&& 3 = 0 → J ((x3 &&& (((7 : Int32) <<< (x9 &&& 31)) ^^^ (-1))) ||| (z0 <<< (x9 &&& 31))) x4 (if ((x3 &&& (((7 : Int32) <<< (x9 &&& 31)) ^^^ (-1))) ||| (z0 <<< (x9 &&& 31))) &&& 7 ≤ x5 then x5 else ((x3 &&& (((7 : Int32) <<< (x9 &&& 31)) ^^^ (-1))) ||| (z0 <<< (x9 &&& 31))) &&& 7) (nI (k + 1))) :
    wL_played_115 post J c o x3 x4 x5 (nI k) x8 x9 x10 x11 z0 := by
  unfold wL_played_115
  exact br_c (fun z => nm_e (te_p161 (H0 z))) (fun z => nm_e (te_p161 (H1 z)))
theorem te_pS {post : Int32 → Prop} {c : Int32} {o k n : Nat} (ho : o < 16) (hk : k < 4) (w : Int32 × Int32 × Int32)
    (H : wL_played_14 post c (nI o) n (te_pl (te_x c (te_at o k)) (te_at o k) w).1 (te_pl (te_x c (te_at o k)) (te_at o k) w).2.1 (te_pl (te_x c (te_at o k)) (te_at o k) w).2.2 (nI (k + 1))) :
    wL_played_14 post c (nI o) (n + 1) w.1 w.2.1 w.2.2 (nI k) := by
  refine pk_le 4 k (fun z => absurd z (by omega)) (fun _ => te_atW ho hk (te_part c (te_at o k) (nm_e (nm_e (nm_e ?_)))))
  generalize te_x c (te_at o k) = v at *
  generalize te_at o k = s at *
  refine br_c (fun z1 => te_p115 (fun z0 => ?_) (fun z0 => ?_)) (fun z1 => br_c (fun z2 => te_p115 (fun z0 => ?_) (fun z0 => ?_)) (fun z2 => te_p115 (fun z0 => ?_) (fun z0 => ?_)))
  · unfold te_pl at H
    rw [if_pos z0] at H
    exact H
  · unfold te_pl at H
    rw [if_neg z0] at H
    rw [if_pos z1] at H
    exact H
  · unfold te_pl at H
    rw [if_pos z0] at H
    exact H
  · unfold te_pl at H
    rw [if_neg z0] at H
    rw [if_neg z1, if_pos z2] at H
    exact H
  · unfold te_pl at H
    rw [if_pos z0] at H
    exact H
  · unfold te_pl at H
    rw [if_neg z0] at H
    rw [if_neg z1, if_neg z2] at H
    exact H
def te_p4 (c : Int32) (o : Nat) (w : Int32 × Int32 × Int32) : Nat → Int32 × Int32 × Int32
  | 0 => w
  | k + 1 => te_pl (te_x c (te_at o k)) (te_at o k) (te_p4 c o w k)
def te_end (w : Int32 × Int32 × Int32) : Int32 := (w.1 ||| (w.2.1 <<< ((8 : Int32) &&& 31))) ||| (w.2.2 <<< ((16 : Int32) &&& 31))
def te_plv (c f : Int32) (o : Nat) : Int32 := te_end (te_p4 c o (f, 0, f &&& 7) 4)
theorem te_playedW {post : Int32 → Prop} (c f : Int32) {o : Nat} (ho : o < 16) (H : post (te_plv c f o)) : wpL_played post () c (nI o) f := by
  unfold wpL_played
  refine nm_e (pk_loop (σ := Unit) (fun n i _ => wL_played_14 post c (nI o) n (te_p4 c o (f, 0, f &&& 7) i).1 (te_p4 c o (f, 0, f &&& 7) i).2.1 (te_p4 c o (f, 0, f &&& 7) i).2.2 (nI i)) (fun _ _ => True) 4 0 () (by omega) trivial (fun n _ _ => pk_le 4 4 (fun _ => H) (fun z => absurd z (by omega))) (fun n i _ hi _ hw => te_pS ho hi _ (hw () trivial)))
/-! the law's own packing -/
def te_pw (q : te_Q) : Int32 × Int32 × Int32 := (nI (q.1 + 16 * q.2.1), nI (q.2.2.1 + 16 * q.2.2.2.1), nI q.2.2.2.2)
theorem te_m4 (p : Nat) : 4 * nI p = nI (4 * p) := pk_mul 4 p
theorem te_le7 {n m : Nat} (hn : n < 2 ^ 31) (hm : m < 8) : (if nI n &&& 7 ≤ nI m then nI m else nI n &&& 7) = nI (max m (n % 8)) := by
  rw [pk_andN (by omega) 3 (by decide)]
  by_cases h : n % 2 ^ 3 ≤ m
  · rw [if_pos (nI_le h (by omega))]
    congr 1
    omega
  · rw [if_neg (nI_ge (by omega) (by omega))]
    congr 1
    omega
theorem te_plq {v s : Nat} (hv : v < 64) (hs : s < 4) {q : te_Q} (hq : te_g8 q) : te_pl v s (te_pw q) = te_pw (te_f (v % 4) (v / 4 % 2) (v / 8) (s / 2) q) := by
  obtain ⟨e1, e2, e3⟩ := te_x2 v hv
  have e4 := (te_s2 s (by omega)).2
  obtain ⟨v0, v1, g0, g1, pk⟩ := q
  obtain ⟨a, b, c, d, e, g⟩ := hq
  dsimp only at a b c d e g
  have hp : v / 4 % 2 < 2 := by omega
  have ht : s / 2 < 2 := by omega
  have hn : v / 8 < 8 := by omega
  have hk : v % 4 < 4 := by omega
  unfold te_pl te_pw
  dsimp only
  rw [e1, e2, e3, e4, te_m4]
  generalize v / 4 % 2 = p at *
  generalize v / 8 = n at *
  generalize v % 4 = k at *
  generalize s / 2 = t at *
  have ev : (nI (v0 + 16 * v1) >>> (nI (4 * p) &&& 31)) &&& 7 = nI (if p = 0 then v0 else v1) := by
    have z : p = 0 ∨ p = 1 := by omega
    rcases z with rfl | rfl
    · rw [te_get (by omega) (by omega)]
      congr 1
      show (v0 + 16 * v1) / 1 % 8 = v0
      omega
    · rw [te_get (by omega) (by omega)]
      congr 1
      show (v0 + 16 * v1) / 16 % 8 = v1
      omega
  have eh : (nI (g0 + 16 * g1) >>> (nI (4 * t) &&& 31)) &&& 7 = nI (if t = 0 then g0 else g1) := by
    have z : t = 0 ∨ t = 1 := by omega
    rcases z with rfl | rfl
    · rw [te_get (by omega) (by omega)]
      congr 1
      show (g0 + 16 * g1) / 1 % 8 = g0
      omega
    · rw [te_get (by omega) (by omega)]
      congr 1
      show (g0 + 16 * g1) / 16 % 8 = g1
      omega
  have v8 : (if p = 0 then v0 else v1) < 8 := by split <;> omega
  have h8 : (if t = 0 then g0 else g1) < 8 := by split <;> omega
  rw [ev, eh, te_add7 _ _ (by omega), te_add7 _ _ (by omega)]
  have en : (if nI k = 1 then nI n else if nI k = 2 then nI (((if t = 0 then g0 else g1) + n) % 8) else nI (((if p = 0 then v0 else v1) + n) % 8)) = nI (te_now k n (if t = 0 then g0 else g1) (if p = 0 then v0 else v1)) := by
    unfold te_now
    by_cases z1 : k = 1
    · rw [if_pos z1, if_pos (by rw [z1]; rfl)]
    · have n1 : ¬ nI k = 1 := fun h => z1 ((nI_eq (a := k) (b := 1) (by omega) (by decide)).mp h)
      rw [if_neg z1, if_neg n1]
      by_cases z2 : k = 2
      · rw [if_pos z2, if_pos (by rw [z2]; rfl)]
      · have n2 : ¬ nI k = 2 := fun h => z2 ((nI_eq (a := k) (b := 2) (by omega) (by decide)).mp h)
        rw [if_neg z2, if_neg n2]
  rw [en]
  by_cases k0 : k = 0
  · have kk : nI k = 0 := by rw [k0]; rfl
    rw [if_pos kk, te_le7 (by omega) e]
    unfold te_f
    dsimp only
    rw [if_pos k0]
    have m : (v0 + 16 * v1) % 8 = v0 := by omega
    rw [m]
    have z : t = 0 ∨ t = 1 := by omega
    rcases z with rfl | rfl
    · rw [if_pos rfl]
      dsimp only
      rw [te_set (o := 0) (lo := 0) (f := g0) (hi := 2 * g1) (E' := (if p = 0 then v0 else v1) + 16 * g1) (by omega) (by omega) c v8 (by omega) (by omega)]
    · rw [if_neg (show ¬ (1 : Nat) = 0 by decide)]
      dsimp only
      rw [te_set (o := 4) (lo := g0) (f := g1) (hi := 0) (E' := g0 + 16 * (if p = 0 then v0 else v1)) (by omega) (by omega) d v8 (by omega) (by omega)]
  · have kk : ¬ nI k = 0 := fun h => k0 ((nI_eq (a := k) (b := 0) (by omega) (by decide)).mp h)
    rw [if_neg kk]
    have w8 : te_now k n (if t = 0 then g0 else g1) (if p = 0 then v0 else v1) < 8 := te_now8 hn
    unfold te_f
    dsimp only
    rw [if_neg k0]
    have z : p = 0 ∨ p = 1 := by omega
    rcases z with rfl | rfl
    · rw [if_pos rfl, if_pos rfl] 
      rw [if_pos rfl] at w8
      generalize te_now k n (if t = 0 then g0 else g1) v0 = w at *
      rw [te_set (o := 0) (lo := 0) (f := v0) (hi := 2 * v1) (E' := w + 16 * v1) (by omega) (by omega) a w8 (by omega) (by omega), te_le7 (by omega) e]
      have m : (w + 16 * v1) % 8 = w := by omega
      rw [m]
    · simp only [if_neg (show ¬ (1 : Nat) = 0 by decide)]
      rw [if_neg (show ¬ (1 : Nat) = 0 by decide)] at w8
      generalize te_now k n (if t = 0 then g0 else g1) v1 = w at *
      rw [te_set (o := 4) (lo := v0) (f := v1) (hi := 0) (E' := v0 + 16 * w) (by omega) (by omega) b w8 (by omega) (by omega), te_le7 (by omega) e]
      have m : (v0 + 16 * w) % 8 = v0 := by omega
      rw [m]
def te_el (q : te_Q) : Nat := q.1 + 16 * q.2.1 + 256 * (q.2.2.1 + 16 * q.2.2.2.1) + 65536 * q.2.2.2.2
theorem te_nIor (a b : Nat) : nI a ||| nI b = nI (a ||| b) := by
  apply Int32.toBitVec_inj.1
  show BitVec.ofNat 32 a ||| BitVec.ofNat 32 b = BitVec.ofNat 32 (a ||| b)
  exact BitVec.ofNat_or.symm
theorem te_endq {q : te_Q} (hq : te_g8 q) : te_end (te_pw q) = nI (te_el q) := by
  obtain ⟨v0, v1, g0, g1, pk⟩ := q
  obtain ⟨a, b, c, d, e, g⟩ := hq
  dsimp only at a b c d e g
  unfold te_end te_pw te_el
  dsimp only
  rw [pk_shlN (n := g0 + 16 * g1) _ 8 (by decide) (by omega), pk_shlN (n := pk) _ 16 (by decide) (by omega), te_nIor, te_nIor]
  congr 1
  have o1 : v0 + 16 * v1 ||| (g0 + 16 * g1) * 2 ^ 8 = 2 ^ 8 * (g0 + 16 * g1) + (v0 + 16 * v1) := by
    rw [Nat.or_comm, Nat.mul_comm, Nat.two_pow_add_eq_or_of_lt (by omega)]
  rw [o1, Nat.or_comm, Nat.mul_comm pk, ← Nat.two_pow_add_eq_or_of_lt (by omega)]
  omega
theorem te_goodrun : ∀ o, o ∈ te_gl 16 → o < 16 ∧ te_at o 0 < 4 ∧ te_at o 1 < 4 ∧ te_at o 2 < 4 ∧ te_at o 3 < 4 := by decide +kernel
theorem te_frm : ∀ a, a < 8 → ∀ b, b < 8 → nI (a + 16 * b) &&& 7 = nI a := by decide +kernel
theorem te_plvE (c : Int32) {s0 s1 : Nat} (h0 : s0 < 8) (h1 : s1 < 8) {o : Nat} (ho : o ∈ te_gl 16) : te_plv c (nI (s0 + 16 * s1)) o = nI (te_el (te_run (te_x c) s0 s1 (te_op o))) := by
  obtain ⟨_, k0, k1, k2, k3⟩ := te_goodrun o ho
  have hx : ∀ i, te_x c i < 64 := fun i => (te_xE c i).2
  have w0 : (nI (s0 + 16 * s1), (0 : Int32), nI (s0 + 16 * s1) &&& 7) = te_pw (te_run (te_x c) s0 s1 []) := by
    rw [te_frm s0 h0 s1 h1]
    rfl
  unfold te_plv
  rw [w0]
  have st : ∀ p i, i < 4 → te_pl (te_x c i) i (te_pw (te_run (te_x c) s0 s1 p)) = te_pw (te_run (te_x c) s0 s1 (i :: p)) := fun p i hi => te_plq (hx i) hi (te_run8 hx h0 h1 p)
  rw [te_p4, te_p4, te_p4, te_p4, te_p4, st _ _ k0, st _ _ k1, st _ _ k2, st _ _ k3]
  exact te_endq (te_run8 hx h0 h1 _)
/-! key -/
theorem te_kS {post : Int32 → Prop} {J : Int32 → Int32 → Prop} {c z : Int32} {o k l n : Nat} (ho : o < 16) (hk : k < 4) (hl : l < k) (H : wL_key_12 post J c (nI o) (nI k) n (te_k1 (te_ti (te_x c)) o k l z) (nI (l + 1))) :
    wL_key_12 post J c (nI o) (nI k) (n + 1) z (nI l) := by
  refine pk_le k l (fun z => absurd z (by omega)) (fun _ => te_atW ho hk (te_atW ho (by omega) (te_tiedW c (te_at6 o ho k hk) (te_at6 o ho l (by omega)) (fun e => br_f (by decide) ?_) (fun e => br_t rfl ?_))))
  · unfold te_k1 at H
    rw [if_pos e] at H
    exact nm_e (nm_r (nI_1 l) H)
  · unfold te_k1 at H
    rw [if_neg (by rw [e]; decide)] at H
    exact nm_r (nI_1 l) H
theorem te_kX {post : Int32 → Prop} {J : Int32 → Int32 → Prop} {c z : Int32} {o k n : Nat} (hk : k < 4) (H : J z (nI (k + 1))) : wL_key_12 post J c (nI o) (nI k) (n + 1) z (nI k) :=
  pk_le k k (fun _ => nm_r (nI_1 k) H) (fun z => absurd z (by omega))
theorem te_keyW {post : Int32 → Prop} (c : Int32) {o : Nat} (ho : o < 16) (H : post (te_ky (te_ti (te_x c)) o)) : wpL_key post () c (nI o) := by
  refine ⟨5, ?_⟩
  refine pk_le 4 0 (fun z => absurd z (by omega)) (fun _ => ⟨1, te_kX (k := 0) (by decide) ?_⟩)
  refine pk_le 4 1 (fun z => absurd z (by omega)) (fun _ => ⟨2, te_kS (k := 1) (l := 0) ho (by decide) (by decide) (te_kX (k := 1) (by decide) ?_)⟩)
  refine pk_le 4 2 (fun z => absurd z (by omega)) (fun _ => ⟨3, te_kS (k := 2) (l := 0) ho (by decide) (by decide) (te_kS (k := 2) (l := 1) ho (by decide) (by decide) (te_kX (k := 2) (by decide) ?_))⟩)
  refine pk_le 4 3 (fun z => absurd z (by omega)) (fun _ => ⟨4, te_kS (k := 3) (l := 0) ho (by decide) (by decide) (te_kS (k := 3) (l := 1) ho (by decide) (by decide) (te_kS (k := 3) (l := 2) ho (by decide) (by decide) (te_kX (k := 3) (by decide) ?_)))⟩)
  exact pk_le 4 4 (fun _ => H) (fun z => absurd z (by omega))
theorem te_kyE (x : Nat → Nat) {o : Nat} (ho : o ∈ te_gl 16) : te_ky (te_ti x) o = te_ky (te_TX x) o := by
  obtain ⟨_, k0, k1, k2, k3⟩ := te_goodrun o ho
  unfold te_ky te_k1
  rw [te_TXe x _ _ k1 k0, te_TXe x _ _ k2 k0, te_TXe x _ _ k2 k1, te_TXe x _ _ k3 k0, te_TXe x _ _ k3 k1, te_TXe x _ _ k3 k2]
end
section
theorem te_cast7 {J : Int32 → Int32 → Int32 → Int32 → Int32 → Int32 → Int32 → Prop} {x5 x6 x7 x8 x9 x10 x12 y5 y6 y7 y8 y9 y10 : Int32} (e5 : x5 = y5) (e6 : x6 = y6) (e7 : x7 = y7) (e8 : x8 = y8) (e9 : x9 = y9) (e10 : x10 = y10) (h : J y5 y6 y7 y8 y9 y10 x12) : J x5 x6 x7 x8 x9 x10 x12 := by
  subst e5 e6 e7 e8 e9 e10
  exact h
def te_fl (b : Bool) : Int32 := if b = true then 1 else 0
theorem te_fl0 {b : Bool} : te_fl b = 0 ↔ b = false := by
  cases b
  · exact ⟨fun _ => rfl, fun _ => rfl⟩
  · exact ⟨fun h => absurd h (by decide), fun h => absurd h (by decide)⟩
def te_o1 (o : Nat) : Nat := o % 2 + o / 2 % 2 + o / 4 % 2 + o / 8 % 2
theorem te_ones : ∀ o, o < 16 → (((nI o &&& 1) + ((nI o >>> ((1 : Int32) &&& 31)) &&& 1)) + ((nI o >>> ((2 : Int32) &&& 31)) &&& 1)) + ((nI o >>> ((3 : Int32) &&& 31)) &&& 1) = nI (te_o1 o) := by decide +kernel
theorem te_o15 (o : Nat) : te_o1 o < 5 := by unfold te_o1; omega
theorem te_gd1 {o : Nat} : te_gd o = true ↔ te_o1 o = 2 := by
  unfold te_gd te_o1
  exact beq_iff_eq
theorem te_gd0 {o : Nat} : te_gd o = false ↔ ¬ te_o1 o = 2 := by
  rw [← te_gd1]
  cases te_gd o <;> simp
theorem te_gdin : ∀ o, o < 16 → te_gd o = true → o ∈ te_gl 16 := by decide +kernel
theorem te_glin : ∀ o, o ≤ 16 → ∀ b, b ∈ te_gl o → b ∈ te_gl 16 := by decide +kernel
/-- no good one ahead of b has o's value -/
def te_fg (f : Nat → Int32) (o b : Nat) : Bool := te_gd o && !(((te_gl b).map f).contains (f o))
theorem te_fg_skip {f : Nat → Int32} {o b : Nat} (h : te_gd b = false) : te_fg f o (b + 1) = te_fg f o b := by
  unfold te_fg
  rw [te_gl, if_neg (by rw [h]; decide)]
theorem te_fg_hit {f : Nat → Int32} {o b : Nat} (h : te_gd b = true) (e : f b = f o) : te_fg f o (b + 1) = false := by
  unfold te_fg
  rw [te_gl, if_pos h, List.map_cons, List.contains_cons, e]
  simp
theorem te_fg_miss {f : Nat → Int32} {o b : Nat} (h : te_gd b = true) (e : ¬ f b = f o) : te_fg f o (b + 1) = te_fg f o b := by
  unfold te_fg
  rw [te_gl, if_pos h, List.map_cons, List.contains_cons, beq_eq_false_iff_ne.mpr (fun z => e z.symm), Bool.false_or]
theorem te_fg_0 (f : Nat → Int32) (o : Nat) : te_fg f o 0 = te_gd o := by
  unfold te_fg
  rw [te_gl]
  simp
theorem te_fg_mem {f : Nat → Int32} {o : Nat} (h : te_gd o = true) : te_fg f o o = true ↔ ¬ f o ∈ (te_gl o).map f := by
  unfold te_fg
  rw [h, Bool.true_and, Bool.not_eq_true', ← Bool.not_eq_true, List.contains_iff_mem]
theorem te_fg_bad {f : Nat → Int32} {o b : Nat} (h : te_gd o = false) : te_fg f o b = false := by
  unfold te_fg
  rw [h, Bool.false_and]
theorem te_255 (x : Int32) : x &&& 119 = (x &&& 255) &&& 119 := by
  rw [Int32.and_assoc]
  rfl
theorem te_v119 : ∀ a, a < 8 → ∀ b, b < 8 → nI (a + 16 * b) &&& 119 = nI (a + 16 * b) := by decide +kernel
theorem te_el31 {q : te_Q} (h : te_g8 q) : te_el q < 524288 := by
  obtain ⟨a, b, c, d, e, _⟩ := h
  unfold te_el
  omega
theorem te_el119 {q : te_Q} (h : te_g8 q) : nI (te_el q) &&& 119 = nI (q.1 + 16 * q.2.1) := by
  have l := te_el31 h
  obtain ⟨a, b, c, d, e, _⟩ := h
  rw [te_255, pk_andN (by omega) 8 (by decide)]
  have m : te_el q % 2 ^ 8 = q.1 + 16 * q.2.1 := by
    unfold te_el
    omega
  rw [m]
  exact te_v119 _ a _ b
theorem te_elF {q : te_Q} (h : te_g8 q) : nI (te_el q) &&& 7 = nI q.1 ∧ (nI (te_el q) >>> ((4 : Int32) &&& 31)) &&& 7 = nI q.2.1 ∧ (nI (te_el q) >>> ((8 : Int32) &&& 31)) &&& 7 = nI q.2.2.1 ∧ (nI (te_el q) >>> ((16 : Int32) &&& 31)) &&& 7 = nI q.2.2.2.2 := by
  have l := te_el31 h
  obtain ⟨a, b, c, d, e, _⟩ := h
  refine ⟨?_, ?_, ?_, ?_⟩
  · rw [pk_andN (by omega) 3 (by decide)]
    congr 1
    unfold te_el
    omega
  · refine (te_get (n := te_el q) (o := 4) (by omega) (by decide)).trans ?_
    congr 1
    unfold te_el
    omega
  · refine (te_get (n := te_el q) (o := 8) (by omega) (by decide)).trans ?_
    congr 1
    unfold te_el
    omega
  · refine (te_get (n := te_el q) (o := 16) (by omega) (by decide)).trans ?_
    congr 1
    unfold te_el
    omega
section
variable {post : Int32 → St0 → Prop} {mc ms : Nat} {J : Int32 → Int32 → Int32 → Int32 → Int32 → Int32 → Int32 → Prop} {c f x5 x6 x7 x8 x9 x10 x11 x13 x14 x15 : Int32} {kc ks : Nat} {f0 f1 f2 f3 f4 f5 f6 : Int32} {a1 a2 a3 a4 a5 a6 a7 a8 a9 a10 a11 a12 a13 : Nat → Int32}
theorem te_tailN {o : Nat} (h : ¬ x13 = 2) (H : J x5 x6 x7 x8 x9 x10 (nI (o + 1))) : wL_lawOf_301 post mc ms J c f x5 x6 x7 x8 x9 x10 x11 (nI o) x13 x14 0 0 kc ks f0 f1 f2 f3 f4 f5 f6 a1 a2 a3 a4 a5 a6 a7 a8 a9 a10 a11 a12 a13 := by
  unfold wL_lawOf_301
  refine br_t rfl ?_
  unfold wL_lawOf_319
  refine br_t rfl ?_
  unfold wL_lawOf_327
  refine nm_e (br_f h ?_)
  unfold wL_lawOf_365
  refine br_f h ?_
  unfold wL_lawOf_386
  exact br_f h (nm_r (nI_1 o) H)
theorem te_tailG {o m8 m10 : Nat} {q : te_Q} (hq : te_g8 q) (h8 : m8 < 8) (h10 : m10 < 1000) (fb ob : Bool) (h13 : x13 = 2)
    (H : J x5 (if ob = true then x6 + 1 else x6) (x7 ||| ((1 : Int32) <<< (nI q.2.2.1 &&& 31))) (nI (max m8 q.2.2.2.2)) (if fb = true ∧ nI (q.1 + 16 * q.2.1) = x11 then x9 + 1 else x9) (nI (min m10 (te_res q))) (nI (o + 1))) :
    wL_lawOf_301 post mc ms J c f x5 x6 x7 (nI m8) x9 (nI m10) x11 (nI o) x13 (nI (te_el q)) (te_fl fb) (te_fl ob) kc ks f0 f1 f2 f3 f4 f5 f6 a1 a2 a3 a4 a5 a6 a7 a8 a9 a10 a11 a12 a13 := by
  have r5 : te_res q < 512 := te_res512 hq
  obtain ⟨e1, e2, e3, e4⟩ := te_elF hq
  have p8 := hq.2.2.2.2.1
  have k386 : ∀ x6 x7 x9 x10 : Int32, J x5 x6 x7 (nI (max m8 q.2.2.2.2)) x9 x10 (nI (o + 1)) → wL_lawOf_386 post mc ms J c f x5 x6 x7 (nI m8) x9 x10 x11 (nI o) x13 (nI (te_el q)) kc ks f0 f1 f2 f3 f4 f5 f6 a1 a2 a3 a4 a5 a6 a7 a8 a9 a10 a11 a12 a13 := by
    intro x6 x7 x9 x10 H
    unfold wL_lawOf_386
    rw [e4]
    refine br_t h13 (pk_le q.2.2.2.2 m8 (fun g => nm_r (nI_1 o) ?_) (fun g => nm_e (nm_r (nI_1 o) ?_)))
    · rw [Nat.max_eq_left g] at H
      exact H
    · rw [Nat.max_eq_right (by omega)] at H
      exact H
  have k327 : ∀ x6 x9 : Int32, J x5 x6 (x7 ||| ((1 : Int32) <<< (nI q.2.2.1 &&& 31))) (nI (max m8 q.2.2.2.2)) x9 (nI (min m10 (te_res q))) (nI (o + 1)) → wL_lawOf_327 post mc ms J c f x5 x6 x7 (nI m8) x9 (nI m10) x11 (nI o) x13 (nI (te_el q)) kc ks f0 f1 f2 f3 f4 f5 f6 a1 a2 a3 a4 a5 a6 a7 a8 a9 a10 a11 a12 a13 := by
    intro x6 x9 H
    have k365 : ∀ x10 : Int32, x10 = nI (min m10 (te_res q)) → wL_lawOf_365 post mc ms J c f x5 x6 x7 (nI m8) x9 x10 x11 (nI o) x13 (nI (te_el q)) kc ks f0 f1 f2 f3 f4 f5 f6 a1 a2 a3 a4 a5 a6 a7 a8 a9 a10 a11 a12 a13 := by
      intro x10 e
      subst e
      unfold wL_lawOf_365
      rw [e3]
      exact br_t h13 (nm_e (k386 _ _ _ _ H))
    unfold wL_lawOf_327
    refine nm_r (e' := nI (te_res q)) ?_ (br_t h13 (pk_le m10 (te_res q) (fun g => k365 _ ?_) (fun g => k365 _ ?_)))
    · rw [e1, e2]
      have m1 : (64 : Int32) * nI q.1 = nI (64 * q.1) := pk_mul 64 q.1
      have m2 : (8 : Int32) * nI q.2.1 = nI (8 * q.2.1) := pk_mul 8 q.2.1
      rw [m1, m2, nI_add]
      rfl
    · rw [Nat.min_eq_left g]
    · rw [Nat.min_eq_right (by omega)]
  have k319 : ∀ x9 : Int32, J x5 (if ob = true then x6 + 1 else x6) (x7 ||| ((1 : Int32) <<< (nI q.2.2.1 &&& 31))) (nI (max m8 q.2.2.2.2)) x9 (nI (min m10 (te_res q))) (nI (o + 1)) → wL_lawOf_319 post mc ms J c f x5 x6 x7 (nI m8) x9 (nI m10) x11 (nI o) x13 (nI (te_el q)) (te_fl ob) kc ks f0 f1 f2 f3 f4 f5 f6 a1 a2 a3 a4 a5 a6 a7 a8 a9 a10 a11 a12 a13 := by
    intro x9 H
    unfold wL_lawOf_319
    cases ob with
    | false => exact br_t rfl (k327 _ _ H)
    | true => exact br_f (by decide) (nm_e (k327 _ _ H))
  unfold wL_lawOf_301
  cases fb with
  | false => exact br_t rfl (k319 _ (by simpa using H))
  | true =>
    rw [te_el119 hq]
    refine br_f (by decide) (br_c (fun z => nm_e (k319 _ ?_)) (fun z => k319 _ ?_))
    · rw [if_pos (show true = true ∧ _ from ⟨rfl, z⟩)] at H
      exact H
    · rw [if_neg (fun g : true = true ∧ _ => z g.2)] at H
      exact H
theorem te_l205 {o : Nat} (ho : o < 16) (h15 : x15 = te_ky (te_ti (te_x c)) o) (h14 : x14 = te_plv c f o) {x16 x17 : Int32} (h16 : x16 = te_fl (te_gd o)) (h17 : x17 = te_fl (te_gd o))
    (H : wL_lawOf_301 post mc ms J c f (if te_fg (te_ky (te_ti (te_x c))) o o = true then x5 + 1 else x5) x6 x7 x8 x9 x10 x11 (nI o) x13 x14 (te_fl (te_fg (te_ky (te_ti (te_x c))) o o)) (te_fl (te_fg (fun b => te_plv c f b &&& 119) o o)) kc ks f0 f1 f2 f3 f4 f5 f6 a1 a2 a3 a4 a5 a6 a7 a8 a9 a10 a11 a12 a13) :
    ∃ n, wL_lawOf_205 post mc ms J c f x5 x6 x7 x8 x9 x10 x11 (nI o) x13 x14 x15 kc ks f0 f1 f2 f3 f4 f5 f6 a1 a2 a3 a4 a5 a6 a7 a8 a9 a10 a11 a12 a13 n x16 x17 0 := by
  subst h16 h17
  have L := pk_loop (σ := Unit) (fun n b _ => wL_lawOf_205 post mc ms J c f x5 x6 x7 x8 x9 x10 x11 (nI o) x13 x14 x15 kc ks f0 f1 f2 f3 f4 f5 f6 a1 a2 a3 a4 a5 a6 a7 a8 a9 a10 a11 a12 a13 n (te_fl (te_fg (te_ky (te_ti (te_x c))) o b)) (te_fl (te_fg (fun b => te_plv c f b &&& 119) o b)) (nI b)) (fun _ _ => True) o 0 () (by omega) trivial
    (fun n _ _ => pk_le o o (fun _ => ?_) (fun z => absurd z (by omega))) (fun n b _ hb _ hw => ?_)
  · rw [te_fg_0, te_fg_0] at L
    exact L
  · cases hf : te_fg (te_ky (te_ti (te_x c))) o o with
    | false =>
      rw [hf] at H
      exact br_t rfl H
    | true =>
      rw [hf] at H
      exact br_f (by decide) (nm_e H)
  · have b16 : b < 16 := by omega
    have w := hw () trivial
    have o5 := te_o15 b
    refine pk_le o b (fun z => absurd z (by omega)) (fun _ => nm_r (te_ones b b16) (pk_eq (te_o1 b) 2 (fun g => ?_) (fun g => ?_)))
    · have gd : te_gd b = true := te_gd1.mpr g
      have k259 : ∀ x16 : Int32, x16 = te_fl (te_fg (te_ky (te_ti (te_x c))) o (b + 1)) → wL_lawOf_259 post mc ms J (wL_lawOf_205 post mc ms J c f x5 x6 x7 x8 x9 x10 x11 (nI o) x13 x14 x15 kc ks f0 f1 f2 f3 f4 f5 f6 a1 a2 a3 a4 a5 a6 a7 a8 a9 a10 a11 a12 a13 n) c f x5 x6 x7 x8 x9 x10 x11 (nI o) x13 x14 x15 x16 (te_fl (te_fg (fun b => te_plv c f b &&& 119) o b)) (nI b) (nI (te_o1 b)) kc ks f0 f1 f2 f3 f4 f5 f6 a1 a2 a3 a4 a5 a6 a7 a8 a9 a10 a11 a12 a13 := by
        intro x16 e
        subst e
        unfold wL_lawOf_259
        rw [g]
        refine br_t rfl (te_playedW c f b16 ?_)
        refine br_c (fun z => nm_r (nI_1 b) ?_) (fun z => nm_r (nI_1 b) ?_)
        · rw [te_fg_hit (f := fun b => te_plv c f b &&& 119) gd (by rw [h14] at z; exact z)] at w
          exact w
        · rw [te_fg_miss (f := fun b => te_plv c f b &&& 119) gd (fun y => z (by rw [h14]; exact y))] at w
          exact w
      refine te_keyW c b16 ?_
      refine br_c (fun z => k259 _ ?_) (fun z => k259 _ ?_)
      · rw [te_fg_hit gd (z.trans h15)]
        rfl
      · rw [te_fg_miss gd (fun y => z (y.trans h15.symm))]
    · have gd : te_gd b = false := te_gd0.mpr g
      rw [te_fg_skip gd, te_fg_skip gd] at w
      unfold wL_lawOf_259
      exact br_f (fun z => g ((nI_eq (a := te_o1 b) (b := 2) (by omega) (by decide)).mp z)) (nm_r (nI_1 b) w)
end
theorem te_frl_c {f g : Nat → Int32} : ∀ l : List Nat, (∀ o, o ∈ l → f o = g o) → te_frl f l = te_frl g l := by
  intro l
  induction l with
  | nil => intro _; rfl
  | cons a l ih =>
    intro h
    have i := ih (fun o ho => h o (List.mem_cons_of_mem _ ho))
    have m : l.map f = l.map g := List.map_congr_left (fun o ho => h o (List.mem_cons_of_mem _ ho))
    rw [te_frl, te_frl, i, m, h a (List.mem_cons_self ..)]
/-- two numberings that tell the same ones apart -/
theorem te_frl_dc {f : Nat → Int32} {g : Nat → Nat} : ∀ l : List Nat, (∀ a b, a ∈ l → b ∈ l → (f a = f b ↔ g a = g b)) → (te_frl f l).length = te_dc (l.map g) := by
  intro l
  induction l with
  | nil => intro _; rfl
  | cons a l ih =>
    intro h
    have i := ih (fun o p ho hp => h o p (List.mem_cons_of_mem _ ho) (List.mem_cons_of_mem _ hp))
    have m : f a ∈ l.map f ↔ g a ∈ l.map g := by
      constructor
      · intro z
        obtain ⟨b, hb, e⟩ := List.mem_map.mp z
        exact List.mem_map.mpr ⟨b, hb, (h b a (List.mem_cons_of_mem _ hb) (List.mem_cons_self ..)).mp e⟩
      · intro z
        obtain ⟨b, hb, e⟩ := List.mem_map.mp z
        exact List.mem_map.mpr ⟨b, hb, (h b a (List.mem_cons_of_mem _ hb) (List.mem_cons_self ..)).mpr e⟩
    rw [te_frl, List.map_cons, te_dc, ← i]
    by_cases z : f a ∈ l.map f
    · rw [if_pos z, if_pos (m.mp z), Nat.add_zero]
    · rw [if_neg z, if_neg (fun y => z (m.mpr y)), List.length_cons]
theorem te_ls1000 : ∀ l : List Nat, te_ls l < 1000 := by
  intro l
  induction l with
  | nil => decide
  | cons a l ih =>
    rw [te_ls]
    omega
theorem te_wr {q : te_Q} (h : te_g8 q) {w0 w1 : Nat} (h0 : w0 < 8) (h1 : w1 < 8) : nI (q.1 + 16 * q.2.1) = nI (w0 + 16 * w1) ↔ te_res q = 64 * w0 + 8 * w1 := by
  obtain ⟨a, b, _⟩ := h
  rw [nI_eq (by omega) (by omega)]
  unfold te_res
  omega
theorem te_ww {q q' : te_Q} (h : te_g8 q) (h' : te_g8 q') : nI (q.1 + 16 * q.2.1) = nI (q'.1 + 16 * q'.2.1) ↔ te_res q = te_res q' := te_wr h h'.1 h'.2.1
end
section
section
variable {post : Int32 → St0 → Prop} {mc ms : Nat} {c : Int32} {kc ks : Nat} {f0 f1 f2 f3 f4 f5 f6 : Int32} {a1 a2 a3 a4 a5 a6 a7 a8 a9 a10 a11 a12 a13 : Nat → Int32} {s0 s1 w0 w1 : Nat}
/-- what the law has counted ahead of order o -/
def te_W (post : Int32 → St0 → Prop) (mc ms : Nat) (c : Int32) (s0 s1 w0 w1 kc ks : Nat) (f0 f1 f2 f3 f4 f5 f6 : Int32) (a1 a2 a3 a4 a5 a6 a7 a8 a9 a10 a11 a12 a13 : Nat → Int32) (n o : Nat) : Prop :=
  wL_lawOf_124 post mc ms c (nI (s0 + 16 * s1)) (nI (w0 + 16 * w1)) kc ks f0 f1 f2 f3 f4 f5 f6 a1 a2 a3 a4 a5 a6 a7 a8 a9 a10 a11 a12 a13 n
    (nI (te_frl (te_ky (te_ti (te_x c))) (te_gl o)).length)
    (nI (te_frl (fun b => te_plv c (nI (s0 + 16 * s1)) b &&& 119) (te_gl o)).length)
    (te_or ((te_gl o).map (fun b => (te_run (te_x c) s0 s1 (te_op b)).2.2.1)))
    (nI (te_pk (te_run (te_x c) s0 s1) (te_gl o)))
    (nI (te_ofc (te_run (te_x c) s0 s1) (te_frl (te_ky (te_ti (te_x c))) (te_gl o)) (64 * w0 + 8 * w1)))
    (nI (te_ls ((te_gl o).map (fun b => te_res (te_run (te_x c) s0 s1 (te_op b))))))
    (nI o)
theorem te_order (h0 : s0 < 8) (h1 : s1 < 8) (hw0 : w0 < 8) (hw1 : w1 < 8) {n o : Nat} (ho : o < 16)
    (H : te_W post mc ms c s0 s1 w0 w1 kc ks f0 f1 f2 f3 f4 f5 f6 a1 a2 a3 a4 a5 a6 a7 a8 a9 a10 a11 a12 a13 n (o + 1)) : te_W post mc ms c s0 s1 w0 w1 kc ks f0 f1 f2 f3 f4 f5 f6 a1 a2 a3 a4 a5 a6 a7 a8 a9 a10 a11 a12 a13 (n + 1) o := by
  have hx : ∀ i, te_x c i < 64 := fun i => (te_xE c i).2
  have o5 := te_o15 o
  refine pk_le 16 o (fun z => absurd z (by omega)) (fun _ => nm_r (te_ones o ho) (te_playedW c _ ho (te_keyW c ho ?_)))
  unfold te_W at H
  cases gd : te_gd o with
  | false =>
    have g : ¬ te_o1 o = 2 := te_gd0.mp gd
    have g2 : ¬ nI (te_o1 o) = 2 := fun z => g ((nI_eq (a := te_o1 o) (b := 2) (by omega) (by decide)).mp z)
    rw [te_gl, if_neg (by rw [gd]; decide)] at H
    refine br_f g2 ?_
    unfold wL_lawOf_187
    refine br_f g2 (te_l205 ho rfl rfl (by rw [gd]; rfl) (by rw [gd]; rfl) ?_)
    rw [te_fg_bad gd, te_fg_bad gd]
    exact te_tailN g2 H
  | true =>
    have g : te_o1 o = 2 := te_gd1.mp gd
    have om : o ∈ te_gl 16 := te_gdin o ho gd
    have hq := te_run8 hx h0 h1 (te_op o)
    have pv := te_plvE c h0 h1 om
    rw [te_gl, if_pos gd] at H
    rw [g]
    refine br_t rfl ?_
    unfold wL_lawOf_187
    refine br_t rfl (te_l205 ho rfl rfl (by rw [gd]; rfl) (by rw [gd]; rfl) ?_)
    rw [pv]
    refine te_tailG hq (te_pk8 (te_run8 hx h0 h1) _) (te_ls1000 _) _ _ rfl ?_
    refine te_cast7 ?_ ?_ rfl rfl ?_ rfl H
    · rw [te_frl]
      by_cases z : te_fg (te_ky (te_ti (te_x c))) o o = true
      · rw [if_pos z, if_neg ((te_fg_mem gd).mp z), nI_1]
        rfl
      · have z' : te_ky (te_ti (te_x c)) o ∈ (te_gl o).map (te_ky (te_ti (te_x c))) := Decidable.of_not_not (fun y => z ((te_fg_mem gd).mpr y))
        rw [if_neg z, if_pos z']
    · rw [te_frl]
      by_cases z : te_fg (fun b => te_plv c (nI (s0 + 16 * s1)) b &&& 119) o o = true
      · rw [if_pos z, if_neg ((te_fg_mem (f := fun b => te_plv c (nI (s0 + 16 * s1)) b &&& 119) gd).mp z), nI_1]
        rfl
      · have z' : te_plv c (nI (s0 + 16 * s1)) o &&& 119 ∈ (te_gl o).map (fun b => te_plv c (nI (s0 + 16 * s1)) b &&& 119) := Decidable.of_not_not (fun y => z ((te_fg_mem (f := fun b => te_plv c (nI (s0 + 16 * s1)) b &&& 119) gd).mpr y))
        rw [if_neg z, if_pos z']
    · rw [te_frl]
      by_cases z : te_fg (te_ky (te_ti (te_x c))) o o = true
      · rw [if_neg ((te_fg_mem gd).mp z)]
        unfold te_ofc
        rw [List.countP_cons]
        by_cases y : te_res (te_run (te_x c) s0 s1 (te_op o)) = 64 * w0 + 8 * w1
        · rw [if_pos ⟨z, (te_wr hq hw0 hw1).mpr y⟩, if_pos (decide_eq_true y), nI_1]
        · rw [if_neg (fun k => y ((te_wr hq hw0 hw1).mp k.2)), if_neg (by rw [decide_eq_true_iff]; exact y)]
          rfl
      · have z' : te_ky (te_ti (te_x c)) o ∈ (te_gl o).map (te_ky (te_ti (te_x c))) := Decidable.of_not_not (fun y => z ((te_fg_mem gd).mpr y))
        rw [if_pos z', if_neg (fun k => z k.1)]
theorem te_wsh : ∀ a, a < 8 → ∀ b, b < 8 → nI (a + 16 * b) >>> ((4 : Int32) &&& 31) = nI b := by decide +kernel
theorem te_l124 (h0 : s0 < 8) (h1 : s1 < 8) (hw0 : w0 < 8) (hw1 : w1 < 8) (O : te_O (te_x c) s0 s1 a1 a2 a3 a4 a5) (H : post 1 ()) :
    ∃ n, wL_lawOf_124 post mc ms c (nI (s0 + 16 * s1)) (nI (w0 + 16 * w1)) kc ks f0 f1 f2 f3 f4 f5 f6 a1 a2 a3 a4 a5 a6 a7 a8 a9 a10 a11 a12 a13 n 0 0 0 0 0 999 0 := by
  have hx : ∀ i, te_x c i < 64 := fun i => (te_xE c i).2
  have L := pk_loop (σ := Unit) (fun n o _ => te_W post mc ms c s0 s1 w0 w1 kc ks f0 f1 f2 f3 f4 f5 f6 a1 a2 a3 a4 a5 a6 a7 a8 a9 a10 a11 a12 a13 n o) (fun _ _ => True) 16 0 () (by omega) trivial
    (fun n _ _ => ?_) (fun n o _ ho _ hw => te_order h0 h1 hw0 hw1 ho (hw () trivial))
  · exact L
  have ek : te_frl (te_ky (te_TX (te_x c))) (te_gl 16) = te_frl (te_ky (te_ti (te_x c))) (te_gl 16) := te_frl_c _ (fun o ho => (te_kyE (te_x c) ho).symm)
  have ed : (te_frl (fun b => te_plv c (nI (s0 + 16 * s1)) b &&& 119) (te_gl 16)).length = te_dc (te_L (te_run (te_x c) s0 s1)) := by
    refine te_frl_dc (g := fun b => te_res (te_run (te_x c) s0 s1 (te_op b))) _ (fun a b ha hb => ?_)
    rw [te_plvE c h0 h1 ha, te_plvE c h0 h1 hb, te_el119 (te_run8 hx h0 h1 _), te_el119 (te_run8 hx h0 h1 _)]
    exact te_ww (te_run8 hx h0 h1 _) (te_run8 hx h0 h1 _)
  unfold te_W
  refine pk_le 16 16 (fun _ => ?_) (fun z => absurd z (by omega))
  refine te_runs hx h0 h1 O (fun _ _ _ _ _ _ _ _ _ _ _ _ _ => ?_)
  dsimp only
  refine br_t rfl (te_kinds hx h0 h1 O (fun _ _ _ _ _ _ _ _ _ _ _ _ _ => ?_))
  dsimp only
  refine br_t (by rw [ek]) (te_results hx h0 h1 O (fun _ _ _ _ _ _ _ _ _ _ _ _ _ => ?_))
  dsimp only
  refine br_t (by rw [ed]) (te_stuckKinds hx h0 h1 O (fun _ _ _ _ _ _ _ _ _ _ _ _ _ => ?_))
  dsimp only
  refine br_t rfl (te_kindsOf hx h0 h1 O (r := 64 * w0 + 8 * w1) (by omega) ?_ (fun _ _ _ _ _ _ _ _ _ _ _ _ _ => ?_))
  · rw [te_frm w0 hw0 w1 hw1, te_wsh w0 hw0 w1 hw1]
    have m1 : (64 : Int32) * nI w0 = nI (64 * w0) := pk_mul 64 w0
    have m2 : (8 : Int32) * nI w1 = nI (8 * w1) := pk_mul 8 w1
    rw [m1, m2, nI_add]
  dsimp only
  refine br_t (by rw [ek]) (te_nextResult hx h0 h1 O (fun _ _ _ _ _ _ _ _ _ _ _ _ _ => ?_))
  dsimp only
  refine br_t rfl (te_endings hx h0 h1 O (fun _ _ _ _ _ _ _ _ _ _ _ _ _ => ?_))
  dsimp only
  refine br_t rfl (te_peak hx h0 h1 O (fun _ _ _ _ _ _ _ _ _ _ _ _ _ => ?_))
  dsimp only
  refine br_t rfl (te_shortest hx h0 h1 O (fun _ _ _ _ _ _ _ _ _ _ _ _ _ => ?_))
  exact br_t rfl H
end
theorem te_m119 : ∀ j, j < 128 → nI j &&& 119 = nI (j % 8 + 16 * (j / 16)) := by decide +kernel
theorem te_and119 (y : Int32) : ∃ a b : Nat, a < 8 ∧ b < 8 ∧ y &&& 119 = nI (a + 16 * b) := by
  obtain ⟨j, hj, e⟩ := pk_andE y (m := 127) 7 (by decide)
  have e2 : y &&& 119 = (y &&& 127) &&& 119 := by
    rw [Int32.and_assoc]
    rfl
  refine ⟨j % 8, j / 16, by omega, by omega, ?_⟩
  rw [e2, e]
  exact te_m119 j (by omega)
theorem te_i1 : ∀ i, i < 4 → nI i >>> ((1 : Int32) &&& 31) = nI (i / 2) ∧ nI (i % 2 + 1) = 1 + (nI i &&& 1) := by decide +kernel
theorem te_ixne {i k : Nat} (h : k < i) (hi : i < 4) : te_ix k ≠ te_ix i := by unfold te_ix; omega
theorem te_l38 {post : Int32 → St0 → Prop} {mc ms : Nat} {c p2 : Int32} {kc ks : Nat} {f0 f1 f2 f3 f4 f5 f6 : Int32} {a1 a2 a3 a4 a5 a6 a7 a8 a9 a10 a11 a12 a13 : Nat → Int32} {s0 s1 : Nat} (h0 : s0 < 8) (h1 : s1 < 8) (z1 : ∀ j, a1 j = 0) (o0 : a5 0 = nI s0) (o1 : a5 1 = nI s1) (o2 : a5 2 = nI 0) (H : post 1 ()) :
    ∃ n, wL_lawOf_38 post mc ms c p2 (nI (s0 + 16 * s1)) kc ks n 0 f0 f1 f2 f3 f4 f5 f6 a1 a2 a3 a4 a5 a6 a7 a8 a9 a10 a11 a12 a13 := by
  have hx : ∀ i, te_x c i < 64 := fun i => (te_xE c i).2
  refine pk_loop (σ := (Nat → Int32) × (Nat → Int32) × (Nat → Int32) × (Nat → Int32)) (fun n i s => wL_lawOf_38 post mc ms c p2 (nI (s0 + 16 * s1)) kc ks n (nI i) f0 f1 f2 f3 f4 f5 f6 s.1 s.2.1 s.2.2.1 s.2.2.2 a5 a6 a7 a8 a9 a10 a11 a12 a13)
    (fun i s => s.1 0 = nI (min i 2) ∧ s.1 1 = nI (i - 2) ∧ s.1 2 = nI 0 ∧ ∀ k, k < i → s.2.1 (te_ix k) = nI (te_K (te_x c) k) ∧ s.2.2.1 (te_ix k) = nI (te_P (te_x c) k) ∧ s.2.2.2 (te_ix k) = nI (te_N (te_x c) k)) 4 0 (a1, a2, a3, a4) (by omega) ⟨z1 0, z1 1, z1 2, fun k hk => absurd hk (by omega)⟩ (fun n s h => ?_) (fun n i s hi h hw => ?_)
  · obtain ⟨w0, w1, hw0, hw1, e⟩ := te_and119 p2
    refine pk_le 4 4 (fun _ => nm_r e ?_) (fun z => absurd z (by omega))
    exact te_l124 h0 h1 hw0 hw1 ⟨h, o0, o1, o2⟩ H
  · obtain ⟨b1, b2, b3, b4⟩ := s
    obtain ⟨g0, g1, g2, g3⟩ := h
    dsimp only at g0 g1 g2 g3
    obtain ⟨e1, e2⟩ := te_i1 i hi
    obtain ⟨u1, u2, u3⟩ := te_x2 _ (hx i)
    have kk := te_K4 (te_x c) i
    have pp := te_P2 (te_x c) i
    have nn : te_N (te_x c) i < 8 := by have := hx i; unfold te_N; omega
    refine pk_le 4 i (fun z => absurd z (by omega)) (fun _ => te_part c i ?_)
    have hs : b1 (i / 2) = nI (i % 2) := by
      rcases te_four hi with rfl | rfl | rfl | rfl
      · exact g0
      · exact g0
      · exact g1
      · exact g1
    refine te_stepT (t := i / 2) (k := te_K (te_x c) i) (p := te_P (te_x c) i) (w := te_N (te_x c) i) (z := i % 2) (by omega) kk pp nn (by omega) e1 ?_ u3 hs ?_
    · rw [u1, u2]
      have m : (8 : Int32) * nI (te_x c i % 4) = nI (8 * (te_x c i % 4)) := pk_mul 8 _
      rw [m, nI_add]
      rfl
    dsimp only
    refine br_t e2 (nm_r (nI_1 i) (hw (upd b1 (i / 2) (nI (i % 2 + 1)), upd b2 (3 * (i / 2) + i % 2) (nI (te_K (te_x c) i)), upd b3 (3 * (i / 2) + i % 2) (nI (te_P (te_x c) i)), upd b4 (3 * (i / 2) + i % 2) (nI (te_N (te_x c) i))) ⟨?_, ?_, ?_, ?_⟩))
    · rcases te_four hi with rfl | rfl | rfl | rfl
      · show upd b1 0 (nI 1) 0 = nI 1
        exact pk_us
      · show upd b1 0 (nI 2) 0 = nI 2
        exact pk_us
      · show upd b1 1 (nI 1) 0 = nI 2
        exact (pk_un (by decide)).trans g0
      · show upd b1 1 (nI 2) 0 = nI 2
        exact (pk_un (by decide)).trans g0
    · rcases te_four hi with rfl | rfl | rfl | rfl
      · show upd b1 0 (nI 1) 1 = nI 0
        exact (pk_un (by decide)).trans g1
      · show upd b1 0 (nI 2) 1 = nI 0
        exact (pk_un (by decide)).trans g1
      · show upd b1 1 (nI 1) 1 = nI 1
        exact pk_us
      · show upd b1 1 (nI 2) 1 = nI 2
        exact pk_us
    · rcases te_four hi with rfl | rfl | rfl | rfl
      · show upd b1 0 (nI 1) 2 = nI 0
        exact (pk_un (by decide)).trans g2
      · show upd b1 0 (nI 2) 2 = nI 0
        exact (pk_un (by decide)).trans g2
      · show upd b1 1 (nI 1) 2 = nI 0
        exact (pk_un (by decide)).trans g2
      · show upd b1 1 (nI 2) 2 = nI 0
        exact (pk_un (by decide)).trans g2
    · intro k hk
      dsimp only
      by_cases e : k = i
      · subst e
        exact ⟨pk_us, pk_us, pk_us⟩
      · have ne : te_ix k ≠ 3 * (i / 2) + i % 2 := te_ixne (by omega) hi
        rw [pk_un ne, pk_un ne, pk_un ne]
        exact g3 k (by omega)
theorem te_lawOf {post : Int32 → St0 → Prop} (p0 p1 p2 : Int32) (H : post 1 ()) : wpL_lawOf post 346 5536 () p0 p1 p2 := by
  obtain ⟨s0, s1, h0, h1, e⟩ := te_and119 p1
  refine ⟨by decide, by decide, 13, 605, by decide, by decide, ?_⟩
  refine ⟨by decide, by decide, by decide, by decide, by decide, by decide, by decide, by decide, by decide, by decide, by decide, by decide, by decide, by decide, by decide, by decide, by decide, by decide, by decide, by decide, by decide, by decide, by decide, by decide, by decide, by decide, ?_⟩
  dsimp only
  refine nm_r e ?_
  refine te_initial (v := 0) (w := s0) (by decide) h0 rfl (te_frm s0 h0 s1 h1) (fun _ => ?_)
  dsimp only
  refine te_initial (v := 1) (w := s1) (by decide) h1 rfl (te_wsh s0 h0 s1 h1) (fun _ => ?_)
  dsimp only
  refine te_l38 h0 h1 (fun _ => rfl) ?_ ?_ ?_ H
  · rw [pk_un (by decide)]
    exact pk_us
  · exact pk_us
  · rw [pk_un (by decide), pk_un (by decide)]
    rfl
theorem te_cell {post : Int32 → Prop} {L : Nat} {xs : Nat → Int32} (hL : L ≤ 3) {i : Nat} (hi : i < 3) {p : Int32} (hp : p = nI i) (H : ∀ r, post r) : wpL_cellAt post L xs () p := by
  subst hp
  exact pk_le L i (fun _ => H _) (fun z => ⟨pk_in i L z, H _⟩)
theorem i_vc (xs : Nat → Int32) (L : Nat) (hL : L ≤ 3) : wpL_law (fun r => r = 1) L xs := by
  refine te_cell hL (i := 0) (by decide) rfl (fun r1 => te_cell hL (i := 1) (by decide) rfl (fun r2 => te_cell hL (i := 2) (by decide) rfl (fun r3 => ?_)))
  exact ⟨346, 5536, by decide, by decide, te_lawOf r1 r2 r3 rfl⟩
end
