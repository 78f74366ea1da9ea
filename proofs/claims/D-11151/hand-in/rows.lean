section
/-! The pure pictures: lists for the arrays (top first), the compiler and the machine as functions over lists -/
theorem zq_b8 : ∀ n, n < 128 → (nI n).toInt8.toInt32 = nI n := by decide +kernel
theorem zq_nb {n : Nat} (h : n < 128) : vp_nar .byte (nI n) = nI n := by rw [vp_nar_byte, zq_b8 n h]
theorem zq_lt {α : Type} {T : List α} {d : Nat} {x : α} (h : T[d]? = some x) : d < T.length := by
  obtain ⟨h1, _⟩ := List.getElem?_eq_some_iff.mp h
  exact h1
theorem zq_ge {α : Type} {T : List α} {d : Nat} (h : d < T.length) : ∃ x, T[d]? = some x := ⟨T[d], List.getElem?_eq_getElem h⟩
/-- an array holds a stack: the list's head is the top -/
def zq_A {α : Type} (f : α → Int32) (T : List α) (a : Nat → Int32) : Prop := T.length ≤ 16 ∧ ∀ (i d : Nat) (x : α), i + d + 1 = T.length → T[d]? = some x → a i = f x
theorem zq_A_push {α : Type} {f : α → Int32} {T : List α} {a : Nat → Int32} {x : α} (h : zq_A f T a) (hl : T.length < 16) : zq_A f (x :: T) (upd a T.length (f x)) := by
  refine ⟨by rw [List.length_cons]; omega, fun i d y hi hy => ?_⟩
  rw [List.length_cons] at hi
  cases d with
  | zero =>
    have e : i = T.length := by omega
    have e2 : x = y := by simpa using hy
    rw [e, pk_us, e2]
  | succ d =>
    rw [pk_un (by omega)]
    exact h.2 i d y (by omega) hy
theorem zq_A_pop {α : Type} {f : α → Int32} {T : List α} {a : Nat → Int32} {x : α} (h : zq_A f (x :: T) a) : zq_A f T a := by
  have h1 := h.1
  rw [List.length_cons] at h1
  exact ⟨by omega, fun i d y hi hy => h.2 i (d + 1) y (by rw [List.length_cons]; omega) (by rw [List.getElem?_cons_succ]; exact hy)⟩
theorem zq_A_top {α : Type} {f : α → Int32} {T : List α} {a : Nat → Int32} {x y : α} (h : zq_A f (x :: T) a) : zq_A f (y :: T) (upd a T.length (f y)) := by
  have h1 := h.1
  rw [List.length_cons] at h1
  exact zq_A_push (zq_A_pop h) (by omega)
theorem zq_rotlen {α : Type} {T : List α} {d : Nat} {x : α} (hd : T[d]? = some x) : (x :: T.eraseIdx d).length = T.length := by
  have hl := zq_lt hd
  rw [List.length_cons, List.length_eraseIdx_of_lt hl]
  omega
theorem zq_A_rot {α : Type} {f : α → Int32} {T : List α} {a a' : Nat → Int32} {d : Nat} {x : α} (h : zq_A f T a) (hd : T[d]? = some x)
    (h1 : ∀ j, j + d + 1 < T.length → a' j = a j) (h2 : ∀ j, T.length ≤ j + d + 1 → j + 1 < T.length → a' j = a (j + 1)) (h3 : ∀ j, j + 1 = T.length → a' j = f x) : zq_A f (x :: T.eraseIdx d) a' := by
  have hl := zq_lt hd
  have el := zq_rotlen hd
  refine ⟨by rw [el]; exact h.1, fun i e y hi hy => ?_⟩
  rw [el] at hi
  cases e with
  | zero =>
    have e2 : x = y := by simpa using hy
    rw [h3 i (by omega), e2]
  | succ e =>
    rw [List.getElem?_cons_succ, List.getElem?_eraseIdx] at hy
    by_cases c : e < d
    · rw [if_pos c] at hy
      rw [h2 i (by omega) (by omega)]
      exact h.2 (i + 1) e y (by omega) hy
    · rw [if_neg c] at hy
      rw [h1 i (by omega)]
      exact h.2 i (e + 1) y (by omega) hy
/-- two arrays hold the code -/
def zq_C (C : List (Nat × Nat)) (a6 a7 : Nat → Int32) : Prop := C.length ≤ 560 ∧ ∀ (i : Nat) (x : Nat × Nat), C[i]? = some x → a6 i = nI x.1 ∧ a7 i = nI x.2
theorem zq_C_add {C : List (Nat × Nat)} {a6 a7 : Nat → Int32} {o n : Nat} (h : zq_C C a6 a7) (hl : C.length < 560) : zq_C (C ++ [(o, n)]) (upd a6 C.length (nI o)) (upd a7 C.length (nI n)) := by
  refine ⟨by rw [List.length_append, List.length_singleton]; omega, fun i x hx => ?_⟩
  by_cases e : i = C.length
  · rw [e, List.getElem?_concat_length] at hx
    have e2 : (o, n) = x := Option.some.inj hx
    rw [e, pk_us, pk_us, ← e2]
    exact ⟨rfl, rfl⟩
  · have hi := zq_lt hx
    rw [List.length_append, List.length_singleton] at hi
    rw [List.getElem?_append_left (by omega)] at hx
    rw [pk_un e, pk_un e]
    exact h.2 i x hx
/-- an array holds what was printed -/
def zq_O (l : List Int32) (a : Nat → Int32) : Prop := l.length ≤ 64 ∧ ∀ (i : Nat) (x : Int32), l[i]? = some x → a i = x
theorem zq_O_add {l : List Int32} {a : Nat → Int32} {v : Int32} (h : zq_O l a) (hl : l.length < 64) : zq_O (l ++ [v]) (upd a l.length v) := by
  refine ⟨by rw [List.length_append, List.length_singleton]; omega, fun i x hx => ?_⟩
  by_cases e : i = l.length
  · rw [e, List.getElem?_concat_length] at hx
    have e2 : v = x := Option.some.inj hx
    rw [e, pk_us, e2]
  · have hi := zq_lt hx
    rw [List.length_append, List.length_singleton] at hi
    rw [List.getElem?_append_left (by omega)] at hx
    rw [pk_un e]
    exact h.2 i x hx
/-- the first place of w, from the top -/
def zq_ix (w : Nat) : List Nat → Option Nat
  | [] => none
  | x :: r => if x = w then some 0 else (zq_ix w r).map (· + 1)
theorem zq_ix_some {w : Nat} : ∀ {T : List Nat} {d : Nat}, zq_ix w T = some d → T[d]? = some w ∧ ∀ j, j < d → T[j]? ≠ some w := by
  intro T
  induction T with
  | nil =>
    intro d h
    exact absurd h (by simp [zq_ix])
  | cons x r ih =>
    intro d h
    by_cases e : x = w
    · rw [zq_ix, if_pos e] at h
      obtain rfl : 0 = d := Option.some.inj h
      exact ⟨by rw [e]; rfl, fun j hj => absurd hj (by omega)⟩
    · rw [zq_ix, if_neg e] at h
      cases hr : zq_ix w r with
      | none =>
        rw [hr] at h
        exact absurd h (by simp)
      | some k =>
        rw [hr] at h
        obtain rfl : k + 1 = d := Option.some.inj h
        obtain ⟨h1, h2⟩ := ih hr
        refine ⟨h1, fun j hj => ?_⟩
        cases j with
        | zero =>
          intro g
          exact e (by simpa using g)
        | succ j => exact h2 j (by omega)
theorem zq_ix_none {w : Nat} : ∀ {T : List Nat}, zq_ix w T = none → ∀ j : Nat, T[j]? ≠ some w := by
  intro T
  induction T with
  | nil =>
    intro h j g
    exact absurd g (by simp)
  | cons x r ih =>
    intro h
    by_cases e : x = w
    · rw [zq_ix, if_pos e] at h
      exact absurd h (by simp)
    · rw [zq_ix, if_neg e] at h
      cases hr : zq_ix w r with
      | none =>
        intro j
        cases j with
        | zero =>
          intro g
          exact e (by simpa using g)
        | succ j => exact ih hr j
      | some k =>
        rw [hr] at h
        exact absurd h (by simp)
/-! the compiler over lists: the code, the layout (top first) -/
abbrev zq_Q : Type := List (Nat × Nat) × List Nat
def zq_K (s : zq_Q) (a6 a7 a8 : Nat → Int32) : Prop := zq_C s.1 a6 a7 ∧ zq_A nI s.2 a8 ∧ ∀ x, x ∈ s.2 → x < 128
def zq_wr (o n : Nat) (s : zq_Q) : Option zq_Q := if s.1.length < 560 ∧ o < 128 then some (s.1 ++ [(o, n)], s.2) else none
def zq_ps (x : Nat) (s : zq_Q) : Option zq_Q := if s.2.length < 16 ∧ x < 128 then some (s.1, x :: s.2) else none
def zq_pc (d : Nat) (C : List (Nat × Nat)) : List (Nat × Nat) := if d = 0 then C else C ++ [(7, d)]
def zq_pu (w : Nat) (s : zq_Q) : Option zq_Q := (zq_ix w s.2).bind fun d => if s.1.length < 560 ∧ w < 128 then some (zq_pc d s.1, w :: s.2.eraseIdx d) else none
def zq_pop (s : zq_Q) : Option zq_Q := match s.2 with
  | [] => none
  | _ :: r => some (s.1, r)
def zq_top (x : Nat) (s : zq_Q) : Option zq_Q := (zq_pop s).bind fun s1 => if x < 128 then some (s1.1, x :: s1.2) else none
def zq_du (v : Nat) (s : zq_Q) : Option zq_Q := (zq_ix v s.2).bind fun d => (zq_wr 1 d s).bind (zq_ps 9)
def zq_mv (v : Nat) (s : zq_Q) : Option zq_Q := (zq_pu v s).bind (zq_top 9)
def zq_fe (t v : Nat) (s : zq_Q) : Option zq_Q := if t = v then zq_mv v s else zq_du v s
def zq_dr (v : Nat) (s : zq_Q) : Option zq_Q := (zq_pu v s).bind fun s1 => (zq_wr 8 0 s1).bind fun s2 => (zq_pop s2).bind (zq_top v)
def zq_se (v : Nat) (s : zq_Q) : Option zq_Q := if zq_ix v s.2 = none then zq_top v s else zq_dr v s
def zq_ca (k t : Nat) (s : zq_Q) : Option zq_Q := (zq_fe t 3 s).bind fun s1 => (zq_fe t 5 s1).bind fun s2 => (zq_wr k 0 s2).bind zq_pop
def zq_s0 (k t : Nat) (s : zq_Q) : Option zq_Q := (if k = 1 then zq_fe t 3 s else zq_ca k t s).bind (zq_se t)
def zq_s1 (t : Nat) (s : zq_Q) : Option zq_Q := (zq_du t s).bind fun s1 => (zq_wr 9 0 s1).bind zq_pop
def zq_fx : Nat → Nat → List Nat → Nat
  | 0, i, _ => i
  | n + 1, i, T => if T[T.length - 1 - i]? = some i then zq_fx n (i + 1) T else i
def zq_al : Nat → Nat → zq_Q → Option zq_Q
  | 0, _, s => some s
  | n + 1, i, s => (zq_pu i s).bind (zq_al n (i + 1))
def zq_an (s : zq_Q) : Option zq_Q := if s.2.length = 6 then zq_al (6 - zq_fx 6 0 s.2) (zq_fx 6 0 s.2) s else none
def zq_pl : Nat → Nat → zq_Q → Option zq_Q
  | 0, _, s => some s
  | n + 1, i, s => (zq_ps i s).bind (zq_pl n (i + 1))
def zq_cm (k t : Nat) : Option zq_Q := (zq_pl 6 0 ([], [])).bind fun s0 => (zq_s0 k t s0).bind fun s1 => (zq_s1 t s1).bind zq_an
/-! the machine over lists: the stack (top first), what was printed -/
abbrev zq_M : Type := List Int32 × List Int32
def zq_cp (o : Nat) (p q : Int32) : Int32 := if o = 2 then p + q else if o = 3 then p - q else if o = 4 then p * q else if o = 5 then p ^^^ q else if q ≤ p then 0 else 1
def zq_st (x : Nat × Nat) (s : zq_M) : Option zq_M :=
  if x.1 = 1 then (s.1[x.2]?).bind fun v => if s.1.length < 16 then some (v :: s.1, s.2) else none
  else if x.1 = 7 then (s.1[x.2]?).bind fun v => some (v :: s.1.eraseIdx x.2, s.2)
  else match s.1 with
    | [] => none
    | y :: r =>
      if x.1 = 8 then some (r, s.2)
      else if x.1 = 9 then (if s.2.length < 64 then some (r, s.2 ++ [y]) else none)
      else if 2 ≤ x.1 ∧ x.1 ≤ 6 then (match r with
        | [] => none
        | z :: r' => some (zq_cp x.1 z y :: r', s.2))
      else none
def zq_ex : List (Nat × Nat) → zq_M → Option zq_M
  | [], s => some s
  | x :: r, s => (zq_st x s).bind (zq_ex r)
def zq_due (k : Nat) (p q : Int32) : Int32 := if k = 1 then p else zq_cp k p q
def zq_fin (t : Nat) (d p q : Int32) : List Int32 := [if t = 5 then d else q, if t = 4 then d else 0, if t = 3 then d else p, if t = 2 then d else 0, if t = 1 then d else 0, if t = 0 then d else 0]
/-- the code of the law's program: copied from what the pure compiler answers -/
def zq_tab (k t : Nat) : List (Nat × Nat) :=
  if k = 1 then (match t with
    | 0 => [(1, 2), (7, 6), (8, 0), (1, 0), (9, 0), (7, 5), (7, 5), (7, 5), (7, 5), (7, 5)]
    | 1 => [(1, 2), (7, 5), (8, 0), (1, 0), (9, 0), (7, 4), (7, 4), (7, 4), (7, 4)]
    | 2 => [(1, 2), (7, 4), (8, 0), (1, 0), (9, 0), (7, 3), (7, 3), (7, 3)]
    | 3 => [(7, 2), (1, 0), (9, 0), (7, 2), (7, 2)]
    | 4 => [(1, 2), (7, 2), (8, 0), (1, 0), (9, 0), (7, 1)]
    | _ => [(1, 2), (7, 1), (8, 0), (1, 0), (9, 0)])
  else (match t with
    | 0 => [(1, 2), (1, 1), (k, 0), (7, 6), (8, 0), (1, 0), (9, 0), (7, 5), (7, 5), (7, 5), (7, 5), (7, 5)]
    | 1 => [(1, 2), (1, 1), (k, 0), (7, 5), (8, 0), (1, 0), (9, 0), (7, 4), (7, 4), (7, 4), (7, 4)]
    | 2 => [(1, 2), (1, 1), (k, 0), (7, 4), (8, 0), (1, 0), (9, 0), (7, 3), (7, 3), (7, 3)]
    | 3 => [(7, 2), (1, 1), (k, 0), (1, 0), (9, 0), (7, 2), (7, 2)]
    | 4 => [(1, 2), (1, 1), (k, 0), (7, 2), (8, 0), (1, 0), (9, 0), (7, 1)]
    | _ => [(1, 2), (7, 1), (k, 0), (1, 0), (9, 0)])
theorem zq_cm_tab {k t : Nat} (h1 : 1 ≤ k) (h6 : k ≤ 6) (ht : t ≤ 5) : zq_cm k t = some (zq_tab k t, [5, 4, 3, 2, 1, 0]) := by
  have ek : k = 1 ∨ k = 2 ∨ k = 3 ∨ k = 4 ∨ k = 5 ∨ k = 6 := by omega
  have et : t = 0 ∨ t = 1 ∨ t = 2 ∨ t = 3 ∨ t = 4 ∨ t = 5 := by omega
  rcases ek with rfl | rfl | rfl | rfl | rfl | rfl <;> rcases et with rfl | rfl | rfl | rfl | rfl | rfl <;> rfl
theorem zq_ex_tab (p q : Int32) {k t : Nat} (h1 : 1 ≤ k) (h6 : k ≤ 6) (ht : t ≤ 5) : zq_ex (zq_tab k t) ([q, 0, p, 0, 0, 0], []) = some (zq_fin t (zq_due k p q) p q, [zq_due k p q]) := by
  have ek : k = 1 ∨ k = 2 ∨ k = 3 ∨ k = 4 ∨ k = 5 ∨ k = 6 := by omega
  have et : t = 0 ∨ t = 1 ∨ t = 2 ∨ t = 3 ∨ t = 4 ∨ t = 5 := by omega
  rcases ek with rfl | rfl | rfl | rfl | rfl | rfl <;> rcases et with rfl | rfl | rfl | rfl | rfl | rfl <;> rfl
/-! rows of the pictures -/
theorem zq_K_top {C : List (Nat × Nat)} {r : List Nat} {x y : Nat} {a6 a7 a8 : Nat → Int32} (h : zq_K (C, y :: r) a6 a7 a8) (hx : x < 128) : zq_K (C, x :: r) a6 a7 (upd a8 r.length (nI x)) :=
  ⟨h.1, zq_A_top h.2.1, fun z hz => (List.mem_cons.mp hz).elim (fun e => by rw [e]; exact hx) (fun e => h.2.2 z (List.mem_cons_of_mem _ e))⟩
theorem zq_K_pop {C : List (Nat × Nat)} {r : List Nat} {y : Nat} {a6 a7 a8 : Nat → Int32} (h : zq_K (C, y :: r) a6 a7 a8) : zq_K (C, r) a6 a7 a8 :=
  ⟨h.1, zq_A_pop h.2.1, fun z hz => h.2.2 z (List.mem_cons_of_mem _ hz)⟩
theorem zq_pop_s {s s' : zq_Q} (h : zq_pop s = some s') : ∃ C y r, s = (C, y :: r) ∧ s' = (C, r) := by
  obtain ⟨C, T⟩ := s
  cases T with
  | nil => exact absurd h (by simp [zq_pop])
  | cons y r => exact ⟨C, y, r, rfl, (Option.some.inj h).symm⟩
theorem zq_top_s {x : Nat} {s s' : zq_Q} (h : zq_top x s = some s') : ∃ C y r, s = (C, y :: r) ∧ s' = (C, x :: r) ∧ x < 128 := by
  obtain ⟨s1, h1, h2⟩ := Option.bind_eq_some_iff.mp h
  obtain ⟨C, y, r, e1, e2⟩ := zq_pop_s h1
  by_cases c : x < 128
  · rw [if_pos c] at h2
    exact ⟨C, y, r, e1, by rw [← Option.some.inj h2, e2], c⟩
  · rw [if_neg c] at h2
    exact absurd h2 (by simp)
end
section
/-! The compiler's methods against the pure compiler -/
section
variable {f1 f2 f3 f4 f5 f6 f7 f8 f9 : Int32} {a1 a2 a3 a4 a5 a6 a7 a8 a9 a10 a11 a12 : Nat → Int32}
theorem zq_len {α : Type} {C : List α} {x : α} : nI C.length + 1 = nI (C ++ [x]).length := by
  rw [nI_1, List.length_append, List.length_singleton]
theorem zq_write {post : St2 → Prop} {s s' : zq_Q} {o n : Nat} (hK : zq_K s a6 a7 a8) (hs : zq_wr o n s = some s')
    (H : ∀ b6 b7 b8, zq_K s' b6 b7 b8 → post (f1, f2, f3, nI s'.1.length, nI s'.2.length, f6, f7, f8, f9, a1, a2, a3, a4, a5, b6, b7, b8, a9, a10, a11, a12)) : wpX_write post (f1, f2, f3, nI s.1.length, nI s.2.length, f6, f7, f8, f9, a1, a2, a3, a4, a5, a6, a7, a8, a9, a10, a11, a12) (nI o) (nI n) := by
  unfold zq_wr at hs
  by_cases hc : s.1.length < 560 ∧ o < 128
  · rw [if_pos hc] at hs
    obtain rfl : (s.1 ++ [(o, n)], s.2) = s' := Option.some.inj hs
    have c1 : (nI s.1.length).toNatClampNeg = s.1.length := nI_clamp (by omega)
    unfold wpX_write
    refine ⟨pk_in _ 560 hc.1, nm_r (by rw [c1, zq_b8 o hc.2]) ⟨pk_in _ 560 hc.1, nm_r (by rw [c1]) (nm_r zq_len (H _ _ _ ⟨zq_C_add hK.1 hc.1, hK.2⟩))⟩⟩
  · rw [if_neg hc] at hs
    exact absurd hs (by simp)
theorem zq_push {post : St2 → Prop} {s s' : zq_Q} {x : Nat} (hK : zq_K s a6 a7 a8) (hs : zq_ps x s = some s')
    (H : ∀ b6 b7 b8, zq_K s' b6 b7 b8 → post (f1, f2, f3, nI s'.1.length, nI s'.2.length, f6, f7, f8, f9, a1, a2, a3, a4, a5, b6, b7, b8, a9, a10, a11, a12)) : wpX_pushLayout post (f1, f2, f3, nI s.1.length, nI s.2.length, f6, f7, f8, f9, a1, a2, a3, a4, a5, a6, a7, a8, a9, a10, a11, a12) (nI x) := by
  unfold zq_ps at hs
  by_cases hc : s.2.length < 16 ∧ x < 128
  · rw [if_pos hc] at hs
    obtain rfl : (s.1, x :: s.2) = s' := Option.some.inj hs
    have c1 : (nI s.2.length).toNatClampNeg = s.2.length := nI_clamp (by omega)
    unfold wpX_pushLayout
    refine ⟨pk_in _ 16 hc.1, nm_r (by rw [c1, zq_b8 x hc.2]) (nm_r (nI_1 _) (H _ _ _ ⟨hK.1, zq_A_push hK.2.1 hc.1, fun z hz => (List.mem_cons.mp hz).elim (fun e => by rw [e]; exact hc.2) (fun e => hK.2.2 z e)⟩))⟩
  · rw [if_neg hc] at hs
    exact absurd hs (by simp)
theorem zq_idx {n i : Nat} (hi : i < n) : nI n - 1 - nI i = nI (n - 1 - i) := by
  rw [show nI n - 1 = nI (n - 1) from pk_sub (b := 1) (by omega), pk_sub (by omega)]
theorem zq_dist {post : Int32 → Prop} {T : List Nat} {w d : Nat} (hT : zq_A nI T a8) (hm : ∀ x, x ∈ T → x < 128) (hw : w < 128) (hd : zq_ix w T = some d) (H : post (nI d)) : wpX_distance post (f1, f2, f3, f4, nI T.length, f6, f7, f8, f9, a1, a2, a3, a4, a5, a6, a7, a8, a9, a10, a11, a12) (nI w) := by
  obtain ⟨h1, h2⟩ := zq_ix_some hd
  have hl := zq_lt h1
  have h16 := hT.1
  have hne : ∀ i, i < d → ¬ a8 (T.length - 1 - i) = nI w := by
    intro i hi e
    obtain ⟨x, hx⟩ := zq_ge (T := T) (d := i) (by omega)
    have ex := hT.2 (T.length - 1 - i) i x (by omega) hx
    have hx128 := hm x (List.mem_of_getElem? hx)
    rw [ex, nI_eq (by omega) (by omega)] at e
    rw [e] at hx
    exact h2 i hi hx
  unfold wpX_distance
  exact pk_loop (σ := Unit) (fun n i _ => wX_distance_2 post (nI w) f1 f2 f3 f4 (nI T.length) f6 f7 f8 f9 a1 a2 a3 a4 a5 a6 a7 a8 a9 a10 a11 a12 n (nI i)) (fun _ _ => True) d 0 () (by omega) trivial
    (fun n _ _ => pk_le T.length d (fun z => absurd z (by omega)) (fun _ => ⟨pk_in (T.length - 1 - d) 16 (by omega) (zq_idx hl), br_t (by rw [zq_idx hl, nI_clamp (by omega)]; exact hT.2 _ d w (by omega) h1) H⟩))
    (fun n i _ hi _ hW => pk_le T.length i (fun z => absurd z (by omega)) (fun _ => ⟨pk_in (T.length - 1 - i) 16 (by omega) (zq_idx (by omega)), br_f (by rw [zq_idx (show i < T.length by omega), nI_clamp (by omega)]; exact hne i hi) (nm_r (nI_1 i) (hW () trivial))⟩))
theorem zq_dist0 {post : Int32 → Prop} {T : List Nat} {w : Nat} (hT : zq_A nI T a8) (hm : ∀ x, x ∈ T → x < 128) (hw : w < 128) (hd : zq_ix w T = none) (H : post (-1)) : wpX_distance post (f1, f2, f3, f4, nI T.length, f6, f7, f8, f9, a1, a2, a3, a4, a5, a6, a7, a8, a9, a10, a11, a12) (nI w) := by
  have h2 := zq_ix_none hd
  have h16 := hT.1
  have hne : ∀ i, i < T.length → ¬ a8 (T.length - 1 - i) = nI w := by
    intro i hi e
    obtain ⟨x, hx⟩ := zq_ge (T := T) (d := i) (by omega)
    have ex := hT.2 (T.length - 1 - i) i x (by omega) hx
    have hx128 := hm x (List.mem_of_getElem? hx)
    rw [ex, nI_eq (by omega) (by omega)] at e
    rw [e] at hx
    exact h2 i hx
  unfold wpX_distance
  exact pk_loop (σ := Unit) (fun n i _ => wX_distance_2 post (nI w) f1 f2 f3 f4 (nI T.length) f6 f7 f8 f9 a1 a2 a3 a4 a5 a6 a7 a8 a9 a10 a11 a12 n (nI i)) (fun _ _ => True) T.length 0 () (by omega) trivial
    (fun n _ _ => pk_le T.length T.length (fun _ => H) (fun z => absurd z (by omega)))
    (fun n i _ hi _ hW => pk_le T.length i (fun z => absurd z (by omega)) (fun _ => ⟨pk_in (T.length - 1 - i) 16 (by omega) (zq_idx (by omega)), br_f (by rw [zq_idx hi, nI_clamp (by omega)]; exact hne i hi) (nm_r (nI_1 i) (hW () trivial))⟩))
theorem zq_pu26 {post : St2 → Prop} {T : List Nat} {w d : Nat} (hT : zq_A nI T a8) (hm : ∀ x, x ∈ T → x < 128) (hd : T[d]? = some w)
    (H : ∀ b8, zq_A nI (w :: T.eraseIdx d) b8 → post (f1, f2, f3, f4, nI T.length, f6, f7, f8, f9, a1, a2, a3, a4, a5, a6, a7, b8, a9, a10, a11, a12)) : ∃ n, wX_pullUp_26 post (nI w) f1 f2 f3 f4 (nI T.length) f6 f7 f8 f9 n (nI (T.length - 1 - d)) a1 a2 a3 a4 a5 a6 a7 a8 a9 a10 a11 a12 := by
  have hl := zq_lt hd
  have h16 := hT.1
  have hw := hm w (List.mem_of_getElem? hd)
  have e1 : nI T.length - 1 = nI (T.length - 1) := pk_sub (b := 1) (by omega)
  refine pk_loop (fun n i s => wX_pullUp_26 post (nI w) f1 f2 f3 f4 (nI T.length) f6 f7 f8 f9 n (nI i) a1 a2 a3 a4 a5 a6 a7 s a9 a10 a11 a12)
    (fun i s => (∀ j, j + d + 1 < T.length → s j = a8 j) ∧ (∀ j, T.length ≤ j + d + 1 → j < i → s j = a8 (j + 1)) ∧ (∀ j, i ≤ j → s j = a8 j) ∧ T.length ≤ i + d + 1) (T.length - 1) (T.length - 1 - d) a8 (by omega)
    ⟨fun _ _ => rfl, fun j h1 h2 => absurd h2 (by omega), fun _ _ => rfl, by omega⟩ ?_ ?_
  · intro n s h
    refine pk_le (T.length - 1) (T.length - 1) (fun _ => ⟨pk_in (T.length - 1) 16 (by omega) e1, nm_r (by rw [e1, nI_clamp (by omega), zq_b8 w hw]) (H _ ?_)⟩) (fun z => absurd z (by omega)) e1
    refine zq_A_rot hT hd (fun j hj => ?_) (fun j hj hj2 => ?_) (fun j hj => ?_)
    · rw [pk_un (by omega)]
      exact h.1 j hj
    · rw [pk_un (by omega)]
      exact h.2.1 j hj (by omega)
    · rw [show j = T.length - 1 by omega, pk_us]
  · intro n i s hi h hW
    obtain ⟨x, hx⟩ := zq_ge (T := T) (d := T.length - 2 - i) (by omega)
    have ex := hT.2 (i + 1) (T.length - 2 - i) x (by omega) hx
    have hx128 := hm x (List.mem_of_getElem? hx)
    have ev : upd s (nI i).toNatClampNeg (vp_nar .byte (s (nI i + 1).toNatClampNeg)) = upd s i (a8 (i + 1)) := by
      rw [nI_1, nI_clamp (by omega), nI_clamp (by omega), h.2.2.1 (i + 1) (by omega), ex, zq_nb hx128]
    have hi0 := h.2.2.2
    refine pk_le (T.length - 1) i (fun z => absurd z (by omega)) (fun _ => ⟨pk_in (i + 1) 16 (by omega) (nI_1 i), pk_in i 16 (by omega), nm_r ev (nm_r (nI_1 i) (hW _ ⟨fun j hj => ?_, fun j hj hj2 => ?_, fun j hj => ?_, by omega⟩))⟩) e1
    · rw [pk_un (by omega)]
      exact h.1 j hj
    · by_cases c : j = i
      · rw [c, pk_us]
      · rw [pk_un c]
        exact h.2.1 j hj (by omega)
    · rw [pk_un (by omega)]
      exact h.2.2.1 j (by omega)
theorem zq_pullUp {post : St2 → Prop} {s s' : zq_Q} {w : Nat} (hK : zq_K s a6 a7 a8) (hs : zq_pu w s = some s')
    (H : ∀ b6 b7 b8, zq_K s' b6 b7 b8 → post (f1, f2, f3, nI s'.1.length, nI s'.2.length, f6, f7, f8, f9, a1, a2, a3, a4, a5, b6, b7, b8, a9, a10, a11, a12)) : wpX_pullUp post (f1, f2, f3, nI s.1.length, nI s.2.length, f6, f7, f8, f9, a1, a2, a3, a4, a5, a6, a7, a8, a9, a10, a11, a12) (nI w) := by
  obtain ⟨d, hd, h2⟩ := Option.bind_eq_some_iff.mp hs
  by_cases hc : s.1.length < 560 ∧ w < 128
  · rw [if_pos hc] at h2
    obtain rfl : (zq_pc d s.1, w :: s.2.eraseIdx d) = s' := Option.some.inj h2
    obtain ⟨g1, _⟩ := zq_ix_some hd
    have hl := zq_lt g1
    have h16 := hK.2.1.1
    have el : nI (w :: s.2.eraseIdx d).length = nI s.2.length := by rw [zq_rotlen g1]
    have hm' : ∀ x, x ∈ w :: s.2.eraseIdx d → x < 128 := fun x hx => (List.mem_cons.mp hx).elim (fun e => by rw [e]; exact hc.2) (fun e => hK.2.2 x (List.mem_of_mem_eraseIdx e))
    have H' : ∀ b6 b7 b8, zq_K (zq_pc d s.1, w :: s.2.eraseIdx d) b6 b7 b8 → post (f1, f2, f3, nI (zq_pc d s.1).length, nI s.2.length, f6, f7, f8, f9, a1, a2, a3, a4, a5, b6, b7, b8, a9, a10, a11, a12) := by
      intro b6 b7 b8 hb
      have h := H b6 b7 b8 hb
      dsimp only at h
      rw [el] at h
      exact h
    unfold wpX_pullUp
    refine zq_dist hK.2.1 hK.2.2 hc.2 hd (pk_le d 0 (fun z => ?_) (fun z => ?_))
    · have ec : zq_pc d s.1 = s.1 := if_pos (by omega)
      rw [ec] at H'
      exact nm_r (zq_idx hl) (zq_pu26 hK.2.1 hK.2.2 g1 (fun b8 hb => H' _ _ b8 ⟨hK.1, hb, hm'⟩))
    · have ec : zq_pc d s.1 = s.1 ++ [(7, d)] := if_neg (by omega)
      rw [ec] at H'
      exact zq_write (s' := (s.1 ++ [(7, d)], s.2)) (o := 7) hK (if_pos ⟨hc.1, by decide⟩) (fun b6 b7 b8 hb => nm_r (zq_idx hl) (zq_pu26 hb.2.1 hb.2.2 g1 (fun b8' hb' => H' _ _ b8' ⟨hb.1, hb', hm'⟩)))
  · rw [if_neg hc] at h2
    exact absurd h2 (by simp)
theorem zq_f53 {post : St2 → Prop} {s s' : zq_Q} {v : Nat} (hK : zq_K s a6 a7 a8) (hv : v < 128) (hs : zq_du v s = some s')
    (H : ∀ b6 b7 b8, zq_K s' b6 b7 b8 → post (f1, f2, f3, nI s'.1.length, nI s'.2.length, f6, f7, f8, f9, a1, a2, a3, a4, a5, b6, b7, b8, a9, a10, a11, a12)) : wX_fetch_53 post (nI v) f1 f2 f3 (nI s.1.length) (nI s.2.length) f6 f7 f8 f9 a1 a2 a3 a4 a5 a6 a7 a8 a9 a10 a11 a12 := by
  obtain ⟨d, hd, h⟩ := Option.bind_eq_some_iff.mp hs
  obtain ⟨s1, h1, h2⟩ := Option.bind_eq_some_iff.mp h
  unfold wX_fetch_53
  exact zq_dist hK.2.1 hK.2.2 hv hd (zq_write (o := 1) hK h1 (fun b6 b7 b8 hb => zq_push (x := 9) hb h2 H))
/-- the layout's top place is written -/
theorem zq_tp {s s' : zq_Q} {x : Nat} {P : (Nat → Int32) → Prop} (hK : zq_K s a6 a7 a8) (hs : zq_top x s = some s') (H : ∀ b8, zq_K s' a6 a7 b8 → s'.1 = s.1 → s'.2.length = s.2.length → P b8) :
    vp_in (nI s.2.length - 1) 16 ∧ ∀ b : Nat → Int32, b = upd a8 (nI s.2.length - 1).toNatClampNeg (nI x) → P b := by
  obtain ⟨C, y, r, e1, e2, hx⟩ := zq_top_s hs
  subst e1
  subst e2
  have h16 := hK.2.1.1
  have e : nI (y :: r).length - 1 = nI r.length := nI_pred _
  have hr : r.length < 16 := by
    dsimp only at h16
    rw [List.length_cons] at h16
    omega
  refine ⟨pk_in r.length 16 hr e, nm_r (e' := upd a8 r.length (nI x)) ?_ (H _ (zq_K_top hK hx) rfl rfl)⟩
  dsimp only
  rw [e, nI_clamp (by omega)]
theorem zq_f18 {post : St2 → Prop} {s s' : zq_Q} {v : Nat} (hK : zq_K s a6 a7 a8) (hs : zq_mv v s = some s')
    (H : ∀ b6 b7 b8, zq_K s' b6 b7 b8 → post (f1, f2, f3, nI s'.1.length, nI s'.2.length, f6, f7, f8, f9, a1, a2, a3, a4, a5, b6, b7, b8, a9, a10, a11, a12)) : wX_fetch_18 post (nI v) 0 f1 f2 f3 (nI s.1.length) (nI s.2.length) f6 f7 f8 f9 a1 a2 a3 a4 a5 a6 a7 a8 a9 a10 a11 a12 := by
  obtain ⟨s1, h1, h2⟩ := Option.bind_eq_some_iff.mp hs
  unfold wX_fetch_18 wX_fetch_23
  refine br_f (by decide) (br_t rfl (zq_pullUp hK h1 (fun b6 b7 b8 hb => zq_tp (x := 9) hb h2 (fun b8' hb' e1 e2 => ?_))))
  have h := H b6 b7 b8' hb'
  rw [e1, e2] at h
  exact h
/-- the two statements of the source -/
def zq_src (k t : Nat) (a1 a2 a3 a4 : Nat → Int32) : Prop := a1 0 = nI k ∧ a1 1 = nI 7 ∧ a2 0 = nI t ∧ a2 1 = nI t ∧ a3 0 = nI 3 ∧ a4 0 = nI 5 ∧ 1 ≤ k ∧ k ≤ 6 ∧ t ≤ 5
theorem zq_c0 : (nI 0).toNatClampNeg = 0 := nI_clamp (by decide)
theorem zq_c1 : (nI 1).toNatClampNeg = 1 := nI_clamp (by decide)
theorem zq_neg {v : Nat} (h : v < 128) : ¬ (-1 : Int32) = nI v := by
  intro e
  have e2 : (-1 : Int32).toInt = (nI v).toInt := by rw [e]
  rw [nI_toInt (by omega)] at e2
  have e3 : (-1 : Int32).toInt = -1 := by decide
  omega
theorem zq_writes0 {post : Int32 → Prop} {k t : Nat} (hS : zq_src k t a1 a2 a3 a4) (H : post (nI t)) : wpX_writes post (f1, f2, f3, f4, f5, f6, f7, f8, f9, a1, a2, a3, a4, a5, a6, a7, a8, a9, a10, a11, a12) (nI 0) := by
  obtain ⟨h1, h2, h3, h4, h5, h6, hk, hk6, ht⟩ := hS
  unfold wpX_writes
  exact ⟨pk_in 0 40 (by omega), nm_r (e' := nI k) (by rw [zq_c0]; exact h1) (pk_eq k 0 (fun z => absurd z (by omega)) (fun _ => pk_lt 6 k (fun z => absurd z (by omega)) (fun _ => ⟨pk_in 0 40 (by omega), by rw [zq_c0, h3]; exact H⟩)))⟩
theorem zq_writes1 {post : Int32 → Prop} {k t : Nat} (hS : zq_src k t a1 a2 a3 a4) (H : post (-1)) : wpX_writes post (f1, f2, f3, f4, f5, f6, f7, f8, f9, a1, a2, a3, a4, a5, a6, a7, a8, a9, a10, a11, a12) (nI 1) := by
  obtain ⟨h1, h2, h3, h4, h5, h6, hk, hk6, ht⟩ := hS
  unfold wpX_writes
  exact ⟨pk_in 1 40 (by omega), nm_r (e' := nI 7) (by rw [zq_c1]; exact h2) (pk_eq 7 0 (fun z => absurd z (by omega)) (fun _ => pk_lt 6 7 (fun _ => H) (fun z => absurd z (by omega))))⟩
theorem zq_isB0 {post : Int32 → Prop} {k t : Nat} (hS : zq_src k t a1 a2 a3 a4) (H : post 0) : wpX_isBoundary post (nI 2, f2, f3, f4, f5, f6, f7, f8, f9, a1, a2, a3, a4, a5, a6, a7, a8, a9, a10, a11, a12) (nI 0) := by
  obtain ⟨h1, h2, h3, h4, h5, h6, hk, hk6, ht⟩ := hS
  unfold wpX_isBoundary
  exact pk_le 2 0 (fun z => absurd z (by omega)) (fun _ => ⟨pk_in 0 40 (by omega), pk_lt k 8 (fun _ => H) (fun z => absurd z (by omega)) (by rw [zq_c0]; exact h1)⟩)
theorem zq_isB1 {post : Int32 → Prop} {k t : Nat} (hS : zq_src k t a1 a2 a3 a4) (H : post 0) : wpX_isBoundary post (nI 2, f2, f3, f4, f5, f6, f7, f8, f9, a1, a2, a3, a4, a5, a6, a7, a8, a9, a10, a11, a12) (nI 1) := by
  obtain ⟨h1, h2, h3, h4, h5, h6, hk, hk6, ht⟩ := hS
  unfold wpX_isBoundary
  exact pk_le 2 1 (fun z => absurd z (by omega)) (fun _ => ⟨pk_in 1 40 (by omega), pk_lt 7 8 (fun _ => H) (fun z => absurd z (by omega)) (by rw [zq_c1]; exact h2)⟩)
theorem zq_isB2 {post : Int32 → Prop} (H : post 1) : wpX_isBoundary post (nI 2, f2, f3, f4, f5, f6, f7, f8, f9, a1, a2, a3, a4, a5, a6, a7, a8, a9, a10, a11, a12) (nI 2) := by
  unfold wpX_isBoundary
  exact pk_le 2 2 (fun _ => H) (fun z => absurd z (by omega))
theorem zq_reads1 {post : Int32 → Prop} {k t v : Nat} (hS : zq_src k t a1 a2 a3 a4) (hv : v < 128) (H1 : post 1) (H0 : post 0) : wpX_reads post (f1, f2, f3, f4, f5, f6, f7, f8, f9, a1, a2, a3, a4, a5, a6, a7, a8, a9, a10, a11, a12) (nI 1) (nI v) := by
  obtain ⟨h1, h2, h3, h4, h5, h6, hk, hk6, ht⟩ := hS
  unfold wpX_reads
  refine ⟨pk_in 1 40 (by omega), nm_r (e' := nI 7) (by rw [zq_c1]; exact h2) (pk_eq 7 7 (fun _ => ?_) (fun z => absurd rfl z))⟩
  unfold wX_reads_19
  exact ⟨pk_in 1 40 (by omega), br_c (fun _ => H1) (fun _ => H0)⟩
theorem zq_wa2 {post : Int32 → Prop} {x2 : Int32} {n : Nat} (H : post 1) : wX_wantedAfter_4 post x2 (nI 2) f2 f3 f4 f5 f6 f7 f8 f9 a1 a2 a3 a4 a5 a6 a7 a8 a9 a10 a11 a12 (n + 1) (nI 2) := by
  unfold wX_wantedAfter_4
  exact zq_isB2 (br_f (by decide) H)
theorem zq_wa1 {post : Int32 → Prop} {k t v n : Nat} (hS : zq_src k t a1 a2 a3 a4) (hv : v < 128) (H : post 1) : wX_wantedAfter_4 post (nI v) (nI 2) f2 f3 f4 f5 f6 f7 f8 f9 a1 a2 a3 a4 a5 a6 a7 a8 a9 a10 a11 a12 (n + 1 + 1) (nI 1) := by
  unfold wX_wantedAfter_4
  exact zq_isB1 hS (br_t rfl (zq_reads1 hS hv (br_f (by decide) H) (br_t rfl (zq_writes1 hS (br_f (zq_neg hv) (nm_r (nI_1 1) (zq_wa2 H)))))))
theorem zq_want0 {post : Int32 → Prop} {k t v : Nat} (hS : zq_src k t a1 a2 a3 a4) (hv : v < 128) (H : post 1) : wpX_wantedAfter post (nI 2, f2, f3, f4, f5, f6, f7, f8, f9, a1, a2, a3, a4, a5, a6, a7, a8, a9, a10, a11, a12) (nI 0) (nI v) := by
  unfold wpX_wantedAfter
  exact nm_r (nI_1 0) ⟨2, zq_wa1 (n := 0) hS hv H⟩
theorem zq_want1 {post : Int32 → Prop} {x2 : Int32} (H : post 1) : wpX_wantedAfter post (nI 2, f2, f3, f4, f5, f6, f7, f8, f9, a1, a2, a3, a4, a5, a6, a7, a8, a9, a10, a11, a12) (nI 1) x2 := by
  unfold wpX_wantedAfter
  exact nm_r (nI_1 1) ⟨1, zq_wa2 (n := 0) H⟩
theorem zq_f23 {post : St2 → Prop} {s s' : zq_Q} {v : Nat} {x3 : Int32} (hK : zq_K s a6 a7 a8) (hv : v < 128) (hs : zq_du v s = some s')
    (H : ∀ b6 b7 b8, zq_K s' b6 b7 b8 → post (f1, f2, f3, nI s'.1.length, nI s'.2.length, f6, f7, f8, f9, a1, a2, a3, a4, a5, b6, b7, b8, a9, a10, a11, a12)) : wX_fetch_23 post (nI v) x3 0 f1 f2 f3 (nI s.1.length) (nI s.2.length) f6 f7 f8 f9 a1 a2 a3 a4 a5 a6 a7 a8 a9 a10 a11 a12 := by
  unfold wX_fetch_23
  exact br_t rfl (zq_f53 hK hv hs H)
theorem zq_fetch0 {post : St2 → Prop} {s s' : zq_Q} {k t v : Nat} (hS : zq_src k t a1 a2 a3 a4) (hK : zq_K s a6 a7 a8) (hv : v < 128) (hs : zq_fe t v s = some s')
    (H : ∀ b6 b7 b8, zq_K s' b6 b7 b8 → post (nI 2, f2, f3, nI s'.1.length, nI s'.2.length, f6, f7, f8, f9, a1, a2, a3, a4, a5, b6, b7, b8, a9, a10, a11, a12)) : wpX_fetch post (nI 2, f2, f3, nI s.1.length, nI s.2.length, f6, f7, f8, f9, a1, a2, a3, a4, a5, a6, a7, a8, a9, a10, a11, a12) (nI 0) (nI v) 0 := by
  have ht := hS.2.2.2.2.2.2.2.2
  unfold zq_fe at hs
  unfold wpX_fetch
  refine zq_writes0 hS (pk_eq t v (fun e => ?_) (fun e => ?_))
  · rw [if_pos e] at hs
    exact zq_f18 hK hs H
  · rw [if_neg e] at hs
    exact zq_want0 hS hv (br_f (by decide) (zq_f23 hK hv hs H))
theorem zq_fetch1 {post : St2 → Prop} {s s' : zq_Q} {k t v : Nat} (hS : zq_src k t a1 a2 a3 a4) (hK : zq_K s a6 a7 a8) (hv : v < 128) (hs : zq_du v s = some s')
    (H : ∀ b6 b7 b8, zq_K s' b6 b7 b8 → post (nI 2, f2, f3, nI s'.1.length, nI s'.2.length, f6, f7, f8, f9, a1, a2, a3, a4, a5, b6, b7, b8, a9, a10, a11, a12)) : wpX_fetch post (nI 2, f2, f3, nI s.1.length, nI s.2.length, f6, f7, f8, f9, a1, a2, a3, a4, a5, a6, a7, a8, a9, a10, a11, a12) (nI 1) (nI v) 0 := by
  unfold wpX_fetch
  exact zq_writes1 hS (br_f (zq_neg hv) (zq_want1 (br_f (by decide) (zq_f23 hK hv hs H))))
end
end
section
/-! The compiler, whole -/
section
variable {f1 f2 f3 f4 f5 f6 f7 f8 f9 : Int32} {a1 a2 a3 a4 a5 a6 a7 a8 a9 a10 a11 a12 : Nat → Int32}
theorem zq_set30 {post : St2 → Prop} {s s' : zq_Q} {v : Nat} (hK : zq_K s a6 a7 a8) (hv : v < 128) (hs : zq_top v s = some s')
    (H : ∀ b6 b7 b8, zq_K s' b6 b7 b8 → post (f1, f2, f3, nI s'.1.length, nI s'.2.length, f6, f7, f8, f9, a1, a2, a3, a4, a5, b6, b7, b8, a9, a10, a11, a12)) : wX_settle_30 post (nI v) f1 f2 f3 (nI s.1.length) (nI s.2.length) f6 f7 f8 f9 a1 a2 a3 a4 a5 a6 a7 a8 a9 a10 a11 a12 := by
  unfold wX_settle_30
  rw [zq_b8 v hv]
  refine zq_tp hK hs (fun b8 hb e1 e2 => ?_)
  have h := H _ _ b8 hb
  rw [e1, e2] at h
  exact h
theorem zq_settle {post : St2 → Prop} {s s' : zq_Q} {v : Nat} (hK : zq_K s a6 a7 a8) (hv : v < 128) (hs : zq_se v s = some s')
    (H : ∀ b6 b7 b8, zq_K s' b6 b7 b8 → post (f1, f2, f3, nI s'.1.length, nI s'.2.length, f6, f7, f8, f9, a1, a2, a3, a4, a5, b6, b7, b8, a9, a10, a11, a12)) : wpX_settle post (f1, f2, f3, nI s.1.length, nI s.2.length, f6, f7, f8, f9, a1, a2, a3, a4, a5, a6, a7, a8, a9, a10, a11, a12) (nI v) := by
  unfold zq_se at hs
  unfold wpX_settle
  cases hd : zq_ix v s.2 with
  | none =>
    rw [if_pos hd] at hs
    exact zq_dist0 hK.2.1 hK.2.2 hv hd (br_t (by decide) (zq_set30 hK hv hs H))
  | some d =>
    rw [if_neg (by rw [hd]; simp)] at hs
    obtain ⟨s1, h1, g1⟩ := Option.bind_eq_some_iff.mp hs
    obtain ⟨s2, h2, g2⟩ := Option.bind_eq_some_iff.mp g1
    obtain ⟨s3, h3, h4⟩ := Option.bind_eq_some_iff.mp g2
    obtain ⟨C, y, r, e2, e3⟩ := zq_pop_s h3
    subst e2
    subst e3
    have hl := zq_lt (zq_ix_some hd).1
    have h16 := hK.2.1.1
    exact zq_dist hK.2.1 hK.2.2 hv hd (br_f (nI_pos (by omega)) (zq_pullUp hK h1 (fun b6 b7 b8 hb => zq_write (o := 8) (n := 0) hb h2 (fun c6 c7 c8 hc => nm_r (e' := nI r.length) (nI_pred _) (zq_set30 (s := (C, r)) (zq_K_pop hc) hv h4 H)))))
theorem zq_c65 {post : St2 → Prop} {s s1 s' : zq_Q} {k t : Nat} (hS : zq_src k t a1 a2 a3 a4) (hK : zq_K s a6 a7 a8) (hs : zq_wr k 0 s = some s1) (hp : zq_pop s1 = some s')
    (H : ∀ b6 b7 b8, zq_K s' b6 b7 b8 → post (f1, f2, f3, nI s'.1.length, nI s'.2.length, f6, f7, f8, f9, a1, a2, a3, a4, a5, b6, b7, b8, a9, a10, a11, a12)) : wX_compileArithmetic_65 post (nI 0) f1 f2 f3 (nI s.1.length) (nI s.2.length) f6 f7 f8 f9 a1 a2 a3 a4 a5 a6 a7 a8 a9 a10 a11 a12 := by
  obtain ⟨C, y, r, e2, e3⟩ := zq_pop_s hp
  subst e2
  subst e3
  unfold wX_compileArithmetic_65
  rw [zq_c0, hS.1]
  exact ⟨pk_in 0 40 (by omega), zq_write (o := k) (n := 0) hK hs (fun c6 c7 c8 hc => nm_r (nI_pred _) (H _ _ _ (zq_K_pop hc)))⟩
theorem zq_arith {post : St2 → Prop} {s s' : zq_Q} {k t : Nat} (hS : zq_src k t a1 a2 a3 a4) (hK : zq_K s a6 a7 a8) (hs : zq_ca k t s = some s')
    (H : ∀ b6 b7 b8, zq_K s' b6 b7 b8 → post (nI 2, f2, f3, nI s'.1.length, nI s'.2.length, f6, f7, f8, f9, a1, a2, a3, a4, a5, b6, b7, b8, a9, a10, a11, a12)) : wpX_compileArithmetic post (nI 2, f2, f3, nI s.1.length, nI s.2.length, f6, f7, f8, f9, a1, a2, a3, a4, a5, a6, a7, a8, a9, a10, a11, a12) (nI 0) := by
  obtain ⟨s1, h1, g1⟩ := Option.bind_eq_some_iff.mp hs
  obtain ⟨s2, h2, g2⟩ := Option.bind_eq_some_iff.mp g1
  obtain ⟨s3, h3, h4⟩ := Option.bind_eq_some_iff.mp g2
  have hS' := hS
  obtain ⟨_, _, _, _, e3, e4, _, _, _⟩ := hS'
  unfold wpX_compileArithmetic
  refine ⟨pk_in 0 40 (by omega), nm_r (e' := nI 3) (by rw [zq_c0]; exact e3) ⟨pk_in 0 40 (by omega), nm_r (e' := nI 5) (by rw [zq_c0]; exact e4) (br_f (by decide) ?_)⟩⟩
  unfold wX_compileArithmetic_27
  exact zq_fetch0 hS hK (by decide) h1 (fun b6 b7 b8 hb => br_f (by decide) (zq_fetch0 hS hb (by decide) h2 (fun c6 c7 c8 hc => zq_c65 hS hc h3 h4 H)))
theorem zq_c92 {post : St2 → Prop} {s s' : zq_Q} {k t : Nat} (hS : zq_src k t a1 a2 a3 a4) (hK : zq_K s a6 a7 a8) (hs : zq_se t s = some s')
    (H : ∀ b6 b7 b8, zq_K s' b6 b7 b8 → post (f1, f2, f3, nI s'.1.length, nI s'.2.length, f6, f7, f8, f9, a1, a2, a3, a4, a5, b6, b7, b8, a9, a10, a11, a12)) : wX_compileStraight_92 post (nI 0) f1 f2 f3 (nI s.1.length) (nI s.2.length) f6 f7 f8 f9 a1 a2 a3 a4 a5 a6 a7 a8 a9 a10 a11 a12 := by
  have ht := hS.2.2.2.2.2.2.2.2
  unfold wX_compileStraight_92
  exact zq_writes0 hS (zq_settle hK (by omega) hs H)
theorem zq_str0 {post : St2 → Prop} {s s' : zq_Q} {k t : Nat} (hS : zq_src k t a1 a2 a3 a4) (hK : zq_K s a6 a7 a8) (hs : zq_s0 k t s = some s')
    (H : ∀ b6 b7 b8, zq_K s' b6 b7 b8 → post (nI 2, f2, f3, nI s'.1.length, nI s'.2.length, f6, f7, f8, f9, a1, a2, a3, a4, a5, b6, b7, b8, a9, a10, a11, a12)) : wpX_compileStraight post (nI 2, f2, f3, nI s.1.length, nI s.2.length, f6, f7, f8, f9, a1, a2, a3, a4, a5, a6, a7, a8, a9, a10, a11, a12) (nI 0) := by
  obtain ⟨s1, h1, h2⟩ := Option.bind_eq_some_iff.mp hs
  have hS' := hS
  obtain ⟨e1, _, _, _, e3, e4, hk, hk6, _⟩ := hS'
  unfold wpX_compileStraight
  refine ⟨pk_in 0 40 (by omega), nm_r (e' := nI k) (by rw [zq_c0]; exact e1) (pk_eq k 7 (fun z => absurd z (by omega)) (fun _ => pk_eq k 0 (fun z => absurd z (by omega)) (fun _ => pk_eq k 1 (fun z => ⟨pk_in 0 40 (by omega), ?_⟩) (fun z => ?_))))⟩
  · rw [if_pos z] at h1
    rw [zq_c0, e3]
    exact zq_fetch0 hS hK (by decide) h1 (fun b6 b7 b8 hb => zq_c92 hS hb h2 H)
  · rw [if_neg z] at h1
    exact zq_arith hS hK h1 (fun b6 b7 b8 hb => zq_c92 hS hb h2 H)
theorem zq_str1 {post : St2 → Prop} {s s' : zq_Q} {k t : Nat} (hS : zq_src k t a1 a2 a3 a4) (hK : zq_K s a6 a7 a8) (hs : zq_s1 t s = some s')
    (H : ∀ b6 b7 b8, zq_K s' b6 b7 b8 → post (nI 2, f2, f3, nI s'.1.length, nI s'.2.length, f6, f7, f8, f9, a1, a2, a3, a4, a5, b6, b7, b8, a9, a10, a11, a12)) : wpX_compileStraight post (nI 2, f2, f3, nI s.1.length, nI s.2.length, f6, f7, f8, f9, a1, a2, a3, a4, a5, a6, a7, a8, a9, a10, a11, a12) (nI 1) := by
  obtain ⟨s1, h1, g1⟩ := Option.bind_eq_some_iff.mp hs
  obtain ⟨s2, h2, h3⟩ := Option.bind_eq_some_iff.mp g1
  obtain ⟨C, y, r, q2, q3⟩ := zq_pop_s h3
  subst q2
  subst q3
  have hS' := hS
  obtain ⟨_, e1, _, e2, _, _, _, _, ht⟩ := hS'
  unfold wpX_compileStraight
  refine ⟨pk_in 1 40 (by omega), nm_r (e' := nI 7) (by rw [zq_c1]; exact e1) (pk_eq 7 7 (fun _ => ⟨pk_in 1 40 (by omega), ?_⟩) (fun z => absurd rfl z))⟩
  rw [zq_c1, e2]
  exact zq_fetch1 hS hK (by omega) h1 (fun b6 b7 b8 hb => zq_write (o := 9) (n := 0) hb h2 (fun c6 c7 c8 hc => nm_r (nI_pred _) (H _ _ _ (zq_K_pop hc))))
theorem zq_a33 {post : St2 → Prop} {s' : zq_Q} (H : ∀ b6 b7 b8, zq_K s' b6 b7 b8 → post (f1, f2, f3, nI s'.1.length, nI s'.2.length, f6, f7, f8, f9, a1, a2, a3, a4, a5, b6, b7, b8, a9, a10, a11, a12)) :
    ∀ (n i : Nat) (s : zq_Q) (c6 c7 c8 : Nat → Int32), i + n = 6 → zq_K s c6 c7 c8 → zq_al n i s = some s' → wX_arrange_33 post (nI 6) (n + 1) (nI i) f1 f2 f3 (nI s.1.length) (nI s.2.length) f6 f7 f8 f9 a1 a2 a3 a4 a5 c6 c7 c8 a9 a10 a11 a12 := by
  intro n
  induction n with
  | zero =>
    intro i s c6 c7 c8 hi hK hs
    obtain rfl : s = s' := Option.some.inj hs
    exact pk_le 6 i (fun _ => H _ _ _ hK) (fun z => absurd z (by omega))
  | succ n ih =>
    intro i s c6 c7 c8 hi hK hs
    obtain ⟨s1, h1, h2⟩ := Option.bind_eq_some_iff.mp hs
    exact pk_le 6 i (fun z => absurd z (by omega)) (fun _ => zq_pullUp hK h1 (fun b6 b7 b8 hb => nm_r (nI_1 i) (ih (i + 1) s1 b6 b7 b8 (by omega) hb h2)))
theorem zq_a10 {post : St2 → Prop} {T : List Nat} (hT : zq_A nI T a8) (hm : ∀ x, x ∈ T → x < 128) (h6 : T.length = 6) :
    ∀ n i, i + n = 6 → (∃ m, wX_arrange_33 post (nI 6) m (nI (zq_fx n i T)) f1 f2 f3 f4 f5 f6 f7 f8 f9 a1 a2 a3 a4 a5 a6 a7 a8 a9 a10 a11 a12) → wX_arrange_10 post (nI 6) f1 f2 f3 f4 f5 f6 f7 f8 f9 a1 a2 a3 a4 a5 a6 a7 a8 a9 a10 a11 a12 (n + 1) (nI i) := by
  intro n
  induction n with
  | zero =>
    intro i hi H
    exact pk_le 6 i (fun _ => H) (fun z => absurd z (by omega))
  | succ n ih =>
    intro i hi H
    obtain ⟨x, hx⟩ := zq_ge (T := T) (d := T.length - 1 - i) (by omega)
    have ex := hT.2 i (T.length - 1 - i) x (by omega) hx
    have hx128 := hm x (List.mem_of_getElem? hx)
    refine pk_le 6 i (fun z => absurd z (by omega)) (fun _ => ⟨pk_in i 16 (by omega), ?_⟩)
    rw [nI_clamp (show i < 2 ^ 31 by omega)]
    refine pk_eq x i (fun e => nm_r (nI_1 i) (ih (i + 1) (by omega) ?_)) (fun e => ?_) ex
    · rw [zq_fx, if_pos (by rw [hx, e])] at H
      exact H
    · rw [zq_fx, if_neg (by rw [hx]; exact fun g => e (Option.some.inj g))] at H
      exact H
theorem zq_fx_le (T : List Nat) : ∀ n i, zq_fx n i T ≤ i + n := by
  intro n
  induction n with
  | zero => exact fun i => Nat.le_refl _
  | succ n ih =>
    intro i
    rw [zq_fx]
    split
    · have := ih (i + 1)
      omega
    · omega
theorem zq_arrange {post : St2 → Prop} {s s' : zq_Q} (hK : zq_K s a6 a7 a8) (hs : zq_an s = some s')
    (H : ∀ b6 b7 b8, zq_K s' b6 b7 b8 → post (f1, f2, f3, nI s'.1.length, nI s'.2.length, 0, f7, f8, f9, a1, a2, a3, a4, a5, b6, b7, b8, a9, a10, a11, a12)) : wpX_arrange post (f1, f2, f3, nI s.1.length, nI s.2.length, 0, f7, f8, f9, a1, a2, a3, a4, a5, a6, a7, a8, a9, a10, a11, a12) := by
  unfold zq_an at hs
  by_cases h6 : s.2.length = 6
  · rw [if_pos h6] at hs
    have hx := zq_fx_le s.2 6 0
    unfold wpX_arrange
    exact nm_r (e' := nI 6) (by decide) ⟨7, zq_a10 hK.2.1 hK.2.2 h6 6 0 rfl ⟨_, zq_a33 H _ _ s _ _ _ (by omega) hK hs⟩⟩
  · rw [if_neg h6] at hs
    exact absurd hs (by simp)
theorem zq_c70_2 {post : St2 → Prop} {s s' : zq_Q} {n : Nat} (hK : zq_K s a6 a7 a8) (hs : zq_an s = some s')
    (H : ∀ b6 b7 b8, zq_K s' b6 b7 b8 → post (nI 2, f2, f3, nI s'.1.length, nI s'.2.length, 0, f7, f8, f9, a1, a2, a3, a4, a5, b6, b7, b8, a9, a10, a11, a12)) : wX_compile_70 post (n + 1) (nI 2) (nI 2) f2 f3 (nI s.1.length) (nI s.2.length) 0 f7 f8 f9 a1 a2 a3 a4 a5 a6 a7 a8 a9 a10 a11 a12 := by
  unfold wX_compile_70
  exact pk_le 2 2 (fun _ => zq_arrange hK hs H) (fun z => absurd z (by omega))
theorem zq_c70_1 {post : St2 → Prop} {s s1 s' : zq_Q} {n k t : Nat} (hS : zq_src k t a1 a2 a3 a4) (hK : zq_K s a6 a7 a8) (h1 : zq_s1 t s = some s1) (h2 : zq_an s1 = some s')
    (H : ∀ b6 b7 b8, zq_K s' b6 b7 b8 → post (nI 2, f2, f3, nI s'.1.length, nI s'.2.length, 0, f7, f8, f9, a1, a2, a3, a4, a5, b6, b7, b8, a9, a10, a11, a12)) : wX_compile_70 post (n + 1 + 1) (nI 1) (nI 2) f2 f3 (nI s.1.length) (nI s.2.length) 0 f7 f8 f9 a1 a2 a3 a4 a5 a6 a7 a8 a9 a10 a11 a12 := by
  unfold wX_compile_70
  exact pk_le 2 1 (fun z => absurd z (by omega)) (fun _ => zq_isB1 hS (br_t rfl (zq_str1 hS hK h1 (fun b6 b7 b8 hb => nm_r (nI_1 1) (zq_c70_2 hb h2 H)))))
theorem zq_c70_0 {post : St2 → Prop} {s s1 s2 s' : zq_Q} {n k t : Nat} (hS : zq_src k t a1 a2 a3 a4) (hK : zq_K s a6 a7 a8) (h0 : zq_s0 k t s = some s1) (h1 : zq_s1 t s1 = some s2) (h2 : zq_an s2 = some s')
    (H : ∀ b6 b7 b8, zq_K s' b6 b7 b8 → post (nI 2, f2, f3, nI s'.1.length, nI s'.2.length, 0, f7, f8, f9, a1, a2, a3, a4, a5, b6, b7, b8, a9, a10, a11, a12)) : wX_compile_70 post (n + 1 + 1 + 1) (nI 0) (nI 2) f2 f3 (nI s.1.length) (nI s.2.length) 0 f7 f8 f9 a1 a2 a3 a4 a5 a6 a7 a8 a9 a10 a11 a12 := by
  unfold wX_compile_70
  exact pk_le 2 0 (fun z => absurd z (by omega)) (fun _ => zq_isB0 hS (br_t rfl (zq_str0 hS hK h0 (fun b6 b7 b8 hb => nm_r (nI_1 0) (zq_c70_1 hS hb h1 h2 H)))))
theorem zq_c51 {post : St2 → Prop} {s' : zq_Q} (H : ∀ b6 b7 b8, zq_K s' b6 b7 b8 → ∃ m, wX_compile_70 post m 0 f1 f2 f3 (nI s'.1.length) (nI s'.2.length) f6 f7 f8 f9 a1 a2 a3 a4 a5 b6 b7 b8 a9 a10 a11 a12) :
    ∀ (n i : Nat) (s : zq_Q) (c6 c7 c8 : Nat → Int32), i + n = 6 → zq_K s c6 c7 c8 → zq_pl n i s = some s' → wX_compile_51 post (n + 1) (nI i) f1 f2 f3 (nI s.1.length) (nI s.2.length) f6 f7 f8 f9 a1 a2 a3 a4 a5 c6 c7 c8 a9 a10 a11 a12 := by
  intro n
  induction n with
  | zero =>
    intro i s c6 c7 c8 hi hK hs
    obtain rfl : s = s' := Option.some.inj hs
    exact pk_le 6 i (fun _ => H _ _ _ hK) (fun z => absurd z (by omega))
  | succ n ih =>
    intro i s c6 c7 c8 hi hK hs
    obtain ⟨s1, h1, h2⟩ := Option.bind_eq_some_iff.mp hs
    exact pk_le 6 i (fun z => absurd z (by omega)) (fun _ => zq_push hK h1 (fun b6 b7 b8 hb => nm_r (nI_1 i) (ih (i + 1) s1 b6 b7 b8 (by omega) hb h2)))
theorem zq_bf2 {post : Int32 → St2 → Prop} {n : Nat} (H : post 1 (nI 2, f2, f3, f4, f5, f6, f7, f8, f9, a1, a2, a3, a4, a5, a6, a7, a8, a9, a10, a11, a12)) : wX_blocksFit_4 post (nI 2) f2 f3 f4 f5 f6 f7 f8 f9 (n + 1) 0 (nI 2) a1 a2 a3 a4 a5 a6 a7 a8 a9 a10 a11 a12 := by
  unfold wX_blocksFit_4
  exact pk_le 2 2 (fun _ => br_t rfl H) (fun z => absurd z (by omega))
theorem zq_bfs {post : Int32 → St2 → Prop} {n i k : Nat} (hi : i < 2) (hk : a1 i = nI k) (hk7 : k ≤ 7) (H : wX_blocksFit_4 post (nI 2) f2 f3 f4 f5 f6 f7 f8 f9 n 0 (nI (i + 1)) a1 a2 a3 a4 a5 a6 a7 a8 a9 a10 a11 a12) : wX_blocksFit_4 post (nI 2) f2 f3 f4 f5 f6 f7 f8 f9 (n + 1) 0 (nI i) a1 a2 a3 a4 a5 a6 a7 a8 a9 a10 a11 a12 := by
  have ec : a1 (nI i).toNatClampNeg = nI k := by rw [nI_clamp (by omega)]; exact hk
  unfold wX_blocksFit_4
  exact pk_le 2 i (fun z => absurd z (by omega)) (fun _ => ⟨pk_in i 40 (by omega), nm_r ec (pk_eq k 8 (fun z => absurd z (by omega)) (fun _ => pk_eq k 10 (fun z => absurd z (by omega)) (fun _ => pk_eq k 9 (fun z => absurd z (by omega)) (fun _ => pk_eq k 11 (fun z => absurd z (by omega)) (fun _ => nm_r (nI_1 i) H)))))⟩)
theorem zq_blocks {post : Int32 → St2 → Prop} {k t : Nat} (hS : zq_src k t a1 a2 a3 a4) (H : post 1 (nI 2, f2, f3, f4, f5, f6, f7, f8, f9, a1, a2, a3, a4, a5, a6, a7, a8, a9, a10, a11, a12)) : wpX_blocksFit post (nI 2, f2, f3, f4, f5, f6, f7, f8, f9, a1, a2, a3, a4, a5, a6, a7, a8, a9, a10, a11, a12) := by
  obtain ⟨h1, h2, h3, h4, h5, h6, hk, hk6, ht⟩ := hS
  unfold wpX_blocksFit
  exact ⟨3, zq_bfs (i := 0) (n := 2) (by omega) h1 (by omega) (zq_bfs (i := 1) (n := 1) (by omega) h2 (by omega) (zq_bf2 (n := 0) H))⟩
theorem zq_K0 : zq_K ([], []) a6 a7 a8 :=
  ⟨⟨by decide, fun i x hx => absurd hx (by simp)⟩, ⟨by decide, fun i d x hi hx => absurd hx (by simp)⟩, fun x hx => absurd hx (by simp)⟩
theorem zq_compile {post : St2 → Prop} {s' : zq_Q} {k t : Nat} (hS : zq_src k t a1 a2 a3 a4) (hs : zq_cm k t = some s')
    (H : ∀ b6 b7 b8, zq_K s' b6 b7 b8 → post (nI 2, 1, 1, nI s'.1.length, nI s'.2.length, 0, 0, f8, f9, a1, a2, a3, a4, a5, b6, b7, b8, a9, a10, a11, a12)) : wpX_compile post (nI 2, 0, f3, f4, f5, f6, f7, f8, f9, a1, a2, a3, a4, a5, a6, a7, a8, a9, a10, a11, a12) := by
  obtain ⟨s0, h0, g0⟩ := Option.bind_eq_some_iff.mp hs
  obtain ⟨s1, h1, g1⟩ := Option.bind_eq_some_iff.mp g0
  obtain ⟨s2, h2, h3⟩ := Option.bind_eq_some_iff.mp g1
  unfold wpX_compile
  exact br_t rfl (zq_blocks hS ⟨by rfl, by rfl, br_f (by decide) ⟨7, zq_c51 (fun b6 b7 b8 hb => ⟨3, zq_c70_0 (n := 0) hS hb h1 h2 h3 H⟩) 6 0 ([], []) _ _ _ rfl zq_K0 h0⟩⟩)
end
end
section
/-! The machine's methods against the pure machine -/
section
variable {f1 f2 f3 f4 f5 f6 f7 f8 f9 : Int32} {a1 a2 a3 a4 a5 a6 a7 a8 a9 a10 a11 a12 : Nat → Int32}
theorem zq_comp {post : Int32 → Prop} {o : Nat} {p q : Int32} {u : St2} (h2 : 2 ≤ o) (h6 : o ≤ 6) (H : post (zq_cp o p q)) : wpX_compute post u (nI o) p q := by
  obtain ⟨x1, x2, x3, x4, x5, x6, x7, x8, x9, y1, y2, y3, y4, y5, y6, y7, y8, y9, y10, y11, y12⟩ := u
  unfold zq_cp at H
  unfold wpX_compute
  refine pk_eq o 2 (fun e => ?_) (fun e => ?_)
  · rw [if_pos e] at H
    exact H
  · rw [if_neg e] at H
    refine pk_eq o 3 (fun e => ?_) (fun e => ?_)
    · rw [if_pos e] at H
      exact H
    · rw [if_neg e] at H
      refine pk_eq o 4 (fun e => ?_) (fun e => ?_)
      · rw [if_pos e] at H
        exact H
      · rw [if_neg e] at H
        refine pk_eq o 5 (fun e => ?_) (fun e => ?_)
        · rw [if_pos e] at H
          exact H
        · rw [if_neg e] at H
          refine br_c (fun e => ?_) (fun e => ?_)
          · rw [if_pos e] at H
            exact H
          · rw [if_neg e] at H
            exact H
theorem zq_p23 {post : St2 → Prop} {T : List Int32} {w : Int32} {d : Nat} (hT : zq_A id T a11) (hd : T[d]? = some w)
    (H : ∀ b, zq_A id (w :: T.eraseIdx d) b → post (f1, f2, f3, f4, f5, f6, f7, nI T.length, f9, a1, a2, a3, a4, a5, a6, a7, a8, a9, a10, b, a12)) : ∃ n, wX_pull_23 post w f1 f2 f3 f4 f5 f6 f7 (nI T.length) f9 n (nI (T.length - 1 - d)) a1 a2 a3 a4 a5 a6 a7 a8 a9 a10 a11 a12 := by
  have hl := zq_lt hd
  have h16 := hT.1
  have e1 : nI T.length - 1 = nI (T.length - 1) := pk_sub (b := 1) (by omega)
  refine pk_loop (fun n i s => wX_pull_23 post w f1 f2 f3 f4 f5 f6 f7 (nI T.length) f9 n (nI i) a1 a2 a3 a4 a5 a6 a7 a8 a9 a10 s a12)
    (fun i s => (∀ j, j + d + 1 < T.length → s j = a11 j) ∧ (∀ j, T.length ≤ j + d + 1 → j < i → s j = a11 (j + 1)) ∧ (∀ j, i ≤ j → s j = a11 j) ∧ T.length ≤ i + d + 1) (T.length - 1) (T.length - 1 - d) a11 (by omega)
    ⟨fun _ _ => rfl, fun j h1 h2 => absurd h2 (by omega), fun _ _ => rfl, by omega⟩ ?_ ?_
  · intro n s h
    refine pk_le (T.length - 1) (T.length - 1) (fun _ => ⟨pk_in (T.length - 1) 16 (by omega) e1, nm_r (e' := upd s (T.length - 1) w) (by rw [e1, nI_clamp (by omega)]) (H _ ?_)⟩) (fun z => absurd z (by omega)) e1
    refine zq_A_rot hT hd (fun j hj => ?_) (fun j hj hj2 => ?_) (fun j hj => ?_)
    · rw [pk_un (by omega)]
      exact h.1 j hj
    · rw [pk_un (by omega)]
      exact h.2.1 j hj (by omega)
    · rw [show j = T.length - 1 by omega, pk_us]
      rfl
  · intro n i s hi h hW
    have ev : upd s (nI i).toNatClampNeg (s (nI i + 1).toNatClampNeg) = upd s i (a11 (i + 1)) := by
      rw [nI_1, nI_clamp (by omega), nI_clamp (by omega), h.2.2.1 (i + 1) (by omega)]
    have hi0 := h.2.2.2
    refine pk_le (T.length - 1) i (fun z => absurd z (by omega)) (fun _ => ⟨pk_in (i + 1) 16 (by omega) (nI_1 i), pk_in i 16 (by omega), nm_r ev (nm_r (nI_1 i) (hW _ ⟨fun j hj => ?_, fun j hj hj2 => ?_, fun j hj => ?_, by omega⟩))⟩) e1
    · rw [pk_un (by omega)]
      exact h.1 j hj
    · by_cases c : j = i
      · rw [c, pk_us]
      · rw [pk_un c]
        exact h.2.1 j hj (by omega)
    · rw [pk_un (by omega)]
      exact h.2.2.1 j (by omega)
theorem zq_pull {post : St2 → Prop} {T : List Int32} {w : Int32} {d : Nat} (hT : zq_A id T a11) (hd : T[d]? = some w)
    (H : ∀ b, zq_A id (w :: T.eraseIdx d) b → post (f1, f2, f3, f4, f5, f6, f7, nI (w :: T.eraseIdx d).length, f9, a1, a2, a3, a4, a5, a6, a7, a8, a9, a10, b, a12)) : wpX_pull post (f1, f2, f3, f4, f5, f6, f7, nI T.length, f9, a1, a2, a3, a4, a5, a6, a7, a8, a9, a10, a11, a12) (nI d) := by
  have hl := zq_lt hd
  have h16 := hT.1
  rw [zq_rotlen hd] at H
  unfold wpX_pull
  exact ⟨pk_in (T.length - 1 - d) 16 (by omega) (zq_idx hl), nm_r (e' := w) (by rw [zq_idx hl, nI_clamp (by omega)]; exact hT.2 _ d w (by omega) hd) (nm_r (zq_idx hl) (zq_p23 hT hd H))⟩
/-- the start of perform: the operation and its operand -/
theorem zq_pf {post : Int32 → St2 → Prop} {C : List (Nat × Nat)} {i o n : Nat} (hC : zq_C C a6 a7) (hi : C[i]? = some (o, n)) (ho : o < 128)
    (H : (o < 2 ∨ 6 < o) → wX_perform_79 post (nI o) (nI n) (nI (i + 1)) f1 f2 f3 f4 f5 f6 f7 f8 f9 a1 a2 a3 a4 a5 a6 a7 a8 a9 a10 a11 a12)
    (G : 2 ≤ o → o ≤ 6 → ∀ f : Int32, f = f8 - 1 → (vp_in (f - 1) 16 ∧ (vp_in f 16 ∧ (wpX_compute (fun r => (vp_in (f - 1) 16 ∧ ∀ b : Nat → Int32, b = upd a11 (f - 1).toNatClampNeg r → (post (nI (i + 1)) (f1, f2, f3, f4, f5, f6, f7, f, f9, a1, a2, a3, a4, a5, a6, a7, a8, a9, a10, b, a12)))) (f1, f2, f3, f4, f5, f6, f7, f, f9, a1, a2, a3, a4, a5, a6, a7, a8, a9, a10, a11, a12) (nI o) (a11 (f - 1).toNatClampNeg) (a11 f.toNatClampNeg))))) : wpX_perform post (f1, f2, f3, f4, f5, f6, f7, f8, f9, a1, a2, a3, a4, a5, a6, a7, a8, a9, a10, a11, a12) (nI i) := by
  have hl := zq_lt hi
  have h560 := hC.1
  obtain ⟨e6, e7⟩ := hC.2 i _ hi
  have c : (nI i).toNatClampNeg = i := nI_clamp (by omega)
  unfold wpX_perform
  exact ⟨pk_in i 560 (by omega), nm_r (e' := nI o) (by rw [c]; exact e6) ⟨pk_in i 560 (by omega), nm_r (e' := nI n) (by rw [c]; exact e7) (nm_r (nI_1 i) (pk_lt o 2 (fun z => H (Or.inl z)) (fun z => pk_lt 6 o (fun z' => H (Or.inr z')) (fun z' => G z z'))))⟩⟩
theorem zq_pf1 {post : Int32 → St2 → Prop} {S : List Int32} {n : Nat} {v x4 : Int32} (hA : zq_A id S a11) (hn : S[n]? = some v) (hl : S.length < 16)
    (H : ∀ b, zq_A id (v :: S) b → post x4 (f1, f2, f3, f4, f5, f6, f7, nI (v :: S).length, f9, a1, a2, a3, a4, a5, a6, a7, a8, a9, a10, b, a12)) : wX_perform_79 post (nI 1) (nI n) x4 f1 f2 f3 f4 f5 f6 f7 (nI S.length) f9 a1 a2 a3 a4 a5 a6 a7 a8 a9 a10 a11 a12 := by
  have hd := zq_lt hn
  unfold wX_perform_79
  refine br_f (by decide) (br_t rfl ⟨pk_in (S.length - 1 - n) 16 (by omega) (zq_idx hd), pk_in S.length 16 hl, nm_r (e' := upd a11 S.length (id v)) ?_ (nm_r (nI_1 _) (H _ (zq_A_push hA hl)))⟩)
  rw [zq_idx hd, nI_clamp (by omega), nI_clamp (by omega), hA.2 (S.length - 1 - n) n v (by omega) hn]
theorem zq_pf7 {post : Int32 → St2 → Prop} {S : List Int32} {n : Nat} {v x4 : Int32} (hA : zq_A id S a11) (hn : S[n]? = some v)
    (H : ∀ b, zq_A id (v :: S.eraseIdx n) b → post x4 (f1, f2, f3, f4, f5, f6, f7, nI (v :: S.eraseIdx n).length, f9, a1, a2, a3, a4, a5, a6, a7, a8, a9, a10, b, a12)) : wX_perform_79 post (nI 7) (nI n) x4 f1 f2 f3 f4 f5 f6 f7 (nI S.length) f9 a1 a2 a3 a4 a5 a6 a7 a8 a9 a10 a11 a12 := by
  unfold wX_perform_79
  exact br_f (by decide) (br_f (by decide) (br_t rfl (zq_pull hA hn H)))
theorem zq_p201 {post : Int32 → St2 → Prop} {o : Nat} {x3 x4 : Int32} (ho : o < 10) (H : post x4 (f1, f2, f3, f4, f5, f6, f7, f8, f9, a1, a2, a3, a4, a5, a6, a7, a8, a9, a10, a11, a12)) : wX_perform_201 post (nI o) x3 x4 f1 f2 f3 f4 f5 f6 f7 f8 f9 a1 a2 a3 a4 a5 a6 a7 a8 a9 a10 a11 a12 := by
  unfold wX_perform_201
  exact pk_eq o 10 (fun z => absurd z (by omega)) (fun _ => H)
theorem zq_pf8 {post : Int32 → St2 → Prop} {r : List Int32} {y x3 x4 : Int32} (H : post x4 (f1, f2, f3, f4, f5, f6, f7, nI r.length, f9, a1, a2, a3, a4, a5, a6, a7, a8, a9, a10, a11, a12)) : wX_perform_79 post (nI 8) x3 x4 f1 f2 f3 f4 f5 f6 f7 (nI (y :: r).length) f9 a1 a2 a3 a4 a5 a6 a7 a8 a9 a10 a11 a12 := by
  unfold wX_perform_79
  exact br_f (by decide) (br_f (by decide) (br_f (by decide) (br_f (by decide) (nm_r (nI_pred _) (br_f (by decide) (zq_p201 (by decide) H))))))
theorem zq_pf9 {post : Int32 → St2 → Prop} {r l : List Int32} {y x3 x4 : Int32} (hA : zq_A id (y :: r) a11) (hO : zq_O l a12) (hl : l.length < 64)
    (H : ∀ b, zq_O (l ++ [y]) b → post x4 (f1, f2, f3, f4, f5, f6, f7, nI r.length, nI (l ++ [y]).length, a1, a2, a3, a4, a5, a6, a7, a8, a9, a10, a11, b)) : wX_perform_79 post (nI 9) x3 x4 f1 f2 f3 f4 f5 f6 f7 (nI (y :: r).length) (nI l.length) a1 a2 a3 a4 a5 a6 a7 a8 a9 a10 a11 a12 := by
  have h16 := hA.1
  rw [List.length_cons] at h16
  have ey : a11 r.length = y := hA.2 r.length 0 y (by rw [List.length_cons]) rfl
  unfold wX_perform_79
  refine br_f (by decide) (br_f (by decide) (br_f (by decide) (br_f (by decide) (nm_r (nI_pred _) (br_t rfl ⟨pk_in r.length 16 (by omega), ?_⟩)))))
  rw [nI_clamp (show r.length < 2 ^ 31 by omega), ey]
  unfold wpX_print
  refine pk_le 64 l.length (fun z => absurd z (by omega)) (fun _ => ⟨pk_in l.length 64 hl, nm_r (e' := upd a12 l.length y) ?_ (nm_r zq_len (zq_p201 (by decide) (H _ (zq_O_add hO hl))))⟩)
  rw [nI_clamp (by omega)]
theorem zq_pfa {post : Int32 → St2 → Prop} {r : List Int32} {o : Nat} {y z x4 : Int32} (hA : zq_A id (y :: z :: r) a11) (h2 : 2 ≤ o) (h6 : o ≤ 6)
    (H : ∀ b, zq_A id (zq_cp o z y :: r) b → post x4 (f1, f2, f3, f4, f5, f6, f7, nI (zq_cp o z y :: r).length, f9, a1, a2, a3, a4, a5, a6, a7, a8, a9, a10, b, a12)) :
    ∀ f : Int32, f = nI (y :: z :: r).length - 1 → (vp_in (f - 1) 16 ∧ (vp_in f 16 ∧ (wpX_compute (fun r => (vp_in (f - 1) 16 ∧ ∀ b : Nat → Int32, b = upd a11 (f - 1).toNatClampNeg r → (post x4 (f1, f2, f3, f4, f5, f6, f7, f, f9, a1, a2, a3, a4, a5, a6, a7, a8, a9, a10, b, a12)))) (f1, f2, f3, f4, f5, f6, f7, f, f9, a1, a2, a3, a4, a5, a6, a7, a8, a9, a10, a11, a12) (nI o) (a11 (f - 1).toNatClampNeg) (a11 f.toNatClampNeg)))) := by
  have h16 := hA.1
  rw [List.length_cons, List.length_cons] at h16
  have ey : a11 (r.length + 1) = y := hA.2 (r.length + 1) 0 y (by rw [List.length_cons, List.length_cons]) rfl
  have ez : a11 r.length = z := hA.2 r.length 1 z (by rw [List.length_cons, List.length_cons]) rfl
  have e1 : nI (r.length + 1) - 1 = nI r.length := nI_pred _
  refine nm_r (e' := nI (r.length + 1)) (nI_pred _) ?_
  rw [e1, nI_clamp (show r.length < 2 ^ 31 by omega), nI_clamp (show r.length + 1 < 2 ^ 31 by omega), ey, ez]
  exact ⟨pk_in r.length 16 (by omega), pk_in (r.length + 1) 16 (by omega), zq_comp h2 h6 ⟨pk_in r.length 16 (by omega), nm_e (H _ (zq_A_top (zq_A_pop hA)))⟩⟩
theorem zq_perform {post : Int32 → St2 → Prop} {C : List (Nat × Nat)} {i : Nat} {x : Nat × Nat} {s s' : zq_M} (hC : zq_C C a6 a7) (hi : C[i]? = some x) (hA : zq_A id s.1 a11) (hO : zq_O s.2 a12) (hs : zq_st x s = some s')
    (H : ∀ b c, zq_A id s'.1 b → zq_O s'.2 c → post (nI (i + 1)) (f1, f2, f3, f4, f5, f6, f7, nI s'.1.length, nI s'.2.length, a1, a2, a3, a4, a5, a6, a7, a8, a9, a10, b, c)) : wpX_perform post (f1, f2, f3, f4, f5, f6, f7, nI s.1.length, nI s.2.length, a1, a2, a3, a4, a5, a6, a7, a8, a9, a10, a11, a12) (nI i) := by
  obtain ⟨o, n⟩ := x
  obtain ⟨S, l⟩ := s
  unfold zq_st at hs
  dsimp only at hs hA hO
  by_cases c1 : o = 1
  · rw [if_pos c1] at hs
    subst c1
    obtain ⟨v, h1, h2⟩ := Option.bind_eq_some_iff.mp hs
    by_cases c : S.length < 16
    · rw [if_pos c] at h2
      obtain rfl : (v :: S, l) = s' := Option.some.inj h2
      exact zq_pf hC hi (by decide) (fun _ => zq_pf1 hA h1 c (fun b hb => H b _ hb hO)) (fun z => absurd z (by decide))
    · rw [if_neg c] at h2
      exact absurd h2 (by simp)
  · rw [if_neg c1] at hs
    by_cases c7 : o = 7
    · rw [if_pos c7] at hs
      subst c7
      obtain ⟨v, h1, h2⟩ := Option.bind_eq_some_iff.mp hs
      obtain rfl : (v :: S.eraseIdx n, l) = s' := Option.some.inj h2
      exact zq_pf hC hi (by decide) (fun _ => zq_pf7 hA h1 (fun b hb => H b _ hb hO)) (fun _ z => absurd z (by decide))
    · rw [if_neg c7] at hs
      cases S with
      | nil => exact absurd hs (by simp)
      | cons y r =>
        dsimp only at hs
        by_cases c8 : o = 8
        · rw [if_pos c8] at hs
          subst c8
          obtain rfl : (r, l) = s' := Option.some.inj hs
          exact zq_pf hC hi (by decide) (fun _ => zq_pf8 (H _ _ (zq_A_pop hA) hO)) (fun _ z => absurd z (by decide))
        · rw [if_neg c8] at hs
          by_cases c9 : o = 9
          · rw [if_pos c9] at hs
            subst c9
            by_cases c : l.length < 64
            · rw [if_pos c] at hs
              obtain rfl : (r, l ++ [y]) = s' := Option.some.inj hs
              exact zq_pf hC hi (by decide) (fun _ => zq_pf9 hA hO c (fun b hb => H _ b (zq_A_pop hA) hb)) (fun _ z => absurd z (by decide))
            · rw [if_neg c] at hs
              exact absurd hs (by simp)
          · rw [if_neg c9] at hs
            by_cases c2 : 2 ≤ o ∧ o ≤ 6
            · rw [if_pos c2] at hs
              cases r with
              | nil => exact absurd hs (by simp)
              | cons z r' =>
                dsimp only at hs
                obtain rfl : (zq_cp o z y :: r', l) = s' := Option.some.inj hs
                exact zq_pf hC hi (by omega) (fun z => absurd z (by omega)) (fun _ _ => zq_pfa hA c2.1 c2.2 (fun b hb => H b _ hb hO))
            · rw [if_neg c2] at hs
              exact absurd hs (by simp)
theorem zq_r83 {post : Int32 → St2 → Prop} {S : List Int32} (hA : zq_A id S a11) (h6 : S.length = 6) (H : ∀ b, zq_A id S b → post f9 (f1, f2, f3, f4, f5, f6, f7, f8, f9, a1, a2, a3, a4, b, a6, a7, a8, a9, a10, a11, a12)) : ∃ n, wX_run_83 post f1 f2 f3 f4 f5 f6 f7 f8 f9 n 0 a1 a2 a3 a4 a5 a6 a7 a8 a9 a10 a11 a12 :=
  pk_loop (fun n i s => wX_run_83 post f1 f2 f3 f4 f5 f6 f7 f8 f9 n (nI i) a1 a2 a3 a4 s a6 a7 a8 a9 a10 a11 a12) (fun i s => ∀ j, j < i → s j = a11 j) 6 0 a5 (by omega) (fun j hj => absurd hj (by omega))
    (fun n s h => pk_le 6 6 (fun _ => H s ⟨hA.1, fun i d x hi hx => by rw [h i (by omega)]; exact hA.2 i d x hi hx⟩) (fun z => absurd z (by omega)))
    (fun n i s hi h hW => pk_le 6 i (fun z => absurd z (by omega)) (fun _ => ⟨pk_in i 16 (by omega), pk_in i 6 (by omega), nm_r (e' := upd s i (a11 i)) (by rw [nI_clamp (by omega)]) (nm_r (nI_1 i) (hW _ (fun j hj => by
      by_cases c : j = i
      · rw [c, pk_us]
      · rw [pk_un c]
        exact h j (by omega))))⟩))
theorem zq_r55 {post : Int32 → St2 → Prop} {C : List (Nat × Nat)} {s' : zq_M} (hC : zq_C C a6 a7)
    (H : ∀ b c, zq_A id s'.1 b → zq_O s'.2 c → ∃ m, wX_run_83 post f1 f2 f3 (nI C.length) f5 f6 f7 (nI s'.1.length) (nI s'.2.length) m 0 a1 a2 a3 a4 a5 a6 a7 a8 a9 a10 b c) :
    ∀ (r : List (Nat × Nat)) (i : Nat) (s : zq_M) (b c : Nat → Int32), C.drop i = r → i ≤ C.length → zq_A id s.1 b → zq_O s.2 c → zq_ex r s = some s' → wX_run_55 post (r.length + 1) (nI i) (nI i) f1 f2 f3 (nI C.length) f5 f6 f7 (nI s.1.length) (nI s.2.length) a1 a2 a3 a4 a5 a6 a7 a8 a9 a10 b c := by
  have h560 := hC.1
  intro r
  induction r with
  | nil =>
    intro i s b c hd hi hA hO hs
    have hl := List.drop_eq_nil_iff.mp hd
    obtain rfl : s = s' := Option.some.inj hs
    exact pk_le 90000 i (fun z => absurd z (by omega)) (fun _ => pk_le C.length i (fun _ => H _ _ hA hO) (fun z => absurd z (by omega)))
  | cons x r ih =>
    intro i s b c hd hi hA hO hs
    obtain ⟨s1, h1, h2⟩ := Option.bind_eq_some_iff.mp hs
    have hx : C[i]? = some x := by
      rw [← Nat.add_zero i, ← List.getElem?_drop, hd]
      rfl
    have hl := zq_lt hx
    have hd1 : C.drop (i + 1) = r := by
      rw [← List.drop_drop, hd]
      rfl
    exact pk_le 90000 i (fun z => absurd z (by omega)) (fun _ => pk_le C.length i (fun z => absurd z (by omega)) (fun _ => zq_perform hC hx hA hO h1 (fun b' c' hb hc => nm_r (nI_1 i) (ih (i + 1) s1 b' c' hd1 (by omega) hb hc h2))))
theorem zq_O0 {a : Nat → Int32} : zq_O [] a := ⟨by decide, fun i x hx => absurd hx (by simp)⟩
theorem zq_A6 {a b : Nat → Int32} (h : ∀ j, j < 6 → b j = a j) : zq_A id [a 5, a 4, a 3, a 2, a 1, a 0] b := by
  refine ⟨show 6 ≤ 16 by decide, fun i d x hi hx => ?_⟩
  have hi' : i + d + 1 = 6 := hi
  rw [h i (by omega)]
  have ed : d = 0 ∨ d = 1 ∨ d = 2 ∨ d = 3 ∨ d = 4 ∨ d = 5 := by omega
  rcases ed with rfl | rfl | rfl | rfl | rfl | rfl
  · obtain rfl : i = 5 := by omega
    exact Option.some.inj hx
  · obtain rfl : i = 4 := by omega
    exact Option.some.inj hx
  · obtain rfl : i = 3 := by omega
    exact Option.some.inj hx
  · obtain rfl : i = 2 := by omega
    exact Option.some.inj hx
  · obtain rfl : i = 1 := by omega
    exact Option.some.inj hx
  · obtain rfl : i = 0 := by omega
    exact Option.some.inj hx
theorem zq_r16 {post : Int32 → St2 → Prop} {C : List (Nat × Nat)} {s' : zq_M} (hC : zq_C C a6 a7) (h6 : s'.1.length = 6) (hs : zq_ex C ([a5 5, a5 4, a5 3, a5 2, a5 1, a5 0], []) = some s')
    (H : ∀ b5 b11 b12, zq_A id s'.1 b5 → zq_O s'.2 b12 → post (nI s'.2.length) (f1, f2, f3, nI C.length, f5, f6, f7, nI s'.1.length, nI s'.2.length, a1, a2, a3, a4, b5, a6, a7, a8, a9, a10, b11, b12)) : ∃ n, wX_run_16 post f1 f2 f3 (nI C.length) f5 f6 f7 f8 f9 n 0 a1 a2 a3 a4 a5 a6 a7 a8 a9 a10 a11 a12 :=
  pk_loop (fun n i s => wX_run_16 post f1 f2 f3 (nI C.length) f5 f6 f7 f8 f9 n (nI i) a1 a2 a3 a4 a5 a6 a7 a8 a9 a10 s a12) (fun i s => ∀ j, j < i → s j = a5 j) 6 0 a11 (by omega) (fun j hj => absurd hj (by omega))
    (fun n s h => pk_le 6 6 (fun _ => ⟨C.length + 1, zq_r55 hC (fun b c hb hc => zq_r83 hb h6 (fun b5 hb5 => H b5 b c hb5 hc)) C 0 ([a5 5, a5 4, a5 3, a5 2, a5 1, a5 0], []) s _ rfl (by omega) (zq_A6 h) zq_O0 hs⟩) (fun z => absurd z (by omega)))
    (fun n i s hi h hW => pk_le 6 i (fun z => absurd z (by omega)) (fun _ => ⟨pk_in i 6 (by omega), pk_in i 16 (by omega), nm_r (e' := upd s i (a5 i)) (by rw [nI_clamp (by omega)]) (nm_r (nI_1 i) (hW _ (fun j hj => by
      by_cases c : j = i
      · rw [c, pk_us]
      · rw [pk_un c]
        exact h j (by omega))))⟩))
theorem zq_run {post : Int32 → St2 → Prop} {k t : Nat} {p q : Int32} (hS : zq_src k t a1 a2 a3 a4) (h5 : a5 5 = q ∧ a5 4 = 0 ∧ a5 3 = p ∧ a5 2 = 0 ∧ a5 1 = 0 ∧ a5 0 = 0)
    (H : ∀ (g4 g5 g6 g7 g8 : Int32) (b5 b6 b7 b8 b11 b12 : Nat → Int32), zq_A id (zq_fin t (zq_due k p q) p q) b5 → b12 0 = zq_due k p q → post 1 (nI 2, 1, 1, g4, g5, g6, g7, g8, 1, a1, a2, a3, a4, b5, b6, b7, b8, a9, a10, b11, b12)) : wpX_run post (nI 2, 0, f3, f4, f5, f6, f7, f8, f9, a1, a2, a3, a4, a5, a6, a7, a8, a9, a10, a11, a12) := by
  have hk := hS.2.2.2.2.2.2.1
  have hk6 := hS.2.2.2.2.2.2.2.1
  have ht := hS.2.2.2.2.2.2.2.2
  obtain ⟨v5, v4, v3, v2, v1, v0⟩ := h5
  have hcm := zq_cm_tab hk hk6 ht
  have hex := zq_ex_tab p q hk hk6 ht
  unfold wpX_run
  refine zq_compile hS hcm (fun b6 b7 b8 hb => br_f (by decide) (zq_r16 (s' := (zq_fin t (zq_due k p q) p q, [zq_due k p q])) hb.1 rfl ?_ (fun b5 b11 b12 h1 h2 => H _ _ _ _ _ b5 b6 b7 b8 b11 b12 h1 (h2.2 0 _ rfl))))
  rw [v5, v4, v3, v2, v1, v0]
  exact hex
end
end
section
/-! The source's methods, the answers' methods, the law -/
section
variable {f1 f2 f3 f4 f5 f6 f7 f8 f9 : Int32} {a1 a2 a3 a4 a5 a6 a7 a8 a9 a10 a11 a12 : Nat → Int32}
theorem zq_put {post : Int32 → St2 → Prop} {v : Nat} {x : Int32} (hv : v ≤ 5) (H : post 1 (f1, f2, f3, f4, f5, f6, f7, f8, f9, a1, a2, a3, a4, upd a5 v x, a6, a7, a8, a9, a10, a11, a12)) : wpX_put post (f1, f2, f3, f4, f5, f6, f7, f8, f9, a1, a2, a3, a4, a5, a6, a7, a8, a9, a10, a11, a12) (nI v) x := by
  unfold wpX_put
  exact pk_lt v 0 (fun z => absurd z (by omega)) (fun _ => pk_le v 5 (fun _ => ⟨pk_in v 6 (by omega), nm_r (by rw [nI_clamp (by omega)]) H⟩) (fun z => absurd z (by omega)))
theorem zq_add93 {post : Int32 → St2 → Prop} {i k a b c : Nat} (hi : i < 40) (hk : 1 ≤ k) (hk7 : k ≤ 7) (hb : b ≤ 5) (hc : c ≤ 5)
    (H : post (nI (i + 1)) (nI (i + 1), 0, f3, f4, f5, f6, f7, f8, f9, upd a1 i (nI k), upd a2 i (nI a), upd a3 i (nI b), upd a4 i (nI c), a5, a6, a7, a8, a9, a10, a11, a12)) : wX_add_93 post (nI k) (nI a) (nI b) (nI c) (nI i) f2 f3 f4 f5 f6 f7 f8 f9 a1 a2 a3 a4 a5 a6 a7 a8 a9 a10 a11 a12 := by
  have e : (nI i).toNatClampNeg = i := nI_clamp (by omega)
  unfold wX_add_93
  refine ⟨pk_in i 40 hi, nm_r (e' := upd a1 i (nI k)) (by rw [e, zq_b8 k (by omega)]) (pk_eq k 0 (fun z => absurd z (by omega)) (fun _ => ?_))⟩
  unfold wX_add_121
  refine ⟨pk_in i 40 hi, nm_r (e' := upd a2 i (nI a)) (by rw [e]) (pk_eq k 0 (fun z => absurd z (by omega)) (fun _ => ?_))⟩
  unfold wX_add_139
  exact ⟨pk_in i 40 hi, nm_r (e' := upd a3 i (nI b)) (by rw [e, zq_b8 b (by omega)]) ⟨pk_in i 40 hi, nm_r (e' := upd a4 i (nI c)) (by rw [e, zq_b8 c (by omega)]) (nm_r (nI_1 i) H)⟩⟩
theorem zq_add {post : Int32 → St2 → Prop} {i k a b c : Nat} (hi : i < 40) (hk : 1 ≤ k) (hk7 : k ≤ 7) (ha : a ≤ 5) (hb : b ≤ 5) (hc : c ≤ 5)
    (H : post (nI (i + 1)) (nI (i + 1), 0, f3, f4, f5, f6, f7, f8, f9, upd a1 i (nI k), upd a2 i (nI a), upd a3 i (nI b), upd a4 i (nI c), a5, a6, a7, a8, a9, a10, a11, a12)) : wpX_add post (nI i, f2, f3, f4, f5, f6, f7, f8, f9, a1, a2, a3, a4, a5, a6, a7, a8, a9, a10, a11, a12) (nI k) (nI a) (nI b) (nI c) := by
  have h93 := zq_add93 (f2 := f2) hi hk hk7 hb hc H
  have h69 : wX_add_69 post (nI k) (nI a) (nI b) (nI c) (nI i) f2 f3 f4 f5 f6 f7 f8 f9 a1 a2 a3 a4 a5 a6 a7 a8 a9 a10 a11 a12 := by
    unfold wX_add_69
    exact pk_lt k 2 (fun _ => h93) (fun _ => pk_lt 6 k (fun _ => h93) (fun _ => pk_lt c 0 (fun z => absurd z (by omega)) (fun _ => pk_le c 5 (fun _ => h93) (fun z => absurd z (by omega)))))
  have h47 : wX_add_47 post (nI k) (nI a) (nI b) (nI c) (nI i) f2 f3 f4 f5 f6 f7 f8 f9 a1 a2 a3 a4 a5 a6 a7 a8 a9 a10 a11 a12 := by
    unfold wX_add_47
    exact pk_lt k 1 (fun _ => h69) (fun _ => pk_lt 6 k (fun _ => h69) (fun _ => pk_lt b 0 (fun z => absurd z (by omega)) (fun _ => pk_le b 5 (fun _ => h69) (fun z => absurd z (by omega)))))
  unfold wpX_add
  exact pk_lt i 40 (fun _ => pk_lt k 0 (fun z => absurd z (by omega)) (fun _ => pk_le k 11 (fun _ => pk_eq k 9 (fun z => absurd z (by omega)) (fun _ => pk_eq k 11 (fun z => absurd z (by omega)) (fun _ => pk_lt a 0 (fun z => absurd z (by omega)) (fun _ => pk_le a 5 (fun _ => h47) (fun z => absurd z (by omega)))))) (fun z => absurd z (by omega)))) (fun z => absurd z (by omega))
theorem zq_out {post : Int32 → Prop} (H : post (a12 0)) : wpX_output post (f1, f2, f3, f4, f5, f6, f7, f8, 1, a1, a2, a3, a4, a5, a6, a7, a8, a9, a10, a11, a12) 0 := by
  unfold wpX_output
  exact pk_lt 0 0 (fun z => absurd z (by omega)) (fun _ => pk_le 1 0 (fun z => absurd z (by omega)) (fun _ => pk_lt 0 64 (fun _ => ⟨pk_in 0 64 (by omega), by rw [sb_cl0]; exact H⟩) (fun z => absurd z (by omega))))
theorem zq_var {post : Int32 → Prop} {v : Nat} (hv : v ≤ 5) (H : post (a5 v)) : wpX_variable post (f1, f2, f3, f4, f5, f6, f7, f8, f9, a1, a2, a3, a4, a5, a6, a7, a8, a9, a10, a11, a12) (nI v) := by
  unfold wpX_variable
  exact pk_lt v 0 (fun z => absurd z (by omega)) (fun _ => pk_le v 5 (fun _ => ⟨pk_in v 6 (by omega), by rw [nI_clamp (by omega)]; exact H⟩) (fun z => absurd z (by omega)))
theorem zq_l269 {post : Int32 → St0 → Prop} {mc ms kc ks : Nat} {z0 z1 : Int32} (e : z1 = z0) (H : post 1 ()) : wL_lawOf_269 post mc ms z0 z1 kc ks := by
  unfold wL_lawOf_269
  exact br_t e H
theorem zq_l247 {post : Int32 → St0 → Prop} {mc ms kc ks t : Nat} {z0 z1 d : Int32} (e : z1 = z0) (ht : t ≤ 5) (h0 : a5 0 = if t = 0 then d else 0) (H : post 1 ()) : wL_lawOf_247 post mc ms (nI t) d z0 z1 kc ks f1 f2 f3 f4 f5 f6 f7 f8 f9 a1 a2 a3 a4 a5 a6 a7 a8 a9 a10 a11 a12 := by
  unfold wL_lawOf_247
  exact br_t e (zq_var (v := 0) (by decide) (pk_eq t 0 (fun c => zq_l269 (by rw [h0, if_pos c]) H) (fun c => zq_l269 (by rw [h0, if_neg c]) H)))
theorem zq_l224 {post : Int32 → St0 → Prop} {mc ms kc ks t : Nat} {z0 z1 d q : Int32} (e : z1 = z0) (ht : t ≤ 5) (h0 : a5 0 = if t = 0 then d else 0) (h5 : a5 5 = if t = 5 then d else q) (H : post 1 ()) : wL_lawOf_224 post mc ms q (nI t) d z0 z1 kc ks f1 f2 f3 f4 f5 f6 f7 f8 f9 a1 a2 a3 a4 a5 a6 a7 a8 a9 a10 a11 a12 := by
  unfold wL_lawOf_224
  exact br_t e (zq_var (v := 5) (by decide) (pk_eq t 5 (fun c => zq_l247 (by rw [h5, if_pos c]) ht h0 H) (fun c => zq_l247 (by rw [h5, if_neg c]) ht h0 H)))
theorem zq_fin_t {t : Nat} {d p q : Int32} {b : Nat → Int32} (ht : t ≤ 5) (h : zq_A id (zq_fin t d p q) b) : b t = d := by
  have et : t = 0 ∨ t = 1 ∨ t = 2 ∨ t = 3 ∨ t = 4 ∨ t = 5 := by omega
  rcases et with rfl | rfl | rfl | rfl | rfl | rfl
  · exact h.2 0 5 d rfl rfl
  · exact h.2 1 4 d rfl rfl
  · exact h.2 2 3 d rfl rfl
  · exact h.2 3 2 d rfl rfl
  · exact h.2 4 1 d rfl rfl
  · exact h.2 5 0 d rfl rfl
theorem zq_l101 {post : Int32 → St0 → Prop} {k t : Nat} {p q : Int32} (hk : 1 ≤ k) (hk6 : k ≤ 6) (ht : t ≤ 5) (H : post 1 ()) : wL_lawOf_101 post 468 7488 p q (nI k) (nI t) (zq_due k p q) 0 0 := by
  unfold wL_lawOf_101
  refine ⟨by decide, by decide, 12, 1390, by decide, by decide, ?_⟩
  unfold wpX_init
  refine ⟨by decide, by decide, by decide, by decide, by decide, by decide, by decide, by decide, by decide, by decide, by decide, by decide, by decide, by decide, by decide, by decide, by decide, by decide, by decide, by decide, by decide, by decide, by decide, by decide, ?_⟩
  refine zq_put (v := 3) (by decide) (br_f (by decide) (zq_put (v := 5) (by decide) (br_f (by decide) ?_)))
  refine zq_add (i := 0) (b := 3) (c := 5) (by decide) hk (by omega) ht (by decide) (by decide) (br_t rfl ?_)
  refine zq_add (i := 1) (k := 7) (b := 0) (c := 0) (by decide) (by decide) (by decide) ht (by decide) (by decide) (br_t rfl ?_)
  refine zq_run (k := k) (t := t) (p := p) (q := q) ⟨rfl, rfl, rfl, rfl, rfl, rfl, hk, hk6, ht⟩ ⟨rfl, rfl, rfl, rfl, rfl, rfl⟩ (fun g4 g5 g6 g7 g8 b5 b6 b7 b8 b11 b12 hf ho => br_t rfl ?_)
  have h0 : b5 0 = if t = 0 then zq_due k p q else 0 := hf.2 0 5 _ rfl rfl
  have h3 : b5 3 = if t = 3 then zq_due k p q else p := hf.2 3 2 _ rfl rfl
  have h5 : b5 5 = if t = 5 then zq_due k p q else q := hf.2 5 0 _ rfl rfl
  exact zq_out (br_t ho (zq_var ht (br_t (zq_fin_t ht hf) (zq_var (v := 3) (by decide) (pk_eq t 3 (fun c => zq_l224 (by rw [h3, if_pos c]) ht h0 h5 H) (fun c => zq_l224 (by rw [h3, if_neg c]) ht h0 h5 H))))))
theorem zq_l82 {post : Int32 → St0 → Prop} {k t : Nat} {p q z : Int32} (hk : 1 ≤ k) (hk6 : k ≤ 6) (ht : t ≤ 5) (hz : k ≤ 5 → z = zq_due k p q) (H : post 1 ()) : wL_lawOf_82 post 468 7488 p q (nI k) (nI t) z 0 0 := by
  unfold wL_lawOf_82
  refine pk_eq k 6 (fun e => ?_) (fun e => ?_)
  · subst e
    refine br_c (fun c => ?_) (fun c => ?_)
    · have hd : zq_due 6 p q = 0 := if_pos c
      unfold wL_lawOf_99
      rw [← hd]
      exact zq_l101 hk hk6 ht H
    · have hd : zq_due 6 p q = 1 := if_neg c
      unfold wL_lawOf_99
      rw [← hd]
      exact zq_l101 hk hk6 ht H
  · rw [hz (by omega)]
    exact zq_l101 hk hk6 ht H
theorem zq_l69 {post : Int32 → St0 → Prop} {k t : Nat} {p q z : Int32} (hk : 1 ≤ k) (hk6 : k ≤ 6) (ht : t ≤ 5) (hz : k ≤ 4 → z = zq_due k p q) (H : post 1 ()) : wL_lawOf_69 post 468 7488 p q (nI k) (nI t) z 0 0 := by
  unfold wL_lawOf_69
  exact pk_eq k 5 (fun e => nm_e (zq_l82 hk hk6 ht (fun _ => by rw [e]; rfl) H)) (fun e => zq_l82 hk hk6 ht (fun h => hz (by omega)) H)
theorem zq_rem (x : Int32) : ∃ j : Nat, j < 6 ∧ (x &&& 255) - (x &&& 255) / 6 * 6 = nI j := by
  obtain ⟨j, hj, e⟩ := pk_andE x 8 (m := 255) (by decide)
  rw [e]
  exact ⟨j % 6, Nat.mod_lt _ (by decide), pk_rem (d := 6) (by omega) (by decide) (by decide)⟩
theorem zq_lawOf {post : Int32 → St0 → Prop} (x p q y : Int32) (H : post 1 ()) : wpL_lawOf post 468 7488 () x p q y := by
  obtain ⟨j, hj, ej⟩ := zq_rem x
  obtain ⟨t, ht, et⟩ := zq_rem y
  unfold wpL_lawOf
  rw [ej, et]
  refine ⟨by decide, nm_r (e' := nI (1 + j)) (nI_add 1 j) ⟨by decide, nm_e ?_⟩⟩
  exact pk_eq (1 + j) 1 (fun e => zq_l69 (by omega) (by omega) (by omega) (fun _ => by rw [e]; rfl) H)
    (fun n1 => pk_eq (1 + j) 2 (fun e => zq_l69 (by omega) (by omega) (by omega) (fun _ => by rw [e]; rfl) H)
    (fun n2 => pk_eq (1 + j) 3 (fun e => zq_l69 (by omega) (by omega) (by omega) (fun _ => by rw [e]; rfl) H)
    (fun n3 => pk_eq (1 + j) 4 (fun e => zq_l69 (by omega) (by omega) (by omega) (fun _ => by rw [e]; rfl) H)
    (fun n4 => zq_l69 (by omega) (by omega) (by omega) (fun h => absurd h (by omega)) H))))
theorem zq_cell {post : Int32 → Prop} {xs : Nat → Int32} {L i : Nat} {u : St0} (hL : L ≤ 4) (hi : i < 4) (H : ∀ x, post x) : wpL_cellAt post L xs u (nI i) := by
  unfold wpL_cellAt
  exact pk_le L i (fun _ => H _) (fun z => ⟨pk_in i L z, H _⟩)
end
theorem i_vc (xs : Nat → Int32) (L : Nat) (hL : L ≤ 4) : wpL_law (fun r => r = 1) L xs := by
  unfold wpL_law
  exact zq_cell (i := 0) hL (by decide) (fun r1 => zq_cell (i := 1) hL (by decide) (fun r2 => zq_cell (i := 2) hL (by decide) (fun r3 => zq_cell (i := 3) hL (by decide) (fun r4 => ⟨468, 7488, by decide, by decide, zq_lawOf r1 r2 r3 r4 rfl⟩))))
end
