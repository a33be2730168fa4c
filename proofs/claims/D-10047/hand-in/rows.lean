section
/-! numbers -/
theorem ld_cx (b k : Nat) : (6 : Int32) * nI b + nI k = nI (6 * b + k) := by
  rw [show (6 : Int32) = nI 6 from rfl, pk_mul, nI_add]
theorem ld_cc {b k : Nat} (h : 6 * b + k < 192) : ((6 : Int32) * nI b + nI k).toNatClampNeg = 6 * b + k := by
  rw [ld_cx, nI_clamp (by omega)]
theorem ld_ci {b k : Nat} (h : 6 * b + k < 192) : vp_in ((6 : Int32) * nI b + nI k) 192 := pk_in (6 * b + k) 192 h (ld_cx b k)
theorem ld_ge0 {n : Nat} (h : n < 2 ^ 31) : ¬ nI n ≤ -1 := by
  rw [Int32.le_iff_toInt_le, nI_toInt h]
  have : (-1 : Int32).toInt = -1 := by decide
  omega
theorem ld_ne {n : Nat} (h : n < 2 ^ 31) : ¬ nI n = -1 := fun e => ld_ge0 h (by rw [e]; decide)
theorem ld_sz {a b : Nat} (ha : a < 2 ^ 30) (hb : b < 2 ^ 30) : nI a ≤ nI b - 1 ↔ a < b := by
  cases b with
  | zero =>
    have e : nI 0 - 1 = (-1 : Int32) := by decide
    rw [e]
    exact ⟨fun z => absurd z (ld_ge0 (by omega)), fun z => absurd z (by omega)⟩
  | succ b =>
    rw [nI_pred, nI_leI (by omega) (by omega)]
    omega
/-! links -/
def ld_lk (a4 : Nat → Int32) : List Nat → Int32 → Int32 → Prop
  | [], h, e => h = e
  | b :: r, h, e => h = nI b ∧ ld_lk a4 r (a4 b) e
theorem ld_lk_app {a4 : Nat → Int32} {A B : List Nat} {h e : Int32} : ld_lk a4 (A ++ B) h e ↔ ∃ m, ld_lk a4 A h m ∧ ld_lk a4 B m e := by
  induction A generalizing h with
  | nil =>
    constructor
    · intro H
      exact ⟨h, rfl, H⟩
    · intro ⟨m, e1, H⟩
      have e2 : h = m := e1
      subst e2
      exact H
  | cons b r ih =>
    constructor
    · intro ⟨h1, H⟩
      obtain ⟨m, h2, h3⟩ := ih.mp H
      exact ⟨m, ⟨h1, h2⟩, h3⟩
    · intro ⟨m, ⟨h1, h2⟩, h3⟩
      exact ⟨h1, ih.mpr ⟨m, h2, h3⟩⟩
theorem ld_lk_fr {a4 a4' : Nat → Int32} {A : List Nat} {h e : Int32} (H : ld_lk a4 A h e) (hf : ∀ b, b ∈ A → a4' b = a4 b) : ld_lk a4' A h e := by
  induction A generalizing h with
  | nil => exact H
  | cons b r ih =>
    refine ⟨H.1, ?_⟩
    rw [hf b (by simp)]
    exact ih H.2 (fun c hc => hf c (by simp [hc]))
/-! blocks -/
def ld_fl : List (Nat × List Nat) → List Nat
  | [] => []
  | x :: r => x.2 ++ ld_fl r
theorem ld_fl_app (A B : List (Nat × List Nat)) : ld_fl (A ++ B) = ld_fl A ++ ld_fl B := by
  induction A with
  | nil => rfl
  | cons x r ih =>
    show x.2 ++ ld_fl (r ++ B) = (x.2 ++ ld_fl r) ++ ld_fl B
    rw [ih, List.append_assoc]
theorem ld_fl_c (x : Nat × List Nat) (B : List (Nat × List Nat)) : ld_fl (x :: B) = x.2 ++ ld_fl B := rfl
theorem ld_fl_0 : ld_fl [] = [] := rfl
theorem ld_fl_mem {B : List (Nat × List Nat)} {x : Nat × List Nat} {y : Nat} (hx : x ∈ B) (hy : y ∈ x.2) : y ∈ ld_fl B := by
  induction B with
  | nil => cases hx
  | cons z r ih =>
    rw [ld_fl_c]
    rcases List.mem_cons.mp hx with e | e
    · subst e
      exact List.mem_append.mpr (Or.inl hy)
    · exact List.mem_append.mpr (Or.inr (ih e))
def ld_tx (T : List Nat) : Prop := T.Nodup ∧ T.length ≤ 60 ∧ ∀ x, x ∈ T → x < 128
def ld_bk (a2 a5 a6 : Nat → Int32) (x : Nat × List Nat) : Prop := x.1 < 32 ∧ x.2.length ≤ 6 ∧ a5 x.1 = nI x.2.length ∧ (∀ k y, x.2[k]? = some y → a6 (6 * x.1 + k) = nI y) ∧ ∀ y, y ∈ x.2 → a2 y = nI x.1
theorem ld_bk_fr {a2 a5 a6 a2' a5' a6' : Nat → Int32} {x : Nat × List Nat} (h : ld_bk a2 a5 a6 x) (h5 : a5' x.1 = a5 x.1) (h6 : ∀ k, k < 6 → a6' (6 * x.1 + k) = a6 (6 * x.1 + k)) (h2 : ∀ y, y ∈ x.2 → a2' y = a2 y) : ld_bk a2' a5' a6' x := by
  obtain ⟨b1, b2, b3, b4, b5⟩ := h
  refine ⟨b1, b2, by rw [h5]; exact b3, fun k y hk => ?_, fun y hy => by rw [h2 y hy]; exact b5 y hy⟩
  have hl : k < x.2.length := (List.getElem?_eq_some_iff.mp hk).1
  rw [h6 k (by omega)]
  exact b4 k y hk
def ld_pk : List (Nat × List Nat) → Prop
  | [] => True
  | [_] => True
  | x :: y :: r => 7 ≤ x.2.length + y.2.length ∧ ld_pk (y :: r)
theorem ld_pk_len : ∀ (n : Nat) (B : List (Nat × List Nat)), B.length ≤ n → ld_pk B → 7 * (B.length / 2) ≤ (ld_fl B).length := by
  intro n
  induction n with
  | zero =>
    intro B h _
    have e : B.length = 0 := by omega
    rw [e]
    omega
  | succ n ih =>
    intro B h hp
    match B, h, hp with
    | [], _, _ => simp
    | [x], _, _ => simp
    | x :: y :: r, h, hp =>
      have hr : ld_pk r := by
        match r, hp with
        | [], _ => trivial
        | z :: r', hp => exact hp.2.2
      have e := ih r (by simp only [List.length_cons] at h; omega) hr
      have h7 := hp.1
      rw [ld_fl_c, ld_fl_c]
      simp only [List.length_append, List.length_cons]
      omega
theorem ld_pk_app {A : List (Nat × List Nat)} {x y : Nat × List Nat} (h : ld_pk (A ++ [x])) (h7 : 7 ≤ x.2.length + y.2.length) : ld_pk (A ++ [x] ++ [y]) := by
  induction A with
  | nil => exact ⟨h7, trivial⟩
  | cons z r ih =>
    cases r with
    | nil => exact ⟨h.1, h7, trivial⟩
    | cons w r' => exact ⟨h.1, ih h.2⟩
theorem ld_pk_gr {A : List (Nat × List Nat)} {b : Nat} {l l' : List Nat} (h : ld_pk (A ++ [(b, l)])) (hl : l.length ≤ l'.length) : ld_pk (A ++ [(b, l')]) := by
  induction A with
  | nil => trivial
  | cons z r ih =>
    cases r with
    | nil =>
      have h1 : 7 ≤ z.2.length + l.length := h.1
      exact ⟨show 7 ≤ z.2.length + l'.length by omega, trivial⟩
    | cons w r' => exact ⟨h.1, ih h.2⟩
/-- the blocks B, the free ones F, the text T -/
def ld_R0 (fr : Int32) (a2 a4 a5 a6 : Nat → Int32) (B : List (Nat × List Nat)) (F : List Nat) (T : List Nat) : Prop :=
  ld_lk a4 (B.map Prod.fst) 0 (-1) ∧ ld_lk a4 F fr (-1) ∧ (B.map Prod.fst ++ F).Nodup ∧ (∀ b, b ∈ F → b < 32) ∧ B.length + F.length = 32 ∧ (∀ x, x ∈ B → ld_bk a2 a5 a6 x) ∧ ld_fl B = T ∧ ld_tx T ∧ ∀ i, i < 128 → i ∉ T → a2 i = -1
def ld_R (fr : Int32) (a2 a4 a5 a6 : Nat → Int32) (T : List Nat) : Prop := ∃ B F, ld_R0 fr a2 a4 a5 a6 B F T ∧ ld_pk B
theorem ld_R_tx {fr : Int32} {a2 a4 a5 a6 : Nat → Int32} {T : List Nat} (h : ld_R fr a2 a4 a5 a6 T) : ld_tx T := by
  obtain ⟨B, F, h, _⟩ := h
  exact h.2.2.2.2.2.2.2.1
theorem ld_at0 : ∀ (B : List (Nat × List Nat)) (n : Nat), B ≠ [] → n ≤ (ld_fl B).length → ∃ B1 b l B2 r, B = B1 ++ (b, l) :: B2 ∧ n = (ld_fl B1).length + r ∧ r ≤ l.length ∧ (r < l.length ∨ B2 = []) := by
  intro B
  induction B with
  | nil => intro n h; exact absurd rfl h
  | cons x r ih =>
    intro n _ hn
    rw [ld_fl_c, List.length_append] at hn
    by_cases h1 : n < x.2.length
    · exact ⟨[], x.1, x.2, r, n, rfl, by simp [ld_fl_0], by omega, Or.inl h1⟩
    · by_cases h2 : r = []
      · subst h2
        rw [ld_fl_0, List.length_nil] at hn
        exact ⟨[], x.1, x.2, [], n, rfl, by simp [ld_fl_0], by omega, Or.inr rfl⟩
      · obtain ⟨B1, b, l, B2, k, e1, e2, e3, e4⟩ := ih (n - x.2.length) h2 (by omega)
        refine ⟨x :: B1, b, l, B2, k, by rw [e1]; rfl, ?_, e3, e4⟩
        rw [ld_fl_c, List.length_append]
        omega
theorem ld_at {B : List (Nat × List Nat)} {P Q : List Nat} (hB : B ≠ []) (hT : ld_fl B = P ++ Q) : ∃ B1 b l1 l2 B2, B = B1 ++ (b, l1 ++ l2) :: B2 ∧ P = ld_fl B1 ++ l1 ∧ Q = l2 ++ ld_fl B2 ∧ (l2 ≠ [] ∨ B2 = []) := by
  obtain ⟨B1, b, l, B2, r, e1, e2, e3, e4⟩ := ld_at0 B P.length hB (by rw [hT, List.length_append]; omega)
  have ht : P ++ Q = (ld_fl B1 ++ l.take r) ++ (l.drop r ++ ld_fl B2) := by
    rw [← hT, e1, ld_fl_app, ld_fl_c, List.append_assoc, ← List.append_assoc (l.take r), List.take_append_drop]
  have hl : P.length = (ld_fl B1 ++ l.take r).length := by
    rw [List.length_append, List.length_take]
    omega
  obtain ⟨f1, f2⟩ := List.append_inj ht hl
  refine ⟨B1, b, l.take r, l.drop r, B2, by rw [List.take_append_drop]; exact e1, f1, f2, ?_⟩
  rcases e4 with e4 | e4
  · left
    intro z
    have := congrArg List.length z
    rw [List.length_drop, List.length_nil] at this
    omega
  · exact Or.inr e4
theorem ld_R0_ne {fr : Int32} {a2 a4 a5 a6 : Nat → Int32} {B : List (Nat × List Nat)} {F T : List Nat} (h : ld_R0 fr a2 a4 a5 a6 B F T) : B ≠ [] := by
  intro e
  subst e
  have : (0 : Int32) = -1 := h.1
  exact absurd this (by decide)
theorem ld_atid {B : List (Nat × List Nat)} {P Q : List Nat} {id : Nat} (hB : B ≠ []) (hT : ld_fl B = P ++ id :: Q) : ∃ B1 b l1 l2 B2, B = B1 ++ (b, l1 ++ id :: l2) :: B2 ∧ P = ld_fl B1 ++ l1 ∧ Q = l2 ++ ld_fl B2 := by
  obtain ⟨B1, b, l1, l2, B2, e1, e2, e3, e4⟩ := ld_at hB hT
  cases l2 with
  | nil =>
    rcases e4 with e4 | e4
    · exact absurd rfl e4
    · subst e4
      cases e3
  | cons x l2 =>
    cases e3
    exact ⟨B1, b, l1, l2, B2, e1, e2, rfl⟩
/-- the links at one block -/
theorem ld_lk_at {a4 : Nat → Int32} {B1 B2 : List (Nat × List Nat)} {b : Nat} {l : List Nat} {h : Int32} (H : ld_lk a4 ((B1 ++ (b, l) :: B2).map Prod.fst) h (-1)) : ld_lk a4 (B1.map Prod.fst) h (nI b) ∧ ld_lk a4 (B2.map Prod.fst) (a4 b) (-1) := by
  rw [List.map_append, List.map_cons] at H
  obtain ⟨m, h1, h2, h3⟩ := ld_lk_app.mp H
  have h2' : m = nI b := h2
  rw [h2'] at h1
  exact ⟨h1, h3⟩
theorem ld_lk_mk {a4 : Nat → Int32} {B1 B2 : List (Nat × List Nat)} {b : Nat} {l : List Nat} {h : Int32} (h1 : ld_lk a4 (B1.map Prod.fst) h (nI b)) (h2 : ld_lk a4 (B2.map Prod.fst) (a4 b) (-1)) : ld_lk a4 ((B1 ++ (b, l) :: B2).map Prod.fst) h (-1) := by
  rw [List.map_append, List.map_cons]
  exact ld_lk_app.mpr ⟨_, h1, rfl, h2⟩
/-- one block's contents are changed -/
theorem ld_R0_set {fr : Int32} {a2 a4 a5 a6 a2' a5' a6' : Nat → Int32} {B1 B2 : List (Nat × List Nat)} {b : Nat} {l l' F T T' : List Nat} (h : ld_R0 fr a2 a4 a5 a6 (B1 ++ (b, l) :: B2) F T) (hb : ld_bk a2' a5' a6' (b, l')) (h5 : ∀ c, c ≠ b → a5' c = a5 c) (h6 : ∀ c k, c ≠ b → k < 6 → a6' (6 * c + k) = a6 (6 * c + k))
    (h2 : ∀ y, y ∈ ld_fl B1 ++ ld_fl B2 → a2' y = a2 y) (hT : T' = ld_fl B1 ++ (l' ++ ld_fl B2)) (ht : ld_tx T') (hn : ∀ i, i < 128 → i ∉ T' → a2' i = -1) : ld_R0 fr a2' a4 a5' a6' (B1 ++ (b, l') :: B2) F T' := by
  obtain ⟨r1, r2, r3, r4, r5, r6, r7, r8, r9⟩ := h
  have em : (B1 ++ (b, l') :: B2).map Prod.fst = (B1 ++ (b, l) :: B2).map Prod.fst := by simp
  have el : (B1 ++ (b, l') :: B2).length = (B1 ++ (b, l) :: B2).length := by simp
  refine ⟨by rw [em]; exact r1, r2, by rw [em]; exact r3, r4, by rw [el]; exact r5, fun x hx => ?_, ?_, ht, hn⟩
  · have hnd : ∀ x, x ∈ B1 ∨ x ∈ B2 → x.1 ≠ b := by
      intro x hx e
      rw [List.map_append, List.map_cons] at r3
      have r3' := (List.nodup_append.mp r3).1
      rw [List.nodup_append] at r3'
      rcases hx with hx | hx
      · exact r3'.2.2 x.1 (List.mem_map_of_mem hx) b (by simp) e
      · have hm : x.1 ∈ B2.map Prod.fst := List.mem_map_of_mem hx
        rw [e] at hm
        exact (List.nodup_cons.mp r3'.2.1).1 hm
    have old : ∀ x, x ∈ B1 ∨ x ∈ B2 → ld_bk a2' a5' a6' x := by
      intro x hx
      refine ld_bk_fr (r6 x (by rcases hx with hx | hx <;> simp [hx])) (h5 _ (hnd x hx)) (fun k hk => h6 _ k (hnd x hx) hk) (fun y hy => h2 y ?_)
      rcases hx with hx | hx
      · exact List.mem_append.mpr (Or.inl (ld_fl_mem hx hy))
      · exact List.mem_append.mpr (Or.inr (ld_fl_mem hx hy))
    rcases List.mem_append.mp hx with hx | hx
    · exact old x (Or.inl hx)
    · rcases List.mem_cons.mp hx with e | e
      · rw [e]
        exact hb
      · exact old x (Or.inr e)
  · rw [ld_fl_app, ld_fl_c, hT]
theorem ld_R0_bk {fr : Int32} {a2 a4 a5 a6 : Nat → Int32} {B1 B2 : List (Nat × List Nat)} {b : Nat} {l F T : List Nat} (h : ld_R0 fr a2 a4 a5 a6 (B1 ++ (b, l) :: B2) F T) : ld_bk a2 a5 a6 (b, l) := h.2.2.2.2.2.1 (b, l) (by simp)
end
section
theorem ld_ap_l {l1 l2 : List Nat} {k : Nat} (h : k < l1.length) : (l1 ++ l2)[k]? = l1[k]? := List.getElem?_append_left h
theorem ld_ap_r {l1 l2 : List Nat} {k : Nat} : (l1 ++ l2)[l1.length + k]? = l2[k]? := by
  rw [List.getElem?_append_right (by omega), show l1.length + k - l1.length = k by omega]
theorem ld_lt {l : List Nat} {k y : Nat} (h : l[k]? = some y) : k < l.length := (List.getElem?_eq_some_iff.mp h).1
theorem ld_mem {l : List Nat} {k y : Nat} (h : l[k]? = some y) : y ∈ l := List.mem_of_getElem? h
theorem ld_u_ne {f : Nat → Int32} {k j : Nat} {x : Int32} (h : j ≠ k) : upd f k x j = f j := pk_un h
/-- a line is put into a block -/
theorem ld_ins {fr : Int32} {a2 a4 a5 a6 a6' : Nat → Int32} {B1 B2 : List (Nat × List Nat)} {b id : Nat} {l1 l2 F T : List Nat} (h : ld_R0 fr a2 a4 a5 a6 (B1 ++ (b, l1 ++ l2) :: B2) F T) (hl : (l1 ++ l2).length < 6)
    (ht : ld_tx ((ld_fl B1 ++ l1) ++ id :: (l2 ++ ld_fl B2))) (k1 : ∀ j, j ≤ 6 * b + l1.length ∨ 6 * b + (l1 ++ l2).length < j → a6' j = a6 j) (k2 : ∀ k, l1.length < k → k ≤ (l1 ++ l2).length → a6' (6 * b + k) = a6 (6 * b + (k - 1))) :
    ld_R0 fr (upd a2 id (nI b)) a4 (upd a5 b (nI ((l1 ++ l2).length + 1))) (upd a6' (6 * b + l1.length) (nI id)) (B1 ++ (b, l1 ++ id :: l2) :: B2) F ((ld_fl B1 ++ l1) ++ id :: (l2 ++ ld_fl B2)) := by
  obtain ⟨b1, b2, b3, b4, b5⟩ := ld_R0_bk h
  dsimp only at b1 b2 b3 b4 b5
  have hT : ld_fl B1 ++ ((l1 ++ l2) ++ ld_fl B2) = T := by
    rw [← h.2.2.2.2.2.2.1, ld_fl_app, ld_fl_c]
  have hlen : (l1 ++ l2).length = l1.length + l2.length := List.length_append
  have hid : ∀ y, y ∈ ld_fl B1 ∨ y ∈ l1 ∨ y ∈ l2 ∨ y ∈ ld_fl B2 → y ≠ id := by
    intro y hy e
    have hn := ht.1
    rw [List.nodup_append] at hn
    rcases hy with hy | hy | hy | hy
    · exact hn.2.2 y (by simp [hy]) id (by simp) e
    · exact hn.2.2 y (by simp [hy]) id (by simp) e
    · exact (List.nodup_cons.mp hn.2.1).1 (by rw [← e]; simp [hy])
    · exact (List.nodup_cons.mp hn.2.1).1 (by rw [← e]; simp [hy])
  refine ld_R0_set h ⟨b1, ?_, ?_, ?_, ?_⟩ (fun c hc => pk_un hc) (fun c k hc hk => ?_) (fun y hy => pk_un (hid y ?_)) (by simp [List.append_assoc]) ht ?_
  · show (l1 ++ id :: l2).length ≤ 6
    rw [List.length_append, List.length_cons]
    omega
  · show upd a5 b (nI ((l1 ++ l2).length + 1)) b = nI (l1 ++ id :: l2).length
    rw [pk_us, hlen, List.length_append, List.length_cons]
    rfl
  · intro k y hk
    show upd a6' (6 * b + l1.length) (nI id) (6 * b + k) = nI y
    have hk' : (l1 ++ id :: l2)[k]? = some y := hk
    have hkl := ld_lt hk'
    rw [List.length_append, List.length_cons] at hkl
    rcases Nat.lt_trichotomy k l1.length with z | z | z
    · rw [pk_un (by omega), k1 _ (Or.inl (by omega))]
      rw [ld_ap_l z] at hk'
      exact b4 k y (by rw [ld_ap_l z]; exact hk')
    · rw [z, pk_us]
      rw [z, show l1.length = l1.length + 0 by omega, ld_ap_r] at hk'
      cases hk'
      rfl
    · rw [pk_un (by omega), k2 k z (by omega)]
      refine b4 (k - 1) y ?_
      rw [show k = l1.length + ((k - 1 - l1.length) + 1) by omega, ld_ap_r, List.getElem?_cons_succ] at hk'
      rw [show k - 1 = l1.length + (k - 1 - l1.length) by omega, ld_ap_r]
      exact hk'
  · intro y hy
    show upd a2 id (nI b) y = nI b
    by_cases e : y = id
    · rw [e, pk_us]
    · rw [pk_un e]
      have hy' : y ∈ l1 ++ id :: l2 := hy
      refine b5 y ?_
      rcases List.mem_append.mp hy' with z | z
      · exact List.mem_append.mpr (Or.inl z)
      · rcases List.mem_cons.mp z with w | w
        · exact absurd w e
        · exact List.mem_append.mpr (Or.inr w)
  · rw [pk_un (by omega), k1 _ (by omega)]
  · rcases List.mem_append.mp hy with z | z
    · exact Or.inl z
    · exact Or.inr (Or.inr (Or.inr z))
  · intro i hi hiT
    have e : i ≠ id := fun z => hiT (by rw [z]; simp)
    rw [pk_un e]
    refine h.2.2.2.2.2.2.2.2 i hi (fun z => hiT ?_)
    rw [← hT] at z
    simp only [List.mem_append, List.mem_cons] at z ⊢
    rcases z with z | z | z
    · exact Or.inl (Or.inl z)
    · rcases z with z | z
      · exact Or.inl (Or.inr z)
      · exact Or.inr (Or.inr (Or.inl z))
    · exact Or.inr (Or.inr (Or.inr z))
/-- a line is taken out of a block -/
theorem ld_del {fr : Int32} {a2 a4 a5 a6 a6' : Nat → Int32} {B1 B2 : List (Nat × List Nat)} {b id : Nat} {l1 l2 F T : List Nat} (h : ld_R0 fr a2 a4 a5 a6 (B1 ++ (b, l1 ++ id :: l2) :: B2) F T)
    (k1 : ∀ j, j < 6 * b + l1.length ∨ 6 * b + (l1 ++ l2).length ≤ j → a6' j = a6 j) (k2 : ∀ k, l1.length ≤ k → k < (l1 ++ l2).length → a6' (6 * b + k) = a6 (6 * b + (k + 1))) :
    ld_R0 fr (upd a2 id (-1)) a4 (upd a5 b (nI (l1 ++ l2).length)) a6' (B1 ++ (b, l1 ++ l2) :: B2) F ((ld_fl B1 ++ l1) ++ (l2 ++ ld_fl B2)) := by
  obtain ⟨b1, b2, b3, b4, b5⟩ := ld_R0_bk h
  dsimp only at b1 b2 b3 b4 b5
  have hT : (ld_fl B1 ++ l1) ++ id :: (l2 ++ ld_fl B2) = T := by
    rw [← h.2.2.2.2.2.2.1, ld_fl_app, ld_fl_c]
    simp [List.append_assoc]
  have ht := h.2.2.2.2.2.2.2.1
  rw [← hT] at ht
  have hlen : (l1 ++ l2).length = l1.length + l2.length := List.length_append
  have hn := ht.1
  rw [List.nodup_append, List.nodup_cons] at hn
  have hid : ∀ y, y ∈ (ld_fl B1 ++ l1) ++ (l2 ++ ld_fl B2) → y ≠ id := by
    intro y hy e
    rcases List.mem_append.mp hy with z | z
    · exact hn.2.2 y z id (by simp) e
    · exact hn.2.1.1 (by rw [← e]; exact z)
  rw [List.length_append, List.length_cons] at b2
  refine ld_R0_set h ⟨b1, ?_, ?_, ?_, ?_⟩ (fun c hc => pk_un hc) (fun c k hc hk => k1 _ (by omega)) (fun y hy => pk_un (hid y ?_)) (by simp [List.append_assoc]) ⟨?_, ?_, ?_⟩ ?_
  · show (l1 ++ l2).length ≤ 6
    omega
  · show upd a5 b (nI (l1 ++ l2).length) b = nI (l1 ++ l2).length
    rw [pk_us]
  · intro k y hk
    show a6' (6 * b + k) = nI y
    have hk' : (l1 ++ l2)[k]? = some y := hk
    have hkl := ld_lt hk'
    by_cases z : k < l1.length
    · rw [k1 _ (Or.inl (by omega))]
      rw [ld_ap_l z] at hk'
      exact b4 k y (by rw [ld_ap_l z]; exact hk')
    · rw [k2 k (by omega) hkl]
      refine b4 (k + 1) y ?_
      rw [show k = l1.length + (k - l1.length) by omega, ld_ap_r] at hk'
      rw [show k + 1 = l1.length + ((k - l1.length) + 1) by omega, ld_ap_r, List.getElem?_cons_succ]
      exact hk'
  · intro y hy
    show upd a2 id (-1) y = nI b
    have hy' : y ∈ l1 ++ l2 := hy
    have e : y ≠ id := hid y (by simp only [List.mem_append] at hy' ⊢; rcases hy' with z | z; exact Or.inl (Or.inr z); exact Or.inr (Or.inl z))
    rw [pk_un e]
    refine b5 y ?_
    simp only [List.mem_append, List.mem_cons] at hy' ⊢
    rcases hy' with z | z
    · exact Or.inl z
    · exact Or.inr (Or.inr z)
  · simp only [List.mem_append] at hy ⊢
    rcases hy with z | z
    · exact Or.inl (Or.inl z)
    · exact Or.inr (Or.inr z)
  · rw [List.nodup_append]
    exact ⟨hn.1, hn.2.1.2, fun x hx y hy => hn.2.2 x hx y (by simp only [List.mem_append, List.mem_cons] at hy ⊢; exact Or.inr hy)⟩
  · have := ht.2.1
    simp only [List.length_append, List.length_cons] at this ⊢
    omega
  · intro x hx
    refine ht.2.2 x ?_
    simp only [List.mem_append, List.mem_cons] at hx ⊢
    rcases hx with z | z
    · exact Or.inl z
    · exact Or.inr (Or.inr z)
  · intro i hi hiT
    by_cases e : i = id
    · rw [e, pk_us]
    · rw [pk_un e]
      refine h.2.2.2.2.2.2.2.2 i hi (fun z => hiT ?_)
      rw [← hT] at z
      simp only [List.mem_append, List.mem_cons] at z ⊢
      rcases z with z | z
      · exact Or.inl z
      · rcases z with z | z
        · exact absurd z e
        · exact Or.inr z
theorem ld_nd {A C F : List Nat} {b f : Nat} (h : (A ++ b :: C ++ f :: F).Nodup) : (∀ c, c ∈ A → c ≠ b ∧ c ≠ f) ∧ (∀ c, c ∈ C → c ≠ b ∧ c ≠ f) ∧ b ≠ f ∧ (∀ c, c ∈ F → c ≠ b ∧ c ≠ f) := by
  simp only [List.nodup_append, List.nodup_cons, List.mem_append, List.mem_cons] at h
  obtain ⟨⟨h1, ⟨h2, h3⟩, h4⟩, ⟨h5, h6⟩, h7⟩ := h
  refine ⟨fun c hc => ⟨h4 c hc b (Or.inl rfl), h7 c (Or.inl hc) f (Or.inl rfl)⟩, fun c hc => ⟨fun e => h2 (e ▸ hc), h7 c (Or.inr (Or.inr hc)) f (Or.inl rfl)⟩, h7 b (Or.inr (Or.inl rfl)) f (Or.inl rfl), fun c hc => ⟨fun e => h7 b (Or.inr (Or.inl rfl)) c (Or.inr hc) e.symm, fun e => h5 (e ▸ hc)⟩⟩
theorem ld_pm1 {A C F : List Nat} {b f : Nat} : (A ++ b :: f :: C ++ F).Perm (A ++ b :: C ++ f :: F) := by
  rw [List.perm_iff_count]
  intro a
  simp only [List.count_append, List.count_cons]
  omega
/-- a full block is split -/
theorem ld_split {fr : Int32} {a2 a4 a5 a6 a2' a6' : Nat → Int32} {B1 B2 : List (Nat × List Nat)} {b f : Nat} {l1 l2 F T : List Nat} (h : ld_R0 fr a2 a4 a5 a6 (B1 ++ (b, l1 ++ l2) :: B2) (f :: F) T) (e1 : l1.length = 3) (e2 : l2.length = 3)
    (k1 : ∀ k, k < 3 → a6' (6 * f + k) = a6 (6 * b + (3 + k))) (k2 : ∀ j, j < 6 * f ∨ 6 * f + 3 ≤ j → a6' j = a6 j) (k3 : ∀ y, y ∈ l2 → a2' y = nI f) (k4 : ∀ y, y ∉ l2 → a2' y = a2 y) :
    ld_R0 (a4 f) a2' (upd (upd a4 f (a4 b)) b (nI f)) (upd (upd a5 f 3) b 3) a6' (B1 ++ (b, l1) :: (f, l2) :: B2) F T := by
  obtain ⟨b1, b2, b3, b4, b5⟩ := ld_R0_bk h
  dsimp only at b1 b2 b3 b4 b5
  obtain ⟨r1, r2, r3, r4, r5, r6, r7, r8, r9⟩ := h
  have r3' : (B1.map Prod.fst ++ b :: B2.map Prod.fst ++ f :: F).Nodup := by
    rw [List.map_append, List.map_cons] at r3
    exact r3
  obtain ⟨n1, n2, n3, n4⟩ := ld_nd r3'
  obtain ⟨q1, q2⟩ := ld_lk_at r1
  have f1 : ∀ c, c ≠ b → c ≠ f → upd (upd a4 f (a4 b)) b (nI f) c = a4 c := fun c z1 z2 => by rw [pk_un z1, pk_un z2]
  have f5 : ∀ c, c ≠ b → c ≠ f → upd (upd a5 f 3) b 3 c = a5 c := fun c z1 z2 => by rw [pk_un z1, pk_un z2]
  have hT : ld_fl B1 ++ ((l1 ++ l2) ++ ld_fl B2) = T := by
    rw [← r7, ld_fl_app, ld_fl_c]
  have hnd := r8.1
  rw [← hT, List.nodup_append, List.nodup_append, List.nodup_append] at hnd
  have old : ∀ x, x ∈ B1 ∨ x ∈ B2 → ld_bk a2' (upd (upd a5 f 3) b 3) a6' x := by
    intro x hx
    have hx1 : x.1 ≠ b ∧ x.1 ≠ f := by
      rcases hx with hx | hx
      · exact n1 _ (List.mem_map_of_mem hx)
      · exact n2 _ (List.mem_map_of_mem hx)
    refine ld_bk_fr (r6 x (by rcases hx with hx | hx <;> simp [hx])) (f5 _ hx1.1 hx1.2) (fun k hk => k2 _ (by omega)) (fun y hy => k4 y (fun z => ?_))
    rcases hx with hx | hx
    · exact hnd.2.2 y (ld_fl_mem hx hy) y (by simp [z]) rfl
    · exact hnd.2.1.2.2 y (by simp [z]) y (ld_fl_mem hx hy) rfl
  refine ⟨ld_lk_mk (ld_lk_fr q1 (fun c hc => f1 c (n1 c hc).1 (n1 c hc).2)) ?_, ld_lk_fr r2.2 (fun c hc => f1 c (n4 c hc).1 (n4 c hc).2), ?_, fun c hc => r4 c (by simp [hc]), ?_, fun x hx => ?_, ?_, r8, fun i hi hiT => ?_⟩
  · rw [pk_us, List.map_cons]
    refine ⟨rfl, ?_⟩
    show ld_lk _ _ (upd (upd a4 f (a4 b)) b (nI f) f) (-1)
    rw [pk_un (Ne.symm n3), pk_us]
    exact ld_lk_fr q2 (fun c hc => f1 c (n2 c hc).1 (n2 c hc).2)
  · rw [List.map_append, List.map_cons, List.map_cons]
    exact ld_pm1.nodup_iff.mpr r3'
  · simp only [List.length_append, List.length_cons] at r5 ⊢
    omega
  · rcases List.mem_append.mp hx with hx | hx
    · exact old x (Or.inl hx)
    · rcases List.mem_cons.mp hx with e | hx
      · subst e
        refine ⟨b1, by show l1.length ≤ 6; omega, ?_, fun k y hk => ?_, fun y hy => ?_⟩
        · show upd (upd a5 f 3) b 3 b = nI l1.length
          rw [pk_us, e1]
          rfl
        · have hk' : l1[k]? = some y := hk
          have hkl := ld_lt hk'
          show a6' (6 * b + k) = nI y
          rw [k2 _ (by omega)]
          exact b4 k y (by rw [ld_ap_l hkl]; exact hk')
        · have hy' : y ∈ l1 := hy
          show a2' y = nI b
          rw [k4 y (fun z => hnd.2.1.1.2.2 y hy' y z rfl)]
          exact b5 y (by simp [hy'])
      · rcases List.mem_cons.mp hx with e | hx
        · subst e
          refine ⟨r4 f (by simp), by show l2.length ≤ 6; omega, ?_, fun k y hk => ?_, fun y hy => k3 y hy⟩
          · show upd (upd a5 f 3) b 3 f = nI l2.length
            rw [pk_un (Ne.symm n3), pk_us, e2]
            rfl
          · have hk' : l2[k]? = some y := hk
            have hkl := ld_lt hk'
            show a6' (6 * f + k) = nI y
            rw [k1 k (by omega)]
            exact b4 (3 + k) y (by rw [← e1, ld_ap_r]; exact hk')
        · exact old x (Or.inr hx)
  · rw [ld_fl_app, ld_fl_c, ld_fl_c, ← hT, List.append_assoc l1]
  · rw [k4 i (fun z => hiT (by rw [← hT]; simp [z]))]
    exact r9 i hi hiT
/-- two neighbours are joined -/
theorem ld_join {fr : Int32} {a2 a4 a5 a6 a2' a6' : Nat → Int32} {B1 B2 : List (Nat × List Nat)} {b f : Nat} {l1 l2 F T : List Nat} (h : ld_R0 fr a2 a4 a5 a6 (B1 ++ (b, l1) :: (f, l2) :: B2) F T) (e6 : l1.length + l2.length ≤ 6)
    (k1 : ∀ k, k < l2.length → a6' (6 * b + (l1.length + k)) = a6 (6 * f + k)) (k2 : ∀ j, j < 6 * b + l1.length ∨ 6 * b + (l1.length + l2.length) ≤ j → a6' j = a6 j) (k3 : ∀ y, y ∈ l2 → a2' y = nI b) (k4 : ∀ y, y ∉ l2 → a2' y = a2 y) :
    ld_R0 (nI f) a2' (upd (upd a4 b (a4 f)) f fr) (upd a5 b (nI (l1.length + l2.length))) a6' (B1 ++ (b, l1 ++ l2) :: B2) (f :: F) T := by
  obtain ⟨b1, b2, b3, b4, b5⟩ := ld_R0_bk h
  dsimp only at b1 b2 b3 b4 b5
  obtain ⟨c1, c2, c3, c4, c5⟩ := h.2.2.2.2.2.1 (f, l2) (by simp)
  dsimp only at c1 c2 c3 c4 c5
  obtain ⟨r1, r2, r3, r4, r5, r6, r7, r8, r9⟩ := h
  have r3' : (B1.map Prod.fst ++ b :: B2.map Prod.fst ++ f :: F).Nodup := by
    rw [List.map_append, List.map_cons, List.map_cons] at r3
    exact ld_pm1.nodup_iff.mp r3
  obtain ⟨n1, n2, n3, n4⟩ := ld_nd r3'
  obtain ⟨q1, q2⟩ := ld_lk_at r1
  obtain ⟨q3, q4⟩ : a4 b = nI f ∧ ld_lk a4 (B2.map Prod.fst) (a4 f) (-1) := q2
  have f1 : ∀ c, c ≠ b → c ≠ f → upd (upd a4 b (a4 f)) f fr c = a4 c := fun c z1 z2 => by rw [pk_un z2, pk_un z1]
  have hT : ld_fl B1 ++ (l1 ++ (l2 ++ ld_fl B2)) = T := by
    rw [← r7, ld_fl_app, ld_fl_c, ld_fl_c]
  have hnd := r8.1
  rw [← hT, List.nodup_append, List.nodup_append, List.nodup_append] at hnd
  have old : ∀ x, x ∈ B1 ∨ x ∈ B2 → ld_bk a2' (upd a5 b (nI (l1.length + l2.length))) a6' x := by
    intro x hx
    have hx1 : x.1 ≠ b ∧ x.1 ≠ f := by
      rcases hx with hx | hx
      · exact n1 _ (List.mem_map_of_mem hx)
      · exact n2 _ (List.mem_map_of_mem hx)
    refine ld_bk_fr (r6 x (by rcases hx with hx | hx <;> simp [hx])) (pk_un hx1.1) (fun k hk => k2 _ (by omega)) (fun y hy => k4 y (fun z => ?_))
    rcases hx with hx | hx
    · exact hnd.2.2 y (ld_fl_mem hx hy) y (by simp [z]) rfl
    · exact hnd.2.1.2.1.2.2 y z y (ld_fl_mem hx hy) rfl
  refine ⟨ld_lk_mk (ld_lk_fr q1 (fun c hc => f1 c (n1 c hc).1 (n1 c hc).2)) ?_, ⟨rfl, ?_⟩, ?_, fun c hc => ?_, ?_, fun x hx => ?_, ?_, r8, fun i hi hiT => ?_⟩
  · rw [pk_un n3, pk_us]
    exact ld_lk_fr q4 (fun c hc => f1 c (n2 c hc).1 (n2 c hc).2)
  · rw [pk_us]
    exact ld_lk_fr r2 (fun c hc => f1 c (n4 c hc).1 (n4 c hc).2)
  · rw [List.map_append, List.map_cons]
    exact r3'
  · rcases List.mem_cons.mp hc with e | e
    · rw [e]
      exact c1
    · exact r4 c e
  · simp only [List.length_append, List.length_cons] at r5 ⊢
    omega
  · rcases List.mem_append.mp hx with hx | hx
    · exact old x (Or.inl hx)
    · rcases List.mem_cons.mp hx with e | hx
      · subst e
        refine ⟨b1, by show (l1 ++ l2).length ≤ 6; rw [List.length_append]; omega, ?_, fun k y hk => ?_, fun y hy => ?_⟩
        · show upd a5 b (nI (l1.length + l2.length)) b = nI (l1 ++ l2).length
          rw [pk_us, List.length_append]
        · have hk' : (l1 ++ l2)[k]? = some y := hk
          have hkl := ld_lt hk'
          rw [List.length_append] at hkl
          show a6' (6 * b + k) = nI y
          by_cases z : k < l1.length
          · rw [k2 _ (by omega)]
            rw [ld_ap_l z] at hk'
            exact b4 k y hk'
          · obtain ⟨j, rfl⟩ : ∃ j, k = l1.length + j := ⟨k - l1.length, by omega⟩
            rw [k1 j (by omega)]
            rw [ld_ap_r] at hk'
            exact c4 j y hk'
        · have hy' : y ∈ l1 ++ l2 := hy
          show a2' y = nI b
          by_cases z : y ∈ l2
          · exact k3 y z
          · rw [k4 y z]
            exact b5 y (by rcases List.mem_append.mp hy' with w | w; exact w; exact absurd w z)
      · exact old x (Or.inr hx)
  · rw [ld_fl_app, ld_fl_c, ← hT, List.append_assoc l1]
  · rw [k4 i (fun z => hiT (by rw [← hT]; simp [z]))]
    exact r9 i hi hiT
end
section
/-- walkTo ends at the block and the cell of the place -/
theorem ld_walk14 {post : St1 → Prop} {c fr ac pl op ch st ns li : Int32} {a1 a2 a3 a4 a5 a6 a7 a8 a9 a10 a11 a12 a13 a14 a15 : Nat → Int32} {b r : Nat} {l : List Nat} {B2 : List (Nat × List Nat)} (hr : r ≤ l.length) (hr2 : r < l.length ∨ B2 = []) (hp : post (c, 0, fr, nI b, nI r, pl, op, ch, st, ns, li, a1, a2, a3, a4, a5, a6, a7, a8, a9, a10, a11, a12, a13, a14, a15)) :
    ∀ (B1 : List (Nat × List Nat)) (h : Int32) (s n : Nat), ld_lk a4 ((B1 ++ (b, l) :: B2).map Prod.fst) h (-1) → (∀ x, x ∈ B1 ++ (b, l) :: B2 → ld_bk a2 a5 a6 x) → s + B1.length < 32 → B1.length < n → (ld_fl B1).length + r ≤ 1000 →
      wX_walkTo_14 post c 0 fr ac pl op ch st ns li a1 a2 a3 a4 a5 a6 a7 a8 a9 a10 a11 a12 a13 a14 a15 n (nI ((ld_fl B1).length + r)) (nI s) h := by
  intro B1
  induction B1 with
  | nil =>
    intro h s n hk hb hs hn hm
    obtain ⟨n, rfl⟩ : ∃ m, n = m + 1 := ⟨n - 1, by simp only [List.length_nil] at hn; omega⟩
    obtain ⟨c1, c2, c3, _, _⟩ := hb (b, l) (by simp)
    dsimp only at c1 c2 c3
    obtain ⟨e1, e2⟩ : h = nI b ∧ ld_lk a4 (B2.map Prod.fst) (a4 b) (-1) := hk
    subst e1
    have ez : (ld_fl []).length + r = r := by simp [ld_fl_0]
    rw [ez]
    have hc : (nI b).toNatClampNeg = b := nI_clamp (by omega)
    simp only [List.length_nil] at hs
    refine pk_le 32 s (fun z => absurd z (by omega)) (fun _ => ⟨pk_in b 32 c1, br_c (fun _ => hp) (fun z => ⟨pk_in b 32 c1, br_t ?_ hp⟩)⟩)
    rw [hc, c3, ld_sz (by omega) (by omega)] at z
    have e3 : B2 = [] := by
      rcases hr2 with w | w
      · exact absurd w z
      · exact w
    subst e3
    have e4 : a4 b = -1 := e2
    rw [hc, e4]
    decide
  | cons x B1 ih =>
    intro h s n hk hb hs hn hm
    obtain ⟨n, rfl⟩ : ∃ m, n = m + 1 := ⟨n - 1, by simp only [List.length_cons] at hn; omega⟩
    obtain ⟨c1, c2, c3, _, _⟩ := hb x (by simp)
    obtain ⟨e1, e2⟩ : h = nI x.1 ∧ ld_lk a4 ((B1 ++ (b, l) :: B2).map Prod.fst) (a4 x.1) (-1) := hk
    subst e1
    have hc : (nI x.1).toNatClampNeg = x.1 := nI_clamp (by omega)
    simp only [List.length_cons] at hs hn
    rw [ld_fl_c, List.length_append] at hm ⊢
    have hy : ∃ y, y < 32 ∧ a4 x.1 = nI y := by
      cases B1 with
      | nil => exact ⟨b, (hb (b, l) (by simp)).1, e2.1⟩
      | cons z B1 => exact ⟨z.1, (hb z (by simp)).1, e2.1⟩
    obtain ⟨y, hy1, hy2⟩ := hy
    refine pk_le 32 s (fun z => absurd z (by omega)) (fun _ => ⟨pk_in x.1 32 c1, br_f ?_ ⟨pk_in x.1 32 c1, br_f ?_ ⟨pk_in x.1 32 c1, nm_r (e' := nI ((ld_fl B1).length + r)) ?_ ⟨pk_in x.1 32 c1, nm_r (e' := a4 x.1) (by rw [hc]) (nm_r (nI_1 s) ?_)⟩⟩⟩⟩)
    · rw [hc, c3, ld_sz (by omega) (by omega)]
      omega
    · rw [hc, hy2]
      exact nI_pos (by omega)
    · rw [hc, c3, pk_sub (by omega)]
      congr 1
      omega
    · exact ih (a4 x.1) (s + 1) n e2 (fun z hz => hb z (by simp only [List.cons_append, List.mem_cons]; exact Or.inr hz)) (by omega) (by omega) (by omega)
theorem ld_walkTo {post : St1 → Prop} {c fr ab ac pl op ch st ns li : Int32} {a1 a2 a3 a4 a5 a6 a7 a8 a9 a10 a11 a12 a13 a14 a15 : Nat → Int32} {b r : Nat} {l F T : List Nat} {B1 B2 : List (Nat × List Nat)} (h : ld_R0 fr a2 a4 a5 a6 (B1 ++ (b, l) :: B2) F T) (hr : r ≤ l.length) (hr2 : r < l.length ∨ B2 = []) (hp : post (c, 0, fr, nI b, nI r, pl, op, ch, st, ns, li, a1, a2, a3, a4, a5, a6, a7, a8, a9, a10, a11, a12, a13, a14, a15)) :
    wpX_walkTo post (c, 0, fr, ab, ac, pl, op, ch, st, ns, li, a1, a2, a3, a4, a5, a6, a7, a8, a9, a10, a11, a12, a13, a14, a15) (nI ((ld_fl B1).length + r + 1)) := by
  have h5 := h.2.2.2.2.1
  have h60 := h.2.2.2.2.2.2.2.1.2.1
  have hl := (ld_R0_bk h).2.1
  have hT := h.2.2.2.2.2.2.1
  rw [← hT, ld_fl_app, List.length_append] at h60
  dsimp only at hl
  simp only [List.length_append, List.length_cons] at h5
  refine nm_r (nI_pred _) ⟨B1.length + 1, ?_⟩
  exact ld_walk14 hr hr2 hp B1 0 0 (B1.length + 1) h.1 h.2.2.2.2.2.1 (by omega) (by omega) (by omega)
/-- numberOf: the cells of the block -/
theorem ld_num50 {post : Int32 → Prop} {c fr ab ac pl op ch st ns li : Int32} {a1 a2 a3 a4 a5 a6 a7 a8 a9 a10 a11 a12 a13 a14 a15 : Nat → Int32} {b id N : Nat} {l1 l2 : List Nat} (hb : ld_bk a2 a5 a6 (b, l1 ++ id :: l2)) (hn : ∀ y, y ∈ l1 → y ≠ id) (hid : ∀ y, y ∈ l1 ++ id :: l2 → y < 128) (hp : post (nI (N + l1.length + 1))) : ∃ n, wX_numberOf_50 post (nI id) (nI N) (nI b) c 0 fr ab ac pl op ch st ns li a1 a2 a3 a4 a5 a6 a7 a8 a9 a10 a11 a12 a13 a14 a15 n 0 := by
  obtain ⟨c1, c2, c3, c4, _⟩ := hb
  dsimp only at c1 c2 c3 c4
  have hc : (nI b).toNatClampNeg = b := nI_clamp (by omega)
  have hl : (l1 ++ id :: l2).length = l1.length + (l2.length + 1) := by rw [List.length_append, List.length_cons]
  have hid1 : id < 128 := hid id (by simp)
  refine pk_loop (σ := Unit) (fun n i _ => wX_numberOf_50 post (nI id) (nI N) (nI b) c 0 fr ab ac pl op ch st ns li a1 a2 a3 a4 a5 a6 a7 a8 a9 a10 a11 a12 a13 a14 a15 n (nI i)) (fun _ _ => True) l1.length 0 () (by omega) trivial (fun n _ _ => ?_) (fun n i _ hi _ hw => ?_)
  · refine ⟨pk_in b 32 c1, pk_le (l1 ++ id :: l2).length l1.length (fun z => absurd z (by omega)) (fun _ => ⟨ld_ci (by omega), br_t ?_ ?_⟩) (by rw [hc]; exact c3)⟩
    · rw [ld_cc (by omega)]
      exact c4 _ _ (by rw [show l1.length = l1.length + 0 by omega, ld_ap_r]; rfl)
    · rw [nI_add, nI_1]
      exact hp
  · obtain ⟨y, hy⟩ : ∃ y, l1[i]? = some y := ⟨l1[i], List.getElem?_eq_getElem hi⟩
    have hyl : (l1 ++ id :: l2)[i]? = some y := by rw [ld_ap_l hi]; exact hy
    refine ⟨pk_in b 32 c1, pk_le (l1 ++ id :: l2).length i (fun z => absurd z (by omega)) (fun _ => ⟨ld_ci (by omega), br_f ?_ (nm_r (nI_1 i) (hw () trivial))⟩) (by rw [hc]; exact c3)⟩
    rw [ld_cc (by omega), c4 i y hyl, nI_eq (by have := hid y (ld_mem hyl); omega) (by omega)]
    exact hn y (ld_mem hy)
theorem ld_num7 {post : Int32 → Prop} {c fr ab ac pl op ch st ns li : Int32} {a1 a2 a3 a4 a5 a6 a7 a8 a9 a10 a11 a12 a13 a14 a15 : Nat → Int32} {b id : Nat} {l1 l2 : List Nat} {B2 : List (Nat × List Nat)} (hn : ∀ y, y ∈ l1 → y ≠ id) (hid : ∀ y, y ∈ l1 ++ id :: l2 → y < 128) :
    ∀ (B1 : List (Nat × List Nat)) (h : Int32) (N n : Nat), ld_lk a4 ((B1 ++ (b, l1 ++ id :: l2) :: B2).map Prod.fst) h (-1) → (∀ x, x ∈ B1 ++ (b, l1 ++ id :: l2) :: B2 → ld_bk a2 a5 a6 x) → (∀ x, x ∈ B1 → x.1 ≠ b) → B1.length < n → post (nI (N + (ld_fl B1).length + l1.length + 1)) →
      wX_numberOf_7 post (nI id) c 0 fr ab ac pl op ch st ns li a1 a2 a3 a4 a5 a6 a7 a8 a9 a10 a11 a12 a13 a14 a15 n (nI N) h := by
  intro B1
  have hid1 : id < 128 := hid id (by simp)
  have hci : (nI id).toNatClampNeg = id := nI_clamp (by omega)
  induction B1 with
  | nil =>
    intro h N n hk hb hne hn' hp
    obtain ⟨n, rfl⟩ : ∃ m, n = m + 1 := ⟨n - 1, by simp only [List.length_nil] at hn'; omega⟩
    have hbb := hb (b, l1 ++ id :: l2) (by simp)
    have e2 : a2 id = nI b := hbb.2.2.2.2 id (by simp)
    have c1 : b < 32 := hbb.1
    obtain ⟨e1, _⟩ : h = nI b ∧ ld_lk a4 (B2.map Prod.fst) (a4 b) (-1) := hk
    subst e1
    rw [ld_fl_0, List.length_nil, Nat.add_zero] at hp
    refine br_f (nI_pos (by omega)) ⟨pk_in id 128 hid1, br_t (by rw [hci, e2]) ⟨pk_in id 128 hid1, nm_r (e' := nI b) (by rw [hci, e2]) ?_⟩⟩
    exact ld_num50 hbb hn hid hp
  | cons x B1 ih =>
    intro h N n hk hb hne hn' hp
    obtain ⟨n, rfl⟩ : ∃ m, n = m + 1 := ⟨n - 1, by simp only [List.length_cons] at hn'; omega⟩
    have hbb := hb (b, l1 ++ id :: l2) (by simp)
    have e2 : a2 id = nI b := hbb.2.2.2.2 id (by simp)
    have c1 : b < 32 := hbb.1
    obtain ⟨x1, x2, x3, _, _⟩ := hb x (by simp)
    obtain ⟨e1, e3⟩ : h = nI x.1 ∧ ld_lk a4 ((B1 ++ (b, l1 ++ id :: l2) :: B2).map Prod.fst) (a4 x.1) (-1) := hk
    subst e1
    have hc : (nI x.1).toNatClampNeg = x.1 := nI_clamp (by omega)
    rw [ld_fl_c, List.length_append] at hp
    refine br_f (nI_pos (by omega)) ⟨pk_in id 128 hid1, br_f ?_ ⟨pk_in x.1 32 x1, nm_r (e' := nI (N + x.2.length)) (by rw [hc, x3, nI_add]) ⟨pk_in x.1 32 x1, nm_r (e' := a4 x.1) (by rw [hc]) ?_⟩⟩⟩
    · rw [hci, e2, nI_eq (by omega) (by omega)]
      exact hne x (by simp)
    · refine ih (a4 x.1) (N + x.2.length) n e3 (fun z hz => hb z (by simp only [List.cons_append, List.mem_cons]; exact Or.inr hz)) (fun z hz => hne z (by simp [hz])) (by simp only [List.length_cons] at hn'; omega) ?_
      rw [show N + x.2.length + (ld_fl B1).length + l1.length + 1 = N + (x.2.length + (ld_fl B1).length) + l1.length + 1 by omega]
      exact hp
/-- numberOf: the place of a line -/
theorem ld_num {post : Int32 → Prop} {c fr ab ac pl op ch st ns li : Int32} {a1 a2 a3 a4 a5 a6 a7 a8 a9 a10 a11 a12 a13 a14 a15 : Nat → Int32} {id : Nat} {P Q : List Nat} (h : ld_R fr a2 a4 a5 a6 (P ++ id :: Q)) (hp : post (nI (P.length + 1))) : wpX_numberOf post (c, 0, fr, ab, ac, pl, op, ch, st, ns, li, a1, a2, a3, a4, a5, a6, a7, a8, a9, a10, a11, a12, a13, a14, a15) (nI id) := by
  obtain ⟨B, F, h, _⟩ := h
  obtain ⟨B1, b, l1, l2, B2, rfl, rfl, rfl⟩ := ld_atid (ld_R0_ne h) h.2.2.2.2.2.2.1
  have hnd := h.2.2.1
  have htx := h.2.2.2.2.2.2.2.1
  have hn1 := htx.1
  rw [List.nodup_append] at hn1
  refine ⟨B1.length + 1, ld_num7 (b := b) (l1 := l1) (l2 := l2) (B2 := B2) (fun y hy => hn1.2.2 y (by simp [hy]) id (by simp)) (fun y hy => htx.2.2 y ?_) B1 0 0 (B1.length + 1) h.1 h.2.2.2.2.2.1 (fun x hx e => ?_) (by omega) ?_⟩
  · simp only [List.mem_append, List.mem_cons] at hy ⊢
    rcases hy with z | z | z
    · exact Or.inl (Or.inr z)
    · exact Or.inr (Or.inl z)
    · exact Or.inr (Or.inr (Or.inl z))
  · rw [List.map_append, List.map_cons, List.append_assoc, List.nodup_append] at hnd
    exact hnd.2.2 x.1 (List.mem_map_of_mem hx) b (by simp) e
  · rw [List.length_append] at hp
    rw [Nat.zero_add]
    exact hp
/-- lineAt: the line at a place -/
theorem ld_lineAt {post : Int32 → St1 → Prop} {c fr ab ac pl op ch st ns li : Int32} {a1 a2 a3 a4 a5 a6 a7 a8 a9 a10 a11 a12 a13 a14 a15 : Nat → Int32} {id : Nat} {P Q : List Nat} (h : ld_R fr a2 a4 a5 a6 (P ++ id :: Q)) (hp : ∀ ab ac, post (nI id) (c, 0, fr, ab, ac, pl, op, ch, st, ns, li, a1, a2, a3, a4, a5, a6, a7, a8, a9, a10, a11, a12, a13, a14, a15)) : wpX_lineAt post (c, 0, fr, ab, ac, pl, op, ch, st, ns, li, a1, a2, a3, a4, a5, a6, a7, a8, a9, a10, a11, a12, a13, a14, a15) (nI (P.length + 1)) := by
  obtain ⟨B, F, h, _⟩ := h
  obtain ⟨B1, b, l1, l2, B2, rfl, rfl, rfl⟩ := ld_atid (ld_R0_ne h) h.2.2.2.2.2.2.1
  obtain ⟨c1, c2, c3, c4, _⟩ := ld_R0_bk h
  dsimp only at c1 c2 c3 c4
  rw [List.length_append, List.length_cons] at c2
  rw [List.length_append]
  unfold wpX_lineAt
  refine ld_walkTo h (by rw [List.length_append]; omega) (Or.inl (by rw [List.length_append, List.length_cons]; omega)) ⟨ld_ci (by omega), ?_⟩
  have e : a6 (6 * nI b + nI l1.length).toNatClampNeg = nI id := by
    rw [ld_cc (by omega)]
    exact c4 _ _ (by rw [show l1.length = l1.length + 0 by omega, ld_ap_r]; rfl)
  rw [e]
  exact hp _ _
/-- note -/
theorem ld_note {post : St1 → Prop} {c fr ab ac pl op ch ns li : Int32} {a1 a2 a3 a4 a5 a6 a7 a8 a9 a10 a11 a12 a13 a14 a15 : Nat → Int32} {s : Nat} {p0 p1 p2 : Int32} (hs : s < 140) (hp : post (c, 0, fr, ab, ac, pl, op, ch, nI (s + 1), ns, li, a1, a2, a3, a4, a5, a6, a7, a8, upd a9 s p0, upd a10 s p1, upd a11 s p2, a12, a13, a14, a15)) : wpX_note post (c, 0, fr, ab, ac, pl, op, ch, nI s, ns, li, a1, a2, a3, a4, a5, a6, a7, a8, a9, a10, a11, a12, a13, a14, a15) p0 p1 p2 := by
  have hc : (nI s).toNatClampNeg = s := nI_clamp (by omega)
  exact ⟨pk_in s 140 hs, nm_r (by rw [hc]) ⟨pk_in s 140 hs, nm_r (by rw [hc]) ⟨pk_in s 140 hs, nm_r (by rw [hc]) (nm_r (nI_1 s) hp)⟩⟩⟩
end
section
theorem ld_getl {l : List Nat} {k : Nat} (h : k < l.length) : ∃ y, l[k]? = some y := ⟨l[k], List.getElem?_eq_getElem h⟩
/-- join -/
theorem ld_wjoin {post : St1 → Prop} {c fr ab ac pl op ch st ns li : Int32} {a1 a2 a3 a4 a5 a6 a7 a8 a9 a10 a11 a12 a13 a14 a15 : Nat → Int32} {b f : Nat} {l1 l2 F T : List Nat} {B1 B2 : List (Nat × List Nat)} (h : ld_R0 fr a2 a4 a5 a6 (B1 ++ (b, l1) :: (f, l2) :: B2) F T) (e6 : l1.length + l2.length ≤ 6)
    (hp : ∀ a2' a4' a5' a6', ld_R0 (nI f) a2' a4' a5' a6' (B1 ++ (b, l1 ++ l2) :: B2) (f :: F) T → post (c, 0, nI f, ab, ac, pl, op, ch, st, ns, li, a1, a2', a3, a4', a5', a6', a7, a8, a9, a10, a11, a12, a13, a14, a15)) : wpX_join post (c, 0, fr, ab, ac, pl, op, ch, st, ns, li, a1, a2, a3, a4, a5, a6, a7, a8, a9, a10, a11, a12, a13, a14, a15) (nI b) (nI f) := by
  obtain ⟨b1, b2, b3, b4, b5⟩ := ld_R0_bk h
  dsimp only at b1 b2 b3 b4 b5
  obtain ⟨c1, c2, c3, c4, c5⟩ := h.2.2.2.2.2.1 (f, l2) (by simp)
  dsimp only at c1 c2 c3 c4 c5
  have hbf : b ≠ f := by
    have r3 := h.2.2.1
    rw [List.map_append, List.map_cons, List.map_cons] at r3
    exact (ld_nd (ld_pm1.nodup_iff.mp r3)).2.2.1
  have hT : ld_fl B1 ++ (l1 ++ (l2 ++ ld_fl B2)) = T := by
    rw [← h.2.2.2.2.2.2.1, ld_fl_app, ld_fl_c, ld_fl_c]
  have hid : ∀ y, y ∈ l2 → y < 128 := fun y hy => h.2.2.2.2.2.2.2.1.2.2 y (by rw [← hT]; simp [hy])
  have hcb : (nI b).toNatClampNeg = b := nI_clamp (by omega)
  have hcf : (nI f).toNatClampNeg = f := nI_clamp (by omega)
  refine pk_loop (σ := (Nat → Int32) × (Nat → Int32)) (fun n i s => wX_join_2 post (nI b) (nI f) c 0 fr ab ac pl op ch st ns li n (nI i) a1 s.1 a3 a4 a5 s.2 a7 a8 a9 a10 a11 a12 a13 a14 a15)
    (fun i s => (∀ k, k < i → s.2 (6 * b + (l1.length + k)) = a6 (6 * f + k)) ∧ (∀ j, j < 6 * b + l1.length ∨ 6 * b + (l1.length + i) ≤ j → s.2 j = a6 j) ∧ (∀ k y, k < i → l2[k]? = some y → s.1 y = nI b) ∧ (∀ y, (∀ k, k < i → ¬ l2[k]? = some y) → s.1 y = a2 y))
    l2.length 0 (a2, a6) (by omega) ⟨fun k hk => absurd hk (by omega), fun j _ => rfl, fun k y hk => absurd hk (by omega), fun y _ => rfl⟩ (fun n s hs => ?_) (fun n i s hi hs hw => ?_)
  · obtain ⟨s2, s6⟩ := s
    obtain ⟨k1, k2, k3, k4⟩ := hs
    dsimp only at k1 k2 k3 k4
    refine ⟨pk_in f 32 c1, br_t (by rw [hcf, c3]; exact nI_le (Nat.le_refl _) (by omega)) ⟨pk_in b 32 b1, pk_in f 32 c1, pk_in b 32 b1, nm_r (e' := upd a5 b (nI (l1.length + l2.length))) (by rw [hcb, hcf, b3, c3, nI_add]) ⟨pk_in f 32 c1, pk_in b 32 b1, nm_r (e' := upd a4 b (a4 f)) (by rw [hcb, hcf]) ⟨pk_in f 32 c1, nm_r (e' := upd (upd a4 b (a4 f)) f fr) (by rw [hcf]) ?_⟩⟩⟩⟩
    refine hp _ _ _ _ (ld_join h e6 k1 k2 (fun y hy => ?_) (fun y hy => k4 y (fun k _ z => hy (ld_mem z))))
    obtain ⟨k, hk⟩ := List.mem_iff_getElem?.mp hy
    exact k3 k y (ld_lt hk) hk
  · obtain ⟨s2, s6⟩ := s
    obtain ⟨k1, k2, k3, k4⟩ := hs
    dsimp only at k1 k2 k3 k4
    obtain ⟨y, hy⟩ := ld_getl hi
    have hy128 := hid y (ld_mem hy)
    have e1 : (6 * nI b + a5 (nI b).toNatClampNeg + nI i).toNatClampNeg = 6 * b + (l1.length + i) := by
      rw [hcb, b3, ld_cx, nI_add, nI_clamp (by omega), Nat.add_assoc]
    have e2 : (6 * nI f + nI i).toNatClampNeg = 6 * f + i := ld_cc (by omega)
    have e3 : s6 (6 * f + i) = nI y := by
      rw [k2 _ (by omega)]
      exact c4 i y hy
    refine ⟨pk_in f 32 c1, br_f (by rw [hcf, c3]; exact nI_ge (by omega) (by omega)) ⟨pk_in b 32 b1, ld_ci (by omega), pk_in (6 * b + (l1.length + i)) 192 (by omega) (by rw [hcb, b3, ld_cx, nI_add, Nat.add_assoc]), nm_r (e' := upd s6 (6 * b + (l1.length + i)) (nI y)) (by rw [e1, e2]; dsimp only; rw [e3]) ⟨ld_ci (by omega), ?_⟩⟩⟩
    have e4 : upd s6 (6 * b + (l1.length + i)) (nI y) (6 * nI f + nI i).toNatClampNeg = nI y := by
      rw [e2, pk_un (by omega), e3]
    refine ⟨pk_in y 128 hy128 e4, nm_r (e' := upd s2 y (nI b)) (by rw [e4, nI_clamp (by omega)]) (nm_r (nI_1 i) (hw (upd s2 y (nI b), upd s6 (6 * b + (l1.length + i)) (nI y)) ⟨fun k hk => ?_, fun j hj => ?_, fun k z hk hz => ?_, fun z hz => ?_⟩))⟩
    · dsimp only
      by_cases e : k = i
      · rw [e, pk_us]
        exact (c4 i y hy).symm
      · rw [pk_un (by omega)]
        exact k1 k (by omega)
    · dsimp only
      rw [pk_un (by omega)]
      exact k2 j (by omega)
    · dsimp only
      by_cases e : z = y
      · rw [e, pk_us]
      · rw [pk_un e]
        refine k3 k z ?_ hz
        have : k ≠ i := fun w => e (by rw [w, hy] at hz; cases hz; rfl)
        omega
    · dsimp only
      have e : z ≠ y := fun w => hz i (by omega) (by rw [w]; exact hy)
      rw [pk_un e]
      exact k4 z (fun k hk => hz k (by omega))
/-- joinSmall -/
theorem ld_js7 {post : St1 → Prop} {c ab ac pl op ch st ns li : Int32} {a1 a3 a7 a8 a9 a10 a11 a12 a13 a14 a15 : Nat → Int32} {T : List Nat} (hp : ∀ fr a2 a4 a5 a6, ld_R fr a2 a4 a5 a6 T → post (c, 0, fr, ab, ac, pl, op, ch, st, ns, li, a1, a2, a3, a4, a5, a6, a7, a8, a9, a10, a11, a12, a13, a14, a15)) :
    ∀ (B2 B1 : List (Nat × List Nat)) (b : Nat) (l F : List Nat) (fr : Int32) (a2 a4 a5 a6 : Nat → Int32) (s n : Nat), ld_R0 fr a2 a4 a5 a6 (B1 ++ (b, l) :: B2) F T → ld_pk (B1 ++ [(b, l)]) → s + B2.length < 40 → B2.length < n → wX_joinSmall_7 post n (nI b) (nI s) c 0 fr ab ac pl op ch st ns li a1 a2 a3 a4 a5 a6 a7 a8 a9 a10 a11 a12 a13 a14 a15 := by
  intro B2
  induction B2 with
  | nil =>
    intro B1 b l F fr a2 a4 a5 a6 s n h hk hs hn
    obtain ⟨n, rfl⟩ : ∃ m, n = m + 1 := ⟨n - 1, by simp only [List.length_nil] at hn; omega⟩
    obtain ⟨b1, b2, b3, b4, b5⟩ := ld_R0_bk h
    dsimp only at b1 b2 b3 b4 b5
    simp only [List.length_nil] at hs
    have e : a4 b = -1 := (ld_lk_at h.1).2
    exact pk_le 40 s (fun z => absurd z (by omega)) (fun _ => ⟨pk_in b 32 b1, br_t (by rw [nI_clamp (by omega), e]; decide) (hp _ _ _ _ _ ⟨_, _, h, hk⟩)⟩)
  | cons x B2 ih =>
    intro B1 b l F fr a2 a4 a5 a6 s n h hk hs hn
    obtain ⟨n, rfl⟩ : ∃ m, n = m + 1 := ⟨n - 1, by simp only [List.length_cons] at hn; omega⟩
    obtain ⟨f, l2⟩ := x
    obtain ⟨b1, b2, b3, b4, b5⟩ := ld_R0_bk h
    dsimp only at b1 b2 b3 b4 b5
    obtain ⟨c1, c2, c3, c4, c5⟩ := h.2.2.2.2.2.1 (f, l2) (by simp)
    dsimp only at c1 c2 c3 c4 c5
    simp only [List.length_cons] at hs hn
    have e : a4 b = nI f := (ld_lk_at h.1).2.1
    have hcb : (nI b).toNatClampNeg = b := nI_clamp (by omega)
    have hcf : (nI f).toNatClampNeg = f := nI_clamp (by omega)
    refine pk_le 40 s (fun z => absurd z (by omega)) (fun _ => ⟨pk_in b 32 b1, br_f (by rw [hcb, e]; exact nI_pos (by omega)) ⟨pk_in b 32 b1, nm_r (e' := nI f) (by rw [hcb, e]) ⟨pk_in b 32 b1, pk_in f 32 c1, pk_lt 6 (l.length + l2.length) (fun z => nm_r (nI_1 s) ?_) (fun z => ?_) rfl (by rw [hcb, hcf, b3, c3, nI_add])⟩⟩⟩)
    · exact ih (B1 ++ [(b, l)]) f l2 F fr a2 a4 a5 a6 (s + 1) n (by rw [List.append_assoc]; exact h) (ld_pk_app hk (by show 7 ≤ l.length + l2.length; omega)) (by omega) (by omega)
    · exact ld_wjoin h z (fun a2' a4' a5' a6' h' => nm_r (nI_1 s) (ih B1 b (l ++ l2) (f :: F) (nI f) a2' a4' a5' a6' (s + 1) n h' (ld_pk_gr hk (by rw [List.length_append]; omega)) (by omega) (by omega)))
theorem ld_joinSmall {post : St1 → Prop} {c fr ab ac pl op ch st ns li : Int32} {a1 a2 a3 a4 a5 a6 a7 a8 a9 a10 a11 a12 a13 a14 a15 : Nat → Int32} {B : List (Nat × List Nat)} {F T : List Nat} (h : ld_R0 fr a2 a4 a5 a6 B F T) (hp : ∀ fr a2 a4 a5 a6, ld_R fr a2 a4 a5 a6 T → post (c, 0, fr, ab, ac, pl, op, ch, st, ns, li, a1, a2, a3, a4, a5, a6, a7, a8, a9, a10, a11, a12, a13, a14, a15)) : wpX_joinSmall post (c, 0, fr, ab, ac, pl, op, ch, st, ns, li, a1, a2, a3, a4, a5, a6, a7, a8, a9, a10, a11, a12, a13, a14, a15) := by
  match B, h with
  | [], h => exact absurd rfl (ld_R0_ne h)
  | (b, l) :: B2, h =>
    have e : (0 : Int32) = nI b := h.1.1
    have h5 := h.2.2.2.2.1
    simp only [List.length_cons] at h5
    have hb := (ld_R0_bk (B1 := []) h).1
    dsimp only at hb
    have e0 : 0 = b := (nI_eq (a := 0) (b := b) (by omega) (by omega)).mp e
    subst e0
    exact ⟨B2.length + 1, ld_js7 (T := T) hp B2 [] 0 l F fr a2 a4 a5 a6 0 (B2.length + 1) h trivial (by omega) (by omega)⟩
end
section
/-- split -/
theorem ld_wsplit {post : St1 → Prop} {c ab ac pl op ch st ns li : Int32} {a1 a2 a3 a4 a5 a6 a7 a8 a9 a10 a11 a12 a13 a14 a15 : Nat → Int32} {b f : Nat} {l1 l2 F T : List Nat} {B1 B2 : List (Nat × List Nat)} (h : ld_R0 (nI f) a2 a4 a5 a6 (B1 ++ (b, l1 ++ l2) :: B2) (f :: F) T) (e1 : l1.length = 3) (e2 : l2.length = 3)
    (hp : ∀ fr a2 a4 a5 a6, ld_R0 fr a2 a4 a5 a6 (B1 ++ (b, l1) :: (f, l2) :: B2) F T → post (c, 0, fr, ab, ac, pl, op, ch, st, ns, li, a1, a2, a3, a4, a5, a6, a7, a8, a9, a10, a11, a12, a13, a14, a15)) : wpX_split post (c, 0, nI f, ab, ac, pl, op, ch, st, ns, li, a1, a2, a3, a4, a5, a6, a7, a8, a9, a10, a11, a12, a13, a14, a15) (nI b) := by
  obtain ⟨b1, b2, b3, b4, b5⟩ := ld_R0_bk h
  dsimp only at b1 b2 b3 b4 b5
  have c1 : f < 32 := h.2.2.2.1 f (by simp)
  have hbf : b ≠ f := by
    have r3 := h.2.2.1
    rw [List.map_append, List.map_cons] at r3
    exact (ld_nd r3).2.2.1
  have hT : ld_fl B1 ++ ((l1 ++ l2) ++ ld_fl B2) = T := by
    rw [← h.2.2.2.2.2.2.1, ld_fl_app, ld_fl_c]
  have hid : ∀ y, y ∈ l2 → y < 128 := fun y hy => h.2.2.2.2.2.2.2.1.2.2 y (by rw [← hT]; simp [hy])
  have hcb : (nI b).toNatClampNeg = b := nI_clamp (by omega)
  have hcf : (nI f).toNatClampNeg = f := nI_clamp (by omega)
  refine ⟨pk_in f 32 c1, nm_r (e' := a4 f) (by rw [hcf]) ⟨pk_in b 32 b1, pk_in f 32 c1, nm_r (e' := upd a4 f (a4 b)) (by rw [hcb, hcf]) ⟨pk_in b 32 b1, nm_r (e' := upd (upd a4 f (a4 b)) b (nI f)) (by rw [hcb]) ⟨pk_in f 32 c1, nm_r (e' := upd a5 f 3) (by rw [hcf]) ⟨pk_in b 32 b1, nm_r (e' := upd (upd a5 f 3) b 3) (by rw [hcb]) ?_⟩⟩⟩⟩⟩
  refine pk_loop (σ := (Nat → Int32) × (Nat → Int32)) (fun n i s => wX_split_50 post (nI b) (nI f) c 0 (a4 f) ab ac pl op ch st ns li n (nI i) a1 s.1 a3 (upd (upd a4 f (a4 b)) b (nI f)) (upd (upd a5 f 3) b 3) s.2 a7 a8 a9 a10 a11 a12 a13 a14 a15)
    (fun i s => (∀ k, k < i → s.2 (6 * f + k) = a6 (6 * b + (3 + k))) ∧ (∀ j, j < 6 * f ∨ 6 * f + i ≤ j → s.2 j = a6 j) ∧ (∀ k y, k < i → l2[k]? = some y → s.1 y = nI f) ∧ (∀ y, (∀ k, k < i → ¬ l2[k]? = some y) → s.1 y = a2 y))
    3 0 (a2, a6) (by omega) ⟨fun k hk => absurd hk (by omega), fun j _ => rfl, fun k y hk => absurd hk (by omega), fun y _ => rfl⟩ (fun n s hs => ?_) (fun n i s hi hs hw => ?_)
  · obtain ⟨s2, s6⟩ := s
    obtain ⟨k1, k2, k3, k4⟩ := hs
    dsimp only at k1 k2 k3 k4
    refine pk_le 3 3 (fun _ => ?_) (fun z => absurd z (by omega))
    refine hp _ _ _ _ _ (ld_split h e1 e2 k1 k2 (fun y hy => ?_) (fun y hy => k4 y (fun k _ z => hy (ld_mem z))))
    obtain ⟨k, hk⟩ := List.mem_iff_getElem?.mp hy
    exact k3 k y (by have := ld_lt hk; omega) hk
  · obtain ⟨s2, s6⟩ := s
    obtain ⟨k1, k2, k3, k4⟩ := hs
    dsimp only at k1 k2 k3 k4
    obtain ⟨y, hy⟩ := ld_getl (l := l2) (k := i) (by omega)
    have hy128 := hid y (ld_mem hy)
    have g0 : (6 * nI b + 3) + nI i = nI (6 * b + (3 + i)) := by
      rw [show (3 : Int32) = nI 3 from rfl, ld_cx, nI_add, Nat.add_assoc]
    have g1 : ((6 * nI b + 3) + nI i).toNatClampNeg = 6 * b + (3 + i) := by rw [g0, nI_clamp (by omega)]
    have g2 : (6 * nI f + nI i).toNatClampNeg = 6 * f + i := ld_cc (by omega)
    have g3 : s6 (6 * b + (3 + i)) = nI y := by
      rw [k2 _ (by omega)]
      exact b4 (3 + i) y (by rw [← e1, ld_ap_r]; exact hy)
    refine pk_le 3 i (fun z => absurd z (by omega)) (fun _ => ⟨pk_in (6 * b + (3 + i)) 192 (by omega) g0, ld_ci (by omega), nm_r (e' := upd s6 (6 * f + i) (nI y)) (by rw [g1, g2]; dsimp only; rw [g3]) ⟨ld_ci (by omega), ?_⟩⟩)
    have g4 : upd s6 (6 * f + i) (nI y) (6 * nI f + nI i).toNatClampNeg = nI y := by
      rw [g2, pk_us]
    refine ⟨pk_in y 128 hy128 g4, nm_r (e' := upd s2 y (nI f)) (by rw [g4, nI_clamp (by omega)]) (nm_r (nI_1 i) (hw (upd s2 y (nI f), upd s6 (6 * f + i) (nI y)) ⟨fun k hk => ?_, fun j hj => ?_, fun k z hk hz => ?_, fun z hz => ?_⟩))⟩
    · dsimp only
      by_cases e : k = i
      · rw [e, pk_us]
        exact (b4 (3 + i) y (by rw [← e1, ld_ap_r]; exact hy)).symm
      · rw [pk_un (by omega)]
        exact k1 k (by omega)
    · dsimp only
      rw [pk_un (by omega)]
      exact k2 j (by omega)
    · dsimp only
      by_cases e : z = y
      · rw [e, pk_us]
      · rw [pk_un e]
        refine k3 k z ?_ hz
        have : k ≠ i := fun w => e (by rw [w, hy] at hz; cases hz; rfl)
        omega
    · dsimp only
      have e : z ≠ y := fun w => hz i (by omega) (by rw [w]; exact hy)
      rw [pk_un e]
      exact k4 z (fun k hk => hz k (by omega))
/-- putIn behind the walk: the block has room -/
theorem ld_put39 {post : St1 → Prop} {fr pl op ch st ns li : Int32} {a1 a2 a3 a4 a5 a6 a7 a8 a9 a10 a11 a12 a13 a14 a15 : Nat → Int32} {b id : Nat} {l1 l2 F T : List Nat} {B1 B2 : List (Nat × List Nat)} (h : ld_R0 fr a2 a4 a5 a6 (B1 ++ (b, l1 ++ l2) :: B2) F T) (h6 : (l1 ++ l2).length < 6) (ht : ld_tx ((ld_fl B1 ++ l1) ++ id :: (l2 ++ ld_fl B2)))
    (hp : ∀ fr a2 a4 a5 a6, ld_R fr a2 a4 a5 a6 ((ld_fl B1 ++ l1) ++ id :: (l2 ++ ld_fl B2)) → post (nI (T.length + 1), 0, fr, nI b, nI l1.length, pl, op, ch, st, ns, li, a1, a2, a3, a4, a5, a6, a7, a8, a9, a10, a11, a12, a13, a14, a15)) : wX_putIn_39 post (nI id) (nI T.length) 0 fr (nI b) (nI l1.length) pl op ch st ns li a1 a2 a3 a4 a5 a6 a7 a8 a9 a10 a11 a12 a13 a14 a15 := by
  obtain ⟨b1, b2, b3, b4, b5⟩ := ld_R0_bk h
  dsimp only at b1 b2 b3 b4 b5
  have hcb : (nI b).toNatClampNeg = b := nI_clamp (by omega)
  have hid : id < 128 := ht.2.2 id (by simp)
  have hl : (l1 ++ l2).length = l1.length + l2.length := List.length_append
  refine ⟨pk_in b 32 b1, nm_r (e' := nI (l1 ++ l2).length) (by rw [hcb]; exact b3) ?_⟩
  refine loop_m (σ := Nat × (Nat → Int32)) (fun n s => wX_putIn_52 post (nI id) (nI b) (nI T.length) 0 fr (nI b) (nI l1.length) pl op ch st ns li n (nI s.1) a1 a2 a3 a4 a5 s.2 a7 a8 a9 a10 a11 a12 a13 a14 a15)
    (fun s => l1.length ≤ s.1 ∧ s.1 ≤ (l1 ++ l2).length ∧ (∀ j, j ≤ 6 * b + s.1 ∨ 6 * b + (l1 ++ l2).length < j → s.2 j = a6 j) ∧ ∀ k, s.1 < k → k ≤ (l1 ++ l2).length → s.2 (6 * b + k) = a6 (6 * b + (k - 1))) (fun s => s.1) (fun n s hs hw => ?_) ((l1 ++ l2).length, a6) ⟨by dsimp only; omega, Nat.le_refl _, fun j _ => rfl, fun k z1 z2 => absurd z1 (by dsimp only; omega)⟩
  obtain ⟨k, s6⟩ := s
  obtain ⟨k1, k2, k3, k4⟩ := hs
  dsimp only at k1 k2 k3 k4
  refine pk_le k l1.length (fun z => ?_) (fun z => ?_)
  · have ek : k = l1.length := by omega
    subst ek
    refine ⟨ld_ci (by omega), nm_r (e' := upd s6 (6 * b + l1.length) (nI id)) (by rw [ld_cc (by omega)]) ⟨pk_in b 32 b1, pk_in b 32 b1, nm_r (e' := upd a5 b (nI ((l1 ++ l2).length + 1))) (by rw [hcb, b3, nI_1]) ⟨pk_in id 128 hid, nm_r (e' := upd a2 id (nI b)) (by rw [nI_clamp (by omega)]) (nm_r (nI_1 T.length) ?_)⟩⟩⟩
    exact ld_joinSmall (ld_ins h h6 ht k3 k4) hp
  · obtain ⟨m, rfl⟩ : ∃ m, k = m + 1 := ⟨k - 1, by omega⟩
    have g0 : (6 * nI b + nI (m + 1)) - 1 = nI (6 * b + m) := by
      rw [ld_cx, show 6 * b + (m + 1) = (6 * b + m) + 1 by omega, nI_pred]
    refine ⟨pk_in (6 * b + m) 192 (by omega) g0, ld_ci (by omega), nm_r (e' := upd s6 (6 * b + (m + 1)) (a6 (6 * b + m))) ?_ (nm_r (pk_m1 m) (hw (m, upd s6 (6 * b + (m + 1)) (a6 (6 * b + m))) ⟨by dsimp only; omega, by dsimp only; omega, fun j hj => ?_, fun i hi1 hi2 => ?_⟩ (by dsimp only; omega)))⟩
    · dsimp only
      rw [ld_cc (by omega), g0, nI_clamp (by omega), k3 (6 * b + m) (by omega)]
    · dsimp only at hj ⊢
      rw [pk_un (by omega)]
      exact k3 j (by omega)
    · dsimp only at hi1 ⊢
      by_cases e : i = m + 1
      · rw [e, pk_us, show m + 1 - 1 = m by omega]
      · rw [pk_un (by omega)]
        exact k4 i (by omega) hi2
/-- putIn -/
theorem ld_putIn {post : St1 → Prop} {fr ab ac pl op ch ns li : Int32} {a1 a2 a3 a4 a5 a6 a7 a8 a9 a10 a11 a12 a13 a14 a15 : Nat → Int32} {s id : Nat} {P Q : List Nat} (h : ld_R fr a2 a4 a5 a6 (P ++ Q)) (hs : s < 140) (ht : ld_tx (P ++ id :: Q))
    (hp : ∀ fr ab ac a2 a4 a5 a6, ld_R fr a2 a4 a5 a6 (P ++ id :: Q) → post (nI (P ++ id :: Q).length, 0, fr, ab, ac, pl, op, ch, nI (s + 1), ns, li, a1, a2, a3, a4, a5, a6, a7, a8, upd a9 s 0, upd a10 s (nI (P.length + 1)), upd a11 s (nI id), a12, a13, a14, a15)) : wpX_putIn post (nI (P ++ Q).length, 0, fr, ab, ac, pl, op, ch, nI s, ns, li, a1, a2, a3, a4, a5, a6, a7, a8, a9, a10, a11, a12, a13, a14, a15) (nI (P.length + 1)) (nI id) := by
  obtain ⟨B, F, h, hk⟩ := h
  obtain ⟨B1, b, l1, l2, B2, rfl, rfl, rfl, h4⟩ := ld_at (ld_R0_ne h) h.2.2.2.2.2.2.1
  obtain ⟨b1, b2, b3, b4, b5⟩ := ld_R0_bk h
  dsimp only at b1 b2 b3 b4 b5
  have hcb : (nI b).toNatClampNeg = b := nI_clamp (by omega)
  have hl : (l1 ++ l2).length = l1.length + l2.length := List.length_append
  have hc : ((ld_fl B1 ++ l1) ++ id :: (l2 ++ ld_fl B2)).length = ((ld_fl B1 ++ l1) ++ (l2 ++ ld_fl B2)).length + 1 := by
    simp only [List.length_append, List.length_cons]
    omega
  have hq : (ld_fl B1 ++ l1).length = (ld_fl B1).length + l1.length := List.length_append
  rw [hc, hq] at hp
  rw [hq]
  unfold wpX_putIn
  refine ld_note hs ?_
  refine ld_walkTo h (r := l1.length) (by omega) (by rcases h4 with w | w; exact Or.inl (by have := List.length_pos_iff.mpr w; omega); exact Or.inr w) ⟨pk_in b 32 b1, br_c (fun z => ?_) (fun z => ?_)⟩
  · rw [hcb, b3] at z
    have z6 : (l1 ++ l2).length = 6 := (nI_eq (b := 6) (by omega) (by omega)).mp z
    have h5 := h.2.2.2.2.1
    have h60 := h.2.2.2.2.2.2.2.1.2.1
    have hlen := ld_pk_len _ _ (Nat.le_refl _) hk
    rw [h.2.2.2.2.2.2.1] at hlen
    match F, h with
    | [], h =>
      simp only [List.length_nil] at h5
      omega
    | f :: F, h =>
      have ef : fr = nI f := h.2.1.1
      subst ef
      by_cases w : l1.length < 3
      · obtain ⟨m1, m2, rfl, g1, g2⟩ : ∃ m1 m2, l2 = m1 ++ m2 ∧ (l1 ++ m1).length = 3 ∧ m2.length = 3 :=
          ⟨l2.take (3 - l1.length), l2.drop (3 - l1.length), by rw [List.take_append_drop], by rw [List.length_append, List.length_take]; omega, by rw [List.length_drop]; omega⟩
        have ha : l1 ++ (m1 ++ m2) = (l1 ++ m1) ++ m2 := by rw [List.append_assoc]
        rw [ha] at h
        refine ld_wsplit h g1 g2 (fun fr a2 a4 a5 a6 h' => ?_)
        refine ld_walkTo h' (r := l1.length) (by omega) (Or.inl (by omega)) ?_
        refine ld_put39 h' (by omega) ?_ (fun fr a2 a4 a5 a6 hR => ?_)
        · rw [ld_fl_c, ← List.append_assoc m1]
          exact ht
        · rw [ld_fl_c, ← List.append_assoc m1] at hR
          exact hp _ _ _ _ _ _ _ hR
      · obtain ⟨m1, m2, rfl, g1, g2⟩ : ∃ m1 m2, l1 = m1 ++ m2 ∧ m1.length = 3 ∧ (m2 ++ l2).length = 3 :=
          ⟨l1.take 3, l1.drop 3, by rw [List.take_append_drop], by rw [List.length_take]; omega, by rw [List.length_append, List.length_drop]; omega⟩
        have ha : (m1 ++ m2) ++ l2 = m1 ++ (m2 ++ l2) := by rw [List.append_assoc]
        rw [ha] at h
        refine ld_wsplit h g1 g2 (fun fr a2 a4 a5 a6 h' => ?_)
        have h'' : ld_R0 fr a2 a4 a5 a6 ((B1 ++ [(b, m1)]) ++ (f, m2 ++ l2) :: B2) F ((ld_fl B1 ++ (m1 ++ m2)) ++ (l2 ++ ld_fl B2)) := by
          rw [List.append_assoc]
          exact h'
        have hf : ld_fl (B1 ++ [(b, m1)]) = ld_fl B1 ++ m1 := by
          rw [ld_fl_app, ld_fl_c, ld_fl_0, List.append_nil]
        have hf2 : (ld_fl B1).length + (m1 ++ m2).length + 1 = (ld_fl (B1 ++ [(b, m1)])).length + m2.length + 1 := by
          rw [hf]
          simp only [List.length_append]
          omega
        have hf3 : ld_fl B1 ++ (m1 ++ m2) = ld_fl (B1 ++ [(b, m1)]) ++ m2 := by rw [hf, List.append_assoc]
        rw [hf2]
        refine ld_walkTo h'' (r := m2.length) (by rw [List.length_append]; omega) (by rcases h4 with w | w; exact Or.inl (by rw [List.length_append]; have := List.length_pos_iff.mpr w; omega); exact Or.inr w) ?_
        refine ld_put39 h'' (by omega) (by rw [← hf3]; exact ht) (fun fr a2 a4 a5 a6 hR => ?_)
        rw [← hf3] at hR
        rw [← hf2]
        exact hp _ _ _ _ _ _ _ hR
  · rw [hcb, b3] at z
    have z6 : (l1 ++ l2).length ≠ 6 := fun e => z (by rw [e]; rfl)
    exact ld_put39 h (by omega) ht (fun fr a2 a4 a5 a6 hR => hp _ _ _ _ _ _ _ hR)
end
section
/-- takeOut -/
theorem ld_takeOut {post : Int32 → St1 → Prop} {fr ab ac pl op ch ns li : Int32} {a1 a2 a3 a4 a5 a6 a7 a8 a9 a10 a11 a12 a13 a14 a15 : Nat → Int32} {s id : Nat} {P Q : List Nat} (h : ld_R fr a2 a4 a5 a6 (P ++ id :: Q)) (hs : s < 140)
    (hp : ∀ fr ab ac a2 a4 a5 a6, ld_R fr a2 a4 a5 a6 (P ++ Q) → post (nI id) (nI (P ++ Q).length, 0, fr, ab, ac, pl, op, ch, nI (s + 1), ns, li, a1, a2, upd a3 id 1, a4, a5, a6, a7, a8, upd a9 s 1, upd a10 s (nI (P.length + 1)), upd a11 s (nI id), a12, a13, a14, a15)) : wpX_takeOut post (nI (P ++ id :: Q).length, 0, fr, ab, ac, pl, op, ch, nI s, ns, li, a1, a2, a3, a4, a5, a6, a7, a8, a9, a10, a11, a12, a13, a14, a15) (nI (P.length + 1)) := by
  obtain ⟨B, F, h, hk⟩ := h
  obtain ⟨B1, b, l1, l2, B2, rfl, rfl, rfl⟩ := ld_atid (ld_R0_ne h) h.2.2.2.2.2.2.1
  obtain ⟨b1, b2, b3, b4, b5⟩ := ld_R0_bk h
  dsimp only at b1 b2 b3 b4 b5
  have hid : id < 128 := h.2.2.2.2.2.2.2.1.2.2 id (by simp)
  have hcb : (nI b).toNatClampNeg = b := nI_clamp (by omega)
  have hci : (nI id).toNatClampNeg = id := nI_clamp (by omega)
  have hl : (l1 ++ id :: l2).length = (l1 ++ l2).length + 1 := by
    simp only [List.length_append, List.length_cons]
    omega
  have hl1 : l1.length ≤ (l1 ++ l2).length := by
    rw [List.length_append]
    omega
  have hc : ((ld_fl B1 ++ l1) ++ id :: (l2 ++ ld_fl B2)).length = ((ld_fl B1 ++ l1) ++ (l2 ++ ld_fl B2)).length + 1 := by
    simp only [List.length_append, List.length_cons]
    omega
  have hq : (ld_fl B1 ++ l1).length = (ld_fl B1).length + l1.length := List.length_append
  rw [hq] at hp
  rw [hc, hq]
  rw [hl] at b2
  unfold wpX_takeOut
  have e : a6 (6 * nI b + nI l1.length).toNatClampNeg = nI id := by
    rw [ld_cc (by omega)]
    exact b4 _ _ (by rw [show l1.length = l1.length + 0 by omega, ld_ap_r]; rfl)
  refine ld_walkTo h (r := l1.length) (by omega) (Or.inl (by omega)) ⟨ld_ci (by omega), nm_r e ?_⟩
  refine ld_note hs ⟨pk_in id 128 hid, nm_r (e' := upd a3 id 1) (by rw [hci]) ⟨pk_in b 32 b1, pk_in b 32 b1, nm_r (e' := upd a5 b (nI (l1 ++ l2).length)) (by rw [hcb, b3, hl, nI_pred]) ?_⟩⟩
  refine pk_loop (σ := Nat → Int32) (fun n i t => wX_takeOut_55 post (nI b) (nI id) (nI (((ld_fl B1 ++ l1) ++ (l2 ++ ld_fl B2)).length + 1)) 0 fr (nI b) (nI l1.length) pl op ch (nI (s + 1)) ns li n (nI i) a1 a2 (upd a3 id 1) a4 (upd a5 b (nI (l1 ++ l2).length)) t a7 a8 (upd a9 s 1) (upd a10 s (nI ((ld_fl B1).length + l1.length + 1))) (upd a11 s (nI id)) a12 a13 a14 a15)
    (fun i t => l1.length ≤ i ∧ (∀ j, j < 6 * b + l1.length ∨ 6 * b + i ≤ j → t j = a6 j) ∧ ∀ k, l1.length ≤ k → k < i → t (6 * b + k) = a6 (6 * b + (k + 1))) (l1 ++ l2).length l1.length a6 hl1 ⟨Nat.le_refl _, fun j _ => rfl, fun k z1 z2 => absurd z1 (by omega)⟩ (fun n t ht => ?_) (fun n i t hi ht hw => ?_)
  · refine ⟨pk_in b 32 b1, br_t ?_ ⟨pk_in id 128 hid, nm_r (e' := upd a2 id (-1)) (by rw [hci]) (nm_r (nI_pred _) ?_)⟩⟩
    · rw [hcb, pk_us]
      exact nI_le (Nat.le_refl _) (by omega)
    · exact ld_joinSmall (ld_del h ht.2.1 ht.2.2) (fun fr a2 a4 a5 a6 hR => hp _ _ _ _ _ _ _ hR)
  · have hli := ht.1
    have g0 : (6 * nI b + nI i) + 1 = nI (6 * b + (i + 1)) := by rw [ld_cx, nI_1, Nat.add_assoc]
    refine ⟨pk_in b 32 b1, br_f ?_ ⟨pk_in (6 * b + (i + 1)) 192 (by omega) g0, ld_ci (by omega), nm_r (e' := upd t (6 * b + i) (a6 (6 * b + (i + 1)))) ?_ (nm_r (nI_1 i) (hw _ ⟨by omega, fun j hj => ?_, fun k z1 z2 => ?_⟩))⟩⟩
    · rw [hcb, pk_us]
      exact nI_ge hi (by omega)
    · rw [ld_cc (by omega), g0, nI_clamp (by omega), ht.2.1 (6 * b + (i + 1)) (by omega)]
    · have hli := ht.1
      rw [pk_un (by omega)]
      exact ht.2.1 j (by omega)
    · by_cases w : k = i
      · rw [w, pk_us]
      · rw [pk_un (by omega)]
        exact ht.2.2 k z1 (by omega)
/-! listRange -/
def ld_ls (T : List Nat) (p q N : Nat) (li : Int32) (a15 : Nat → Int32) : Prop := li = nI (min N q - p) ∧ ∀ j x, j < min N q - p → T[p + j]? = some x → a15 j = nI x
theorem ld_lr21 {post : St1 → Prop} {c fr ab ac pl op ch st ns li : Int32} {a1 a2 a3 a4 a5 a6 a7 a8 a9 a10 a11 a12 a13 a14 a15 : Nat → Int32} {J : Int32 → Int32 → Int32 → (Nat → Int32) → (Nat → Int32) → (Nat → Int32) → (Nat → Int32) → (Nat → Int32) → (Nat → Int32) → (Nat → Int32) → (Nat → Int32) → (Nat → Int32) → (Nat → Int32) → (Nat → Int32) → (Nat → Int32) → (Nat → Int32) → (Nat → Int32) → (Nat → Int32) → Prop}
    {p q N b : Nat} {l T : List Nat} (hb : ld_bk a2 a5 a6 (b, l)) (hl : ∀ k y, l[k]? = some y → T[N + k]? = some y) (hp1 : p ≤ 60) (hq : q ≤ 60) (hN : N + l.length ≤ 60) (h0 : ld_ls T p q N li a15)
    (hJ : ∀ li a15, ld_ls T p q (N + l.length) li a15 → J (nI (N + l.length)) (a4 b) li a1 a2 a3 a4 a5 a6 a7 a8 a9 a10 a11 a12 a13 a14 a15) : ∃ n, wX_listRange_21 post J (nI (p + 1)) (nI q) (nI b) c 0 fr ab ac pl op ch st ns n (nI N) 0 li a1 a2 a3 a4 a5 a6 a7 a8 a9 a10 a11 a12 a13 a14 a15 := by
  obtain ⟨c1, c2, c3, c4, _⟩ := hb
  dsimp only at c1 c2 c3 c4
  have hcb : (nI b).toNatClampNeg = b := nI_clamp (by omega)
  refine pk_loop (σ := Int32 × (Nat → Int32)) (fun n i s => wX_listRange_21 post J (nI (p + 1)) (nI q) (nI b) c 0 fr ab ac pl op ch st ns n (nI (N + i)) (nI i) s.1 a1 a2 a3 a4 a5 a6 a7 a8 a9 a10 a11 a12 a13 a14 s.2) (fun i s => ld_ls T p q (N + i) s.1 s.2) l.length 0 (li, a15) (by omega) h0 (fun n s hs => ?_) (fun n i s hi hs hw => ?_)
  · obtain ⟨s1, s2⟩ := s
    exact ⟨pk_in b 32 c1, br_t (by rw [hcb, c3]; exact nI_le (Nat.le_refl _) (by omega)) ⟨pk_in b 32 c1, nm_r (e' := a4 b) (by rw [hcb]) (hJ _ _ hs)⟩⟩
  · obtain ⟨s1, s2⟩ := s
    obtain ⟨k1, k2⟩ := hs
    dsimp only at k1 k2
    obtain ⟨y, hy⟩ := ld_getl hi
    refine ⟨pk_in b 32 c1, br_f (by rw [hcb, c3]; exact nI_ge hi (by omega)) (nm_r (nI_1 (N + i)) (pk_lt (N + i + 1) (p + 1) (fun z => ?_) (fun z => pk_lt q (N + i + 1) (fun w => ?_) (fun w => ?_))))⟩
    · refine nm_r (nI_1 i) (hw (s1, s2) ?_)
      have e : min (N + (i + 1)) q - p = min (N + i) q - p := by omega
      refine ⟨?_, fun j x hj => ?_⟩
      · dsimp only
        rw [e]
        exact k1
      · dsimp only
        rw [e] at hj
        exact k2 j x hj
    · refine nm_r (nI_1 i) (hw (s1, s2) ?_)
      have e : min (N + (i + 1)) q - p = min (N + i) q - p := by omega
      refine ⟨?_, fun j x hj => ?_⟩
      · dsimp only
        rw [e]
        exact k1
      · dsimp only
        rw [e] at hj
        exact k2 j x hj
    · have e0 : min (N + i) q - p = N + i - p := by omega
      have e1 : min (N + (i + 1)) q - p = N + i - p + 1 := by omega
      rw [e0] at k1 k2
      refine ⟨ld_ci (by omega), pk_in (N + i - p) 60 (by omega) k1, nm_r (e' := upd s2 (N + i - p) (nI y)) ?_ (nm_r (e' := nI (N + i - p + 1)) ?_ (nm_r (nI_1 i) (hw (nI (N + i - p + 1), upd s2 (N + i - p) (nI y)) ⟨?_, fun j x hj hx => ?_⟩)))⟩
      · dsimp only
        rw [k1, nI_clamp (by omega), ld_cc (by omega), c4 i y hy]
      · dsimp only
        rw [k1, nI_1]
      · dsimp only
        rw [e1]
      · dsimp only
        by_cases w2 : j = N + i - p
        · rw [w2, pk_us]
          rw [w2, show p + (N + i - p) = N + i by omega, hl i y hy] at hx
          cases hx
          rfl
        · rw [pk_un w2]
          exact k2 j x (by omega) hx
theorem ld_lr13 {post : St1 → Prop} {c fr ab ac pl op ch st ns : Int32} {a1 a2 a3 a4 a5 a6 a7 a8 a9 a10 a11 a12 a13 a14 : Nat → Int32} {p q : Nat} {T : List Nat} (hp1 : p ≤ 60) (hq : q ≤ 60) (hT : T.length ≤ 60) (hp : ∀ li a15, ld_ls T p q T.length li a15 → post (c, 0, fr, ab, ac, pl, op, ch, st, ns, li, a1, a2, a3, a4, a5, a6, a7, a8, a9, a10, a11, a12, a13, a14, a15)) :
    ∀ (B2 : List (Nat × List Nat)) (T0 : List Nat) (h : Int32) (n : Nat) (li : Int32) (a15 : Nat → Int32), ld_lk a4 (B2.map Prod.fst) h (-1) → (∀ x, x ∈ B2 → ld_bk a2 a5 a6 x) → T = T0 ++ ld_fl B2 → ld_ls T p q T0.length li a15 → B2.length < n →
      wX_listRange_13 post (nI (p + 1)) (nI q) c 0 fr ab ac pl op ch st ns n (nI T0.length) h li a1 a2 a3 a4 a5 a6 a7 a8 a9 a10 a11 a12 a13 a14 a15 := by
  intro B2
  induction B2 with
  | nil =>
    intro T0 h n li a15 hk hb hT0 hs hn
    obtain ⟨n, rfl⟩ : ∃ m, n = m + 1 := ⟨n - 1, by simp only [List.length_nil] at hn; omega⟩
    have e : h = -1 := hk
    rw [ld_fl_0, List.append_nil] at hT0
    subst e hT0
    exact br_t (by decide) (hp _ _ hs)
  | cons x B2 ih =>
    intro T0 h n li a15 hk hb hT0 hs hn
    obtain ⟨n, rfl⟩ : ∃ m, n = m + 1 := ⟨n - 1, by simp only [List.length_cons] at hn; omega⟩
    obtain ⟨e, hk2⟩ : h = nI x.1 ∧ ld_lk a4 (B2.map Prod.fst) (a4 x.1) (-1) := hk
    subst e
    have hx := hb x (by simp)
    simp only [List.length_cons] at hn
    have hlen : T.length = T0.length + (x.2.length + (ld_fl B2).length) := by rw [hT0, ld_fl_c, List.length_append, List.length_append]
    have hx1 := hx.1
    refine br_f (nI_pos (by omega)) ?_
    refine ld_lr21 (T := T) (N := T0.length) hx (fun k y hy => ?_) hp1 hq (by omega) hs (fun li a15 hs' => ?_)
    · rw [hT0, ld_fl_c, ld_ap_r, ld_ap_l (ld_lt hy)]
      exact hy
    · have := ih (T0 ++ x.2) (a4 x.1) n li a15 hk2 (fun z hz => hb z (by simp [hz])) (by rw [hT0, ld_fl_c, List.append_assoc]) (by rw [List.length_append]; exact hs') (by omega)
      rw [List.length_append] at this
      exact this
theorem ld_listRange {post : St1 → Prop} {c fr ab ac pl op ch st ns li : Int32} {a1 a2 a3 a4 a5 a6 a7 a8 a9 a10 a11 a12 a13 a14 a15 : Nat → Int32} {p q : Nat} {T : List Nat} (h : ld_R fr a2 a4 a5 a6 T) (hpq : p ≤ q) (hq : q ≤ T.length) (hp : ∀ a15, (∀ j x, j < q - p → T[p + j]? = some x → a15 j = nI x) → post (c, 0, fr, ab, ac, pl, op, ch, st, ns, nI (q - p), a1, a2, a3, a4, a5, a6, a7, a8, a9, a10, a11, a12, a13, a14, a15)) : wpX_listRange post (c, 0, fr, ab, ac, pl, op, ch, st, ns, li, a1, a2, a3, a4, a5, a6, a7, a8, a9, a10, a11, a12, a13, a14, a15) (nI (p + 1)) (nI q) := by
  have h60 := (ld_R_tx h).2.1
  obtain ⟨B, F, h, _⟩ := h
  refine ⟨B.length + 1, ld_lr13 (T := T) (by omega) (by omega) h60 (fun li a15 hs => ?_) B [] 0 (B.length + 1) 0 a15 h.1 h.2.2.2.2.2.1 h.2.2.2.2.2.2.1.symm ⟨?_, fun j x hj => absurd hj ?_⟩ (by omega)⟩
  · obtain ⟨k1, k2⟩ := hs
    rw [show min T.length q - p = q - p by omega] at k1 k2
    subst k1
    exact hp a15 k2
  · rw [List.length_nil, show min 0 q - p = 0 by omega]
    rfl
  · rw [List.length_nil]
    omega
end
section
/-! beginChange, clearMarks, exchangeMarks, freshLine, isRange -/
theorem ld_begin34 {post : St1 → Prop} {c fr ab ac pl op ch st ns li : Int32} {a1 a2 a3 a4 a5 a6 a7 a8 a9 a10 a11 a12 a13 a14 a15 : Nat → Int32} (hp : ∀ a8', (∀ k, k < 4 → a8' k = a7 k) → post (c, 0, fr, ab, ac, pl, pl, ch, st, ns, li, a1, a2, a3, a4, a5, a6, a7, a8', a9, a10, a11, a12, a13, a14, a15)) : ∃ n, wX_beginChange_34 post c 0 fr ab ac pl op ch st ns li n 0 a1 a2 a3 a4 a5 a6 a7 a8 a9 a10 a11 a12 a13 a14 a15 := by
  refine pk_loop (σ := Nat → Int32) (fun n i s => wX_beginChange_34 post c 0 fr ab ac pl op ch st ns li n (nI i) a1 a2 a3 a4 a5 a6 a7 s a9 a10 a11 a12 a13 a14 a15) (fun i s => ∀ k, k < i → s k = a7 k) 4 0 a8 (by omega) (fun k hk => absurd hk (by omega)) (fun n s hs => ?_) (fun n i s hi hs hw => ?_)
  · exact pk_le 4 4 (fun _ => hp s hs) (fun z => absurd z (by omega))
  · have hc : (nI i).toNatClampNeg = i := nI_clamp (by omega)
    refine pk_le 4 i (fun z => absurd z (by omega)) (fun _ => ⟨pk_in i 4 hi, pk_in i 4 hi, nm_r (e' := upd s i (a7 i)) (by rw [hc]) (nm_r (nI_1 i) (hw _ (fun k hk => ?_)))⟩)
    by_cases e : k = i
    · rw [e, pk_us]
    · rw [pk_un e]
      exact hs k (by omega)
theorem ld_begin {post : St1 → Prop} {c fr ab ac pl op ch st ns li : Int32} {a1 a2 a3 a4 a5 a6 a7 a8 a9 a10 a11 a12 a13 a14 a15 : Nat → Int32} (hp : ∀ a3' a8', (∀ k, k < 128 → a3' k = 0) → (∀ k, k < 4 → a8' k = a7 k) → post (c, 0, fr, ab, ac, pl, pl, 1, nI 0, ns, li, a1, a2, a3', a4, a5, a6, a7, a8', a9, a10, a11, a12, a13, a14, a15)) : wpX_beginChange post (c, 0, fr, ab, ac, pl, op, ch, st, ns, li, a1, a2, a3, a4, a5, a6, a7, a8, a9, a10, a11, a12, a13, a14, a15) := by
  refine pk_loop (σ := Nat → Int32) (fun n i s => wX_beginChange_12 post c 0 fr ab ac pl op 1 0 ns li n (nI i) a1 a2 s a4 a5 a6 a7 a8 a9 a10 a11 a12 a13 a14 a15) (fun i s => ∀ k, k < i → s k = 0) 128 0 a3 (by omega) (fun k hk => absurd hk (by omega)) (fun n s hs => ?_) (fun n i s hi hs hw => ?_)
  · exact pk_le 128 128 (fun _ => ld_begin34 (fun a8' h8 => hp s a8' hs h8)) (fun z => absurd z (by omega))
  · have hc : (nI i).toNatClampNeg = i := nI_clamp (by omega)
    refine pk_le 128 i (fun z => absurd z (by omega)) (fun _ => ⟨pk_in i 128 hi, nm_r (e' := upd s i 0) (by rw [hc]) (nm_r (nI_1 i) (hw _ (fun k hk => ?_)))⟩)
    by_cases e : k = i
    · rw [e, pk_us]
    · rw [pk_un e]
      exact hs k (by omega)
theorem ld_clear {post : St1 → Prop} {c fr ab ac pl op ch st ns li : Int32} {a1 a2 a3 a4 a5 a6 a7 a8 a9 a10 a11 a12 a13 a14 a15 : Nat → Int32} {x : Int32} (hp : ∀ a7', (∀ k, k < 4 → (a7 k = x → a7' k = -1) ∧ (a7 k ≠ x → a7' k = a7 k)) → post (c, 0, fr, ab, ac, pl, op, ch, st, ns, li, a1, a2, a3, a4, a5, a6, a7', a8, a9, a10, a11, a12, a13, a14, a15)) : wpX_clearMarks post (c, 0, fr, ab, ac, pl, op, ch, st, ns, li, a1, a2, a3, a4, a5, a6, a7, a8, a9, a10, a11, a12, a13, a14, a15) x := by
  refine pk_loop (σ := Nat → Int32) (fun n i s => wX_clearMarks_2 post x c 0 fr ab ac pl op ch st ns li n (nI i) a1 a2 a3 a4 a5 a6 s a8 a9 a10 a11 a12 a13 a14 a15) (fun i s => (∀ k, k < i → (a7 k = x → s k = -1) ∧ (a7 k ≠ x → s k = a7 k)) ∧ ∀ k, i ≤ k → s k = a7 k) 4 0 a7 (by omega) ⟨fun k hk => absurd hk (by omega), fun k _ => rfl⟩ (fun n s hs => ?_) (fun n i s hi hs hw => ?_)
  · exact pk_le 4 4 (fun _ => hp s hs.1) (fun z => absurd z (by omega))
  · have hc : (nI i).toNatClampNeg = i := nI_clamp (by omega)
    have hsi := hs.2 i (Nat.le_refl _)
    refine pk_le 4 i (fun z => absurd z (by omega)) (fun _ => ⟨pk_in i 4 hi, br_c (fun z => ⟨pk_in i 4 hi, nm_r (e' := upd s i (-1)) (by rw [hc]) (nm_r (nI_1 i) (hw _ ⟨fun k hk => ?_, fun k hk => ?_⟩))⟩) (fun z => ⟨pk_in i 4 hi, pk_in i 4 hi, nm_r (e' := upd s i (s i)) (by rw [hc]) (nm_r (nI_1 i) (hw _ ⟨fun k hk => ?_, fun k hk => ?_⟩))⟩)⟩)
    · rw [hc, hsi] at z
      by_cases e : k = i
      · rw [e, pk_us]
        exact ⟨fun _ => rfl, fun w => absurd z w⟩
      · rw [pk_un e]
        exact hs.1 k (by omega)
    · rw [pk_un (by omega)]
      exact hs.2 k (by omega)
    · rw [hc, hsi] at z
      by_cases e : k = i
      · rw [e, pk_us, hsi]
        exact ⟨fun w => absurd w z, fun _ => rfl⟩
      · rw [pk_un e]
        exact hs.1 k (by omega)
    · rw [pk_un (by omega)]
      exact hs.2 k (by omega)
theorem ld_exch {post : St1 → Prop} {c fr ab ac pl op ch st ns li : Int32} {a1 a2 a3 a4 a5 a6 a7 a8 a9 a10 a11 a12 a13 a14 a15 : Nat → Int32} (hp : ∀ a7' a8', (∀ k, k < 4 → a7' k = a8 k) → (∀ k, k < 4 → a8' k = a7 k) → post (c, 0, fr, ab, ac, op, pl, ch, st, ns, li, a1, a2, a3, a4, a5, a6, a7', a8', a9, a10, a11, a12, a13, a14, a15)) : wpX_exchangeMarks post (c, 0, fr, ab, ac, pl, op, ch, st, ns, li, a1, a2, a3, a4, a5, a6, a7, a8, a9, a10, a11, a12, a13, a14, a15) := by
  refine pk_loop (σ := (Nat → Int32) × (Nat → Int32)) (fun n i s => wX_exchangeMarks_20 post c 0 fr ab ac op pl ch st ns li n (nI i) a1 a2 a3 a4 a5 a6 s.1 s.2 a9 a10 a11 a12 a13 a14 a15) (fun i s => (∀ k, k < i → s.1 k = a8 k ∧ s.2 k = a7 k) ∧ ∀ k, i ≤ k → s.1 k = a7 k ∧ s.2 k = a8 k) 4 0 (a7, a8) (by omega) ⟨fun k hk => absurd hk (by omega), fun k _ => ⟨rfl, rfl⟩⟩ (fun n s hs => ?_) (fun n i s hi hs hw => ?_)
  · exact pk_le 4 4 (fun _ => hp s.1 s.2 (fun k hk => (hs.1 k hk).1) (fun k hk => (hs.1 k hk).2)) (fun z => absurd z (by omega))
  · obtain ⟨s1, s2⟩ := s
    obtain ⟨h1, h2⟩ := hs
    dsimp only at h1 h2
    have hc : (nI i).toNatClampNeg = i := nI_clamp (by omega)
    obtain ⟨g1, g2⟩ := h2 i (Nat.le_refl _)
    refine pk_le 4 i (fun z => absurd z (by omega)) (fun _ => ⟨pk_in i 4 hi, nm_r (e' := a7 i) (by rw [hc]; exact g1) ⟨pk_in i 4 hi, pk_in i 4 hi, nm_r (e' := upd s1 i (a8 i)) (by rw [hc]; dsimp only; rw [g2]) ⟨pk_in i 4 hi, nm_r (e' := upd s2 i (a7 i)) (by rw [hc]) (nm_r (nI_1 i) (hw (upd s1 i (a8 i), upd s2 i (a7 i)) ⟨fun k hk => ?_, fun k hk => ?_⟩))⟩⟩⟩)
    · dsimp only
      by_cases e : k = i
      · rw [e, pk_us, pk_us]
        exact ⟨rfl, rfl⟩
      · rw [pk_un e, pk_un e]
        exact h1 k (by omega)
    · dsimp only
      rw [pk_un (by omega), pk_un (by omega)]
      exact h2 k (by omega)
theorem ld_pig : ∀ (n : Nat) (T : List Nat), (∀ x, x < n → x ∈ T) → n ≤ T.length := by
  intro n
  induction n with
  | zero => intro T _; omega
  | succ n ih =>
    intro T h
    have hm := h n (by omega)
    have := ih (T.erase n) (fun x hx => (List.mem_erase_of_ne (by omega)).mpr (h x (by omega)))
    rw [List.length_erase_of_mem hm] at this
    have := List.length_pos_of_mem hm
    omega
theorem ld_room {T : List Nat} (h : T.length < 128) : ∃ i, i < 128 ∧ i ∉ T := by
  apply Classical.byContradiction
  intro hn
  have := ld_pig 128 T (fun x hx => Classical.byContradiction (fun hx2 => hn ⟨x, hx, hx2⟩))
  omega
theorem ld_R_in {fr : Int32} {a2 a4 a5 a6 : Nat → Int32} {T : List Nat} {y : Nat} (h : ld_R fr a2 a4 a5 a6 T) (hy : y ∈ T) : ∃ b, b < 32 ∧ a2 y = nI b := by
  obtain ⟨B, F, h, _⟩ := h
  obtain ⟨P, Q, rfl⟩ := List.append_of_mem hy
  obtain ⟨B1, b, l1, l2, B2, rfl, rfl, rfl⟩ := ld_atid (ld_R0_ne h) h.2.2.2.2.2.2.1
  have hb := ld_R0_bk h
  exact ⟨b, hb.1, hb.2.2.2.2 y (by simp)⟩
theorem ld_R_out {fr : Int32} {a2 a4 a5 a6 : Nat → Int32} {T : List Nat} {y : Nat} (h : ld_R fr a2 a4 a5 a6 T) (hy : y < 128) (hn : y ∉ T) : a2 y = -1 := by
  obtain ⟨B, F, h, _⟩ := h
  exact h.2.2.2.2.2.2.2.2 y hy hn
theorem ld_fresh5 {post : Int32 → St1 → Prop} {c fr ab ac pl op ch st ns li : Int32} {a1 a2 a3 a4 a5 a6 a7 a8 a9 a10 a11 a12 a13 a14 a15 : Nat → Int32} {v : Int32} {T : List Nat} {i0 : Nat} (h : ld_R fr a2 a4 a5 a6 T) (h3 : ∀ k, k < 128 → a3 k = 0) (hi : i0 < 128) (hi2 : i0 ∉ T) (hp : ∀ id, id < 128 → id ∉ T → post (nI id) (c, 0, fr, ab, ac, pl, op, ch, st, ns, li, upd a1 id v, a2, a3, a4, a5, a6, a7, a8, a9, a10, a11, a12, a13, a14, a15)) :
    ∀ (k j n : Nat), k ≤ 128 → j < 128 → k < n → (k ≤ i0 → j ∉ T) → wX_freshLine_5 post v c 0 fr ab ac pl op ch st ns li a1 a2 a3 a4 a5 a6 a7 a8 a9 a10 a11 a12 a13 a14 a15 n (nI j) (nI k - 1) := by
  intro k
  induction k with
  | zero =>
    intro j n _ hj hn hf
    obtain ⟨n, rfl⟩ : ∃ m, n = m + 1 := ⟨n - 1, by omega⟩
    exact br_t (by decide) ⟨pk_in j 128 hj, nm_r (e' := upd a1 j v) (by rw [nI_clamp (by omega)]) (hp j hj (hf (by omega)))⟩
  | succ m ih =>
    intro j n hk hj hn hf
    obtain ⟨n, rfl⟩ : ∃ m, n = m + 1 := ⟨n - 1, by omega⟩
    have hc : (nI m).toNatClampNeg = m := nI_clamp (by omega)
    have hm1 : nI m + (-1) = nI m - 1 := by rw [Int32.sub_eq_add_neg]
    rw [nI_pred]
    refine br_f (nI_pos (by omega)) ⟨pk_in m 128 (by omega), br_c (fun z => nm_r hm1 (ih j n (by omega) hj (by omega) (fun w => ?_))) (fun z => ⟨pk_in m 128 (by omega), br_t (by rw [hc]; exact h3 m (by omega)) (nm_r hm1 (ih m n (by omega) (by omega) (by omega) (fun w => ?_)))⟩)⟩
    · rw [hc] at z
      refine hf ?_
      have : m ≠ i0 := by
        intro e
        rw [e, ld_R_out h hi hi2] at z
        exact absurd z (by decide)
      omega
    · rw [hc] at z
      intro hmT
      obtain ⟨b, hb, e⟩ := ld_R_in h hmT
      rw [e] at z
      exact z (nI_pos' (by omega))
theorem ld_fresh {post : Int32 → St1 → Prop} {c fr ab ac pl op ch st ns li : Int32} {a1 a2 a3 a4 a5 a6 a7 a8 a9 a10 a11 a12 a13 a14 a15 : Nat → Int32} {v : Int32} {T : List Nat} (h : ld_R fr a2 a4 a5 a6 T) (h3 : ∀ k, k < 128 → a3 k = 0) (hp : ∀ id, id < 128 → id ∉ T → post (nI id) (c, 0, fr, ab, ac, pl, op, ch, st, ns, li, upd a1 id v, a2, a3, a4, a5, a6, a7, a8, a9, a10, a11, a12, a13, a14, a15)) : wpX_freshLine post (c, 0, fr, ab, ac, pl, op, ch, st, ns, li, a1, a2, a3, a4, a5, a6, a7, a8, a9, a10, a11, a12, a13, a14, a15) v := by
  have h60 := (ld_R_tx h).2.1
  obtain ⟨i0, hi, hi2⟩ := ld_room (T := T) (by omega)
  have e : (127 : Int32) = nI 128 - 1 := by decide
  refine ⟨129, ?_⟩
  rw [e]
  exact ld_fresh5 h h3 hi hi2 hp 128 0 129 (by omega) (by omega) (by omega) (fun z => absurd z (by omega))
theorem ld_isRange {post : Int32 → Prop} {fr ab ac pl op ch st ns li : Int32} {a1 a2 a3 a4 a5 a6 a7 a8 a9 a10 a11 a12 a13 a14 a15 : Nat → Int32} {p q n : Nat} (hp' : p ≤ 1000) (hq' : q ≤ 1000) (hn' : n ≤ 1000) (h1 : 1 ≤ p ∧ p ≤ q ∧ q ≤ n → post 1) (h0 : ¬ (1 ≤ p ∧ p ≤ q ∧ q ≤ n) → post 0) : wpX_isRange post (nI n, 0, fr, ab, ac, pl, op, ch, st, ns, li, a1, a2, a3, a4, a5, a6, a7, a8, a9, a10, a11, a12, a13, a14, a15) (nI p) (nI q) :=
  pk_lt p 1 (fun z => h0 (by omega)) (fun z => pk_lt q p (fun w => h0 (by omega)) (fun w => pk_lt n q (fun v => h0 (by omega)) (fun v => h1 (by omega))))
end
section
/-! the steps that lead from one text to another -/
def ld_st (s p l : Int32) (T : List Nat) (v : Nat → Int32) (T' : List Nat) (v' : Nat → Int32) : Prop :=
  (∃ (P Q : List Nat) (id : Nat), s = 0 ∧ p = nI (P.length + 1) ∧ l = nI id ∧ T = P ++ Q ∧ T' = P ++ id :: Q ∧ ld_tx (P ++ id :: Q) ∧ v' = v) ∨
  (∃ (P Q : List Nat) (id : Nat), s = 1 ∧ p = nI (P.length + 1) ∧ l = nI id ∧ T = P ++ id :: Q ∧ T' = P ++ Q ∧ ld_tx (P ++ id :: Q) ∧ v' = v) ∨
  ∃ (id : Nat) (w : Int32), s = 2 ∧ p = v id ∧ l = nI id ∧ id < 128 ∧ T' = T ∧ v' = upd v id w
def ld_lg (a9 a10 a11 : Nat → Int32) : Nat → List Nat → (Nat → Int32) → List Nat → (Nat → Int32) → Prop
  | 0, T0, v0, T, v => T = T0 ∧ v = v0
  | m + 1, T0, v0, T, v => ∃ (T1 : List Nat) (v1 : Nat → Int32), ld_lg a9 a10 a11 m T0 v0 T1 v1 ∧ ld_st (a9 m) (a10 m) (a11 m) T1 v1 T v
theorem ld_lg_fr {a9 a10 a11 b9 b10 b11 : Nat → Int32} {T0 : List Nat} {v0 : Nat → Int32} : ∀ (m : Nat) (T : List Nat) (v : Nat → Int32), (∀ k, k < m → b9 k = a9 k ∧ b10 k = a10 k ∧ b11 k = a11 k) → ld_lg a9 a10 a11 m T0 v0 T v → ld_lg b9 b10 b11 m T0 v0 T v := by
  intro m
  induction m with
  | zero => intro T v _ h; exact h
  | succ m ih =>
    intro T v hf ⟨T1, v1, h1, h2⟩
    obtain ⟨e1, e2, e3⟩ := hf m (by omega)
    exact ⟨T1, v1, ih T1 v1 (fun k hk => hf k (by omega)) h1, by rw [e1, e2, e3]; exact h2⟩
theorem ld_lg_add {a9 a10 a11 : Nat → Int32} {m : Nat} {T0 T T' : List Nat} {v0 v v' : Nat → Int32} {s p l : Int32} (h : ld_lg a9 a10 a11 m T0 v0 T v) (hs : ld_st s p l T v T' v') : ld_lg (upd a9 m s) (upd a10 m p) (upd a11 m l) (m + 1) T0 v0 T' v' :=
  ⟨T, v, ld_lg_fr m T v (fun k hk => ⟨pk_un (by omega), pk_un (by omega), pk_un (by omega)⟩) h, by rw [pk_us, pk_us, pk_us]; exact hs⟩
/-- steps of lines alone: whatever the values -/
def ld_lT (a9 a10 a11 : Nat → Int32) (m : Nat) (T0 T : List Nat) : Prop := ∀ v, ld_lg a9 a10 a11 m T0 v T v
theorem ld_lT_0 {a9 a10 a11 : Nat → Int32} {T : List Nat} : ld_lT a9 a10 a11 0 T T := fun _ => ⟨rfl, rfl⟩
theorem ld_lT_put {a9 a10 a11 : Nat → Int32} {m id : Nat} {T0 P Q : List Nat} (h : ld_lT a9 a10 a11 m T0 (P ++ Q)) (ht : ld_tx (P ++ id :: Q)) : ld_lT (upd a9 m 0) (upd a10 m (nI (P.length + 1))) (upd a11 m (nI id)) (m + 1) T0 (P ++ id :: Q) :=
  fun v => ld_lg_add (h v) (Or.inl ⟨P, Q, id, rfl, rfl, rfl, rfl, rfl, ht, rfl⟩)
theorem ld_lT_take {a9 a10 a11 : Nat → Int32} {m id : Nat} {T0 P Q : List Nat} (h : ld_lT a9 a10 a11 m T0 (P ++ id :: Q)) (ht : ld_tx (P ++ id :: Q)) : ld_lT (upd a9 m 1) (upd a10 m (nI (P.length + 1))) (upd a11 m (nI id)) (m + 1) T0 (P ++ Q) :=
  fun v => ld_lg_add (h v) (Or.inr (Or.inl ⟨P, Q, id, rfl, rfl, rfl, rfl, rfl, ht, rfl⟩))
/-- takeBack -/
theorem ld_back {post : St1 → Prop} {fr ab ac pl op ch ns li : Int32} {a1 a2 a3 a4 a5 a6 a7 a8 a9 a10 a11 a12 a13 a14 a15 : Nat → Int32} {s : Nat} {S p l : Int32} {T T1 : List Nat} {v1 : Nat → Int32} (hR : ld_R fr a2 a4 a5 a6 T) (hs : s < 140) (h : ld_st S p l T1 v1 T a1)
    (hp : ∀ fr ab ac a2 a3 a4 a5 a6 S p l, ld_R fr a2 a4 a5 a6 T1 → ld_st S p l T a1 T1 v1 → post (nI T1.length, 0, fr, ab, ac, pl, op, ch, nI (s + 1), ns, li, v1, a2, a3, a4, a5, a6, a7, a8, upd a9 s S, upd a10 s p, upd a11 s l, a12, a13, a14, a15)) : wpX_takeBack post (nI T.length, 0, fr, ab, ac, pl, op, ch, nI s, ns, li, a1, a2, a3, a4, a5, a6, a7, a8, a9, a10, a11, a12, a13, a14, a15) S p l := by
  rcases h with ⟨P, Q, id, e1, e2, e3, e4, e5, ht, e6⟩ | ⟨P, Q, id, e1, e2, e3, e4, e5, ht, e6⟩ | ⟨id, w, e1, e2, e3, hi, e5, e6⟩
  · subst e1 e2 e3 e4 e5 e6
    refine br_t rfl (ld_takeOut hR hs (fun fr ab ac a2 a4 a5 a6 hR' => ?_))
    exact hp _ _ _ _ _ _ _ _ _ _ _ hR' (Or.inr (Or.inl ⟨P, Q, id, rfl, rfl, rfl, rfl, rfl, ht, rfl⟩))
  · subst e1 e2 e3 e4 e5 e6
    refine br_f (by decide) (br_t rfl (ld_putIn hR hs ht (fun fr ab ac a2 a4 a5 a6 hR' => ?_)))
    exact hp _ _ _ _ _ _ _ _ _ _ _ hR' (Or.inl ⟨P, Q, id, rfl, rfl, rfl, rfl, rfl, ht, rfl⟩)
  · subst e1 e2 e3 e5
    have hc : (nI id).toNatClampNeg = id := nI_clamp (by omega)
    have ev : upd a1 id (v1 id) = v1 := by
      rw [e6]
      funext j
      by_cases e : j = id
      · rw [e, pk_us]
      · rw [pk_un e, pk_un e]
    refine br_f (by decide) (br_f (by decide) ⟨pk_in id 128 hi, ?_⟩)
    refine ld_note hs ⟨pk_in id 128 hi, nm_r (e' := v1) (by rw [hc]; exact ev) ?_⟩
    rw [hc]
    exact hp _ _ _ _ _ _ _ _ _ _ _ hR (Or.inr (Or.inr ⟨id, v1 id, rfl, rfl, rfl, hi, rfl, ev.symm⟩))
/-- undo: the steps back -/
theorem ld_undo103 {post : Int32 → St1 → Prop} {pl op ch ns li : Int32} {a7 a8 a12 a13 a14 a15 vs v0 : Nat → Int32} {m : Nat} {Ts T0 : List Nat} (hm : m ≤ 120)
    (hp : ∀ fr ab ac a2 a3 a4 a5 a6 a7' a8' a9 a10 a11, ld_R fr a2 a4 a5 a6 T0 → ld_lg a9 a10 a11 m Ts vs T0 v0 → (∀ k, k < 4 → a7' k = a8 k) → (∀ k, k < 4 → a8' k = a7 k) → post 1 (nI T0.length, 0, fr, ab, ac, op, pl, ch, nI m, ns, li, v0, a2, a3, a4, a5, a6, a7', a8', a9, a10, a11, a12, a13, a14, a15)) :
    ∀ (k n s : Nat) (T : List Nat) (fr ab ac : Int32) (a1 a2 a3 a4 a5 a6 a9 a10 a11 : Nat → Int32), s + k = m → k < n → ld_R fr a2 a4 a5 a6 T → ld_lg a12 a13 a14 k T0 v0 T a1 → ld_lg a9 a10 a11 s Ts vs T a1 → wX_undo_103 post n (nI k - 1) (nI T.length) 0 fr ab ac pl op ch (nI s) ns li a1 a2 a3 a4 a5 a6 a7 a8 a9 a10 a11 a12 a13 a14 a15 := by
  intro k
  induction k with
  | zero =>
    intro n s T fr ab ac a1 a2 a3 a4 a5 a6 a9 a10 a11 hsk hn hR hl1 hl2
    obtain ⟨n, rfl⟩ : ∃ m, n = m + 1 := ⟨n - 1, by omega⟩
    obtain ⟨e1, e2⟩ : T = T0 ∧ a1 = v0 := hl1
    have e3 : s = m := by omega
    subst e1 e2 e3
    exact br_t (by decide) (ld_exch (fun a7' a8' h7 h8 => hp _ _ _ _ _ _ _ _ _ _ _ _ _ hR hl2 h7 h8))
  | succ k ih =>
    intro n s T fr ab ac a1 a2 a3 a4 a5 a6 a9 a10 a11 hsk hn hR hl1 hl2
    obtain ⟨n, rfl⟩ : ∃ m, n = m + 1 := ⟨n - 1, by omega⟩
    obtain ⟨T1, v1, hl3, hst⟩ : ∃ (T1 : List Nat) (v1 : Nat → Int32), ld_lg a12 a13 a14 k T0 v0 T1 v1 ∧ ld_st (a12 k) (a13 k) (a14 k) T1 v1 T a1 := hl1
    have hc : (nI k).toNatClampNeg = k := nI_clamp (by omega)
    have hm1 : nI k + (-1) = nI k - 1 := by rw [Int32.sub_eq_add_neg]
    rw [nI_pred]
    refine br_f (nI_pos (by omega)) ⟨pk_in k 140 (by omega), pk_in k 140 (by omega), pk_in k 140 (by omega), ?_⟩
    rw [hc]
    exact ld_back hR (by omega) hst (fun fr ab ac a2 a3 a4 a5 a6 S p l hR' hst' => nm_r hm1 (ih n (s + 1) T1 fr ab ac v1 a2 a3 a4 a5 a6 _ _ _ (by omega) (by omega) hR' hl3 (ld_lg_add hl2 hst')))
/-- undo -/
theorem ld_undo1 {post : Int32 → St1 → Prop} {fr ab ac pl op ch ns li : Int32} {a1 a2 a3 a4 a5 a6 a7 a8 a9 a10 a11 a12 a13 a14 a15 : Nat → Int32} {m : Nat} {T T0 : List Nat} {v0 : Nat → Int32} (hR : ld_R fr a2 a4 a5 a6 T) (hm : m ≤ 120) (hl : ld_lg a9 a10 a11 m T0 v0 T a1) (hch : ¬ ch = 0)
    (hp : ∀ fr ab ac ns a2 a3 a4 a5 a6 a7' a8' a9 a10 a11 a12 a13 a14, ld_R fr a2 a4 a5 a6 T0 → ld_lg a9 a10 a11 m T a1 T0 v0 → (∀ k, k < 4 → a7' k = a8 k) → (∀ k, k < 4 → a8' k = a7 k) → post 1 (nI T0.length, 0, fr, ab, ac, op, pl, ch, nI m, ns, li, v0, a2, a3, a4, a5, a6, a7', a8', a9, a10, a11, a12, a13, a14, a15)) : wpX_undo post (nI T.length, 0, fr, ab, ac, pl, op, ch, nI m, ns, li, a1, a2, a3, a4, a5, a6, a7, a8, a9, a10, a11, a12, a13, a14, a15) := by
  refine br_f hch ?_
  refine pk_loop (σ := (Nat → Int32) × (Nat → Int32) × (Nat → Int32)) (fun n i s => wX_undo_19 post (nI T.length) 0 fr ab ac pl op ch (nI m) (nI m) li n (nI i) a1 a2 a3 a4 a5 a6 a7 a8 a9 a10 a11 s.1 s.2.1 s.2.2 a15) (fun i s => ∀ k, k < i → s.1 k = a9 k ∧ s.2.1 k = a10 k ∧ s.2.2 k = a11 k) m 0 (a12, a13, a14) (by omega) (fun k hk => absurd hk (by omega)) (fun n s hs => ?_) (fun n i s hi hs hw => ?_)
  · obtain ⟨s1, s2, s3⟩ := s
    dsimp only at hs
    refine pk_le m m (fun _ => ?_) (fun z => absurd z (by omega))
    refine pk_loop (σ := Nat → Int32) (fun n i t => wX_undo_76 post (nI T.length) 0 fr ab ac pl op ch 0 (nI m) li n (nI i) a1 a2 t a4 a5 a6 a7 a8 a9 a10 a11 s1 s2 s3 a15) (fun i t => True) 128 0 a3 (by omega) trivial (fun n t _ => ?_) (fun n i t hi _ hw => ?_)
    · refine pk_le 128 128 (fun _ => nm_e ⟨m + 1, ?_⟩) (fun z => absurd z (by omega))
      exact ld_undo103 (post := post) (ns := nI m) (a7 := a7) (a8 := a8) (a12 := s1) (a13 := s2) (a14 := s3) (vs := a1) (v0 := v0) (Ts := T) (T0 := T0) hm (fun fr ab ac a2 a3 a4 a5 a6 a7' a8' a9 a10 a11 hR' hl' h7 h8 => hp _ _ _ _ _ _ _ _ _ _ _ _ _ _ _ _ _ hR' hl' h7 h8) m (m + 1) 0 T fr ab ac a1 a2 t a4 a5 a6 a9 a10 a11 (by omega) (by omega) hR (ld_lg_fr m T a1 hs hl) ⟨rfl, rfl⟩
    · exact pk_le 128 i (fun z => absurd z (by omega)) (fun _ => ⟨pk_in i 128 hi, nm_e (nm_r (nI_1 i) (hw _ trivial))⟩)
  · obtain ⟨s1, s2, s3⟩ := s
    dsimp only at hs
    have hc : (nI i).toNatClampNeg = i := nI_clamp (by omega)
    refine pk_le m i (fun z => absurd z (by omega)) (fun _ => ⟨pk_in i 140 (by omega), pk_in i 140 (by omega), nm_r (e' := upd s1 i (a9 i)) (by rw [hc]) ⟨pk_in i 140 (by omega), pk_in i 140 (by omega), nm_r (e' := upd s2 i (a10 i)) (by rw [hc]) ⟨pk_in i 140 (by omega), pk_in i 140 (by omega), nm_r (e' := upd s3 i (a11 i)) (by rw [hc]) (nm_r (nI_1 i) (hw (upd s1 i (a9 i), upd s2 i (a10 i), upd s3 i (a11 i)) (fun k hk => ?_)))⟩⟩⟩)
    dsimp only
    by_cases e : k = i
    · rw [e, pk_us, pk_us, pk_us]
      exact ⟨rfl, rfl, rfl⟩
    · rw [pk_un e, pk_un e, pk_un e]
      exact hs k (by omega)
end
section
/-! what a call sees -/
def ld_ok (T : List Nat) (pl : Int32) (a7 : Nat → Int32) : Prop := ((pl = -1 ∧ T = []) ∨ ∃ id, id ∈ T ∧ pl = nI id) ∧ ∀ k, k < 4 → a7 k = -1 ∨ ∃ id, id ∈ T ∧ a7 k = nI id
def ld_ln (T : List Nat) (v : Nat → Int32) (n : Nat) : Int32 := match n with
  | 0 => 0
  | k + 1 => match T[k]? with
    | some x => v x
    | none => 0
def ld_no (T : List Nat) (x : Int32) : Int32 := if 0 ≤ x then nI (T.idxOf x.toNatClampNeg + 1) else 0
def ld_hs (f : Nat → Int32) (s : Int32) : Nat → Int32
  | 0 => s
  | n + 1 => ld_hs f s n * 31 + f n
theorem ld_hs_c {f g : Nat → Int32} {s : Int32} : ∀ n, (∀ k, k < n → f k = g k) → ld_hs f s n = ld_hs g s n := by
  intro n
  induction n with
  | zero => intro _; rfl
  | succ n ih =>
    intro h
    show ld_hs f s n * 31 + f n = ld_hs g s n * 31 + g n
    rw [ih (fun k hk => h k (by omega)), h n (by omega)]
def ld_H (T : List Nat) (v : Nat → Int32) (pl : Int32) (a7 : Nat → Int32) : Int32 := ld_hs (fun m => ld_no T (a7 m)) (ld_hs (ld_ln T v) (nI T.length * 64 + ld_no T pl) 62) 4
theorem ld_H_c {T : List Nat} {v : Nat → Int32} {pl : Int32} {a7 b7 : Nat → Int32} (h : ∀ k, k < 4 → b7 k = a7 k) : ld_H T v pl b7 = ld_H T v pl a7 :=
  ld_hs_c 4 (fun k hk => by rw [h k hk])
theorem ld_idx {P Q : List Nat} {id : Nat} (h : (P ++ id :: Q).Nodup) : (P ++ id :: Q).idxOf id = P.length := by
  have hn : id ∉ P := fun z => (List.nodup_append.mp h).2.2 id z id (by simp) rfl
  rw [List.idxOf_append, if_neg hn, List.idxOf_cons_self, Nat.zero_add]
/-- present(), marked(): the number of a line that is there, or 0 -/
theorem ld_no_m (T : List Nat) : ld_no T (-1) = 0 := rfl
theorem ld_no_in {T : List Nat} {P Q : List Nat} {id : Nat} (hT : T = P ++ id :: Q) (h : ld_tx T) : ld_no T (nI id) = nI (P.length + 1) := by
  have hi := h.2.2 id (by rw [hT]; simp)
  unfold ld_no
  rw [if_pos (nI_pos' (by omega)), nI_clamp (by omega), hT, ld_idx (by rw [← hT]; exact h.1)]
theorem ld_numx {post : Int32 → Prop} {c fr ab ac pl op ch st ns li : Int32} {a1 a2 a3 a4 a5 a6 a7 a8 a9 a10 a11 a12 a13 a14 a15 : Nat → Int32} {T : List Nat} {x : Int32} (hR : ld_R fr a2 a4 a5 a6 T) (hx : ∃ id, id ∈ T ∧ x = nI id) (hp : post (ld_no T x)) : wpX_numberOf post (c, 0, fr, ab, ac, pl, op, ch, st, ns, li, a1, a2, a3, a4, a5, a6, a7, a8, a9, a10, a11, a12, a13, a14, a15) x := by
  obtain ⟨id, hi, e⟩ := hx
  obtain ⟨P, Q, eT⟩ := List.append_of_mem hi
  rw [e, ld_no_in eT (ld_R_tx hR)] at hp
  subst e eT
  exact ld_num hR hp
theorem ld_present {post : Int32 → Prop} {c fr ab ac pl op ch st ns li : Int32} {a1 a2 a3 a4 a5 a6 a7 a8 a9 a10 a11 a12 a13 a14 a15 : Nat → Int32} {T : List Nat} (hR : ld_R fr a2 a4 a5 a6 T) (hok : (pl = -1 ∧ T = []) ∨ ∃ id, id ∈ T ∧ pl = nI id) (hp : post (ld_no T pl)) : wpX_present post (c, 0, fr, ab, ac, pl, op, ch, st, ns, li, a1, a2, a3, a4, a5, a6, a7, a8, a9, a10, a11, a12, a13, a14, a15) := by
  rcases hok with ⟨e, _⟩ | ⟨id, hi, e⟩
  · subst e
    exact br_f (by decide) hp
  · have h1 := (ld_R_tx hR).2.2 id hi
    refine br_t (by rw [e]; exact nI_pos' (by omega)) (ld_numx hR ⟨id, hi, e⟩ hp)
theorem ld_marked {post : Int32 → Prop} {c fr ab ac pl op ch st ns li : Int32} {a1 a2 a3 a4 a5 a6 a7 a8 a9 a10 a11 a12 a13 a14 a15 : Nat → Int32} {T : List Nat} {m : Nat} (hm : m < 4) (hR : ld_R fr a2 a4 a5 a6 T) (hok : ∀ k, k < 4 → a7 k = -1 ∨ ∃ id, id ∈ T ∧ a7 k = nI id) (hp : post (ld_no T (a7 m))) : wpX_marked post (c, 0, fr, ab, ac, pl, op, ch, st, ns, li, a1, a2, a3, a4, a5, a6, a7, a8, a9, a10, a11, a12, a13, a14, a15) (nI m) := by
  have e3 : nI m &&& 3 = nI m := by
    rw [pk_andN (by omega) 2 (by decide), Nat.mod_eq_of_lt (by omega)]
  refine ⟨pk_in m 4 hm e3, nm_r (e' := a7 m) (by rw [e3, nI_clamp (by omega)]) ?_⟩
  rcases hok m hm with e | ⟨id, hi, e⟩
  · rw [e] at hp ⊢
    exact br_f (by decide) hp
  · have h1 := (ld_R_tx hR).2.2 id hi
    exact br_t (by rw [e]; exact nI_pos' (by omega)) (ld_numx hR ⟨id, hi, e⟩ hp)
theorem ld_split_at {T : List Nat} {k : Nat} (h : k < T.length) : ∃ P id Q, T = P ++ id :: Q ∧ P.length = k ∧ T[k]? = some id := by
  refine ⟨T.take k, T[k], T.drop (k + 1), ?_, by rw [List.length_take]; omega, List.getElem?_eq_getElem h⟩
  rw [List.getElem_cons_drop, List.take_append_drop]
/-- line(n) -/
theorem ld_line {post : Int32 → St1 → Prop} {fr ab ac pl op ch st ns li : Int32} {a1 a2 a3 a4 a5 a6 a7 a8 a9 a10 a11 a12 a13 a14 a15 : Nat → Int32} {T : List Nat} {n : Nat} (hR : ld_R fr a2 a4 a5 a6 T) (hn : n ≤ 1000) (hp : ∀ ab ac, post (ld_ln T a1 n) (nI T.length, 0, fr, ab, ac, pl, op, ch, st, ns, li, a1, a2, a3, a4, a5, a6, a7, a8, a9, a10, a11, a12, a13, a14, a15)) : wpX_line post (nI T.length, 0, fr, ab, ac, pl, op, ch, st, ns, li, a1, a2, a3, a4, a5, a6, a7, a8, a9, a10, a11, a12, a13, a14, a15) (nI n) := by
  have h60 := (ld_R_tx hR).2.1
  cases n with
  | zero => exact br_t (by decide) (hp _ _)
  | succ n =>
    refine pk_lt (n + 1) 1 (fun z => absurd z (by omega)) (fun _ => pk_le (n + 1) T.length (fun z => ?_) (fun z => ?_))
    · obtain ⟨P, id, Q, eT, eP, ek⟩ := ld_split_at (T := T) (k := n) (by omega)
      have e : ld_ln T a1 (n + 1) = a1 id := by
        show (match T[n]? with | some x => a1 x | none => 0) = a1 id
        rw [ek]
      rw [e] at hp
      have hi := (ld_R_tx hR).2.2 id (by rw [eT]; simp)
      subst eT eP
      refine ld_lineAt hR (fun ab ac => ⟨pk_in id 128 hi, ?_⟩)
      rw [nI_clamp (by omega)]
      exact hp _ _
    · have e : ld_ln T a1 (n + 1) = 0 := by
        show (match T[n]? with | some x => a1 x | none => 0) = 0
        rw [List.getElem?_eq_none (by omega)]
      rw [e] at hp
      exact hp _ _
/-- the law's state(d) -/
theorem ld_state {post : Int32 → St1 → Prop} {fr ab ac pl op ch st ns li : Int32} {a1 a2 a3 a4 a5 a6 a7 a8 a9 a10 a11 a12 a13 a14 a15 : Nat → Int32} {T : List Nat} (hR : ld_R fr a2 a4 a5 a6 T) (hok : ld_ok T pl a7) (hp : ∀ ab ac, post (ld_H T a1 pl a7) (nI T.length, 0, fr, ab, ac, pl, op, ch, st, ns, li, a1, a2, a3, a4, a5, a6, a7, a8, a9, a10, a11, a12, a13, a14, a15)) : wpL_state post (nI T.length, 0, fr, ab, ac, pl, op, ch, st, ns, li, a1, a2, a3, a4, a5, a6, a7, a8, a9, a10, a11, a12, a13, a14, a15) := by
  unfold wpL_state
  refine ld_present hR hok.1 (nm_e ?_)
  refine pk_loop (σ := Int32 × Int32) (fun n i s => wL_state_15 post n (ld_hs (ld_ln T a1) (nI T.length * 64 + ld_no T pl) i) (nI i) (nI T.length) 0 fr s.1 s.2 pl op ch st ns li a1 a2 a3 a4 a5 a6 a7 a8 a9 a10 a11 a12 a13 a14 a15) (fun _ _ => True) 62 0 (ab, ac) (by omega) trivial (fun n s _ => ?_) (fun n i s hi _ hw => ?_)
  · obtain ⟨ab, ac⟩ := s
    refine pk_lt 61 62 (fun _ => ?_) (fun z => absurd z (by omega))
    refine pk_loop (σ := Unit) (fun n i _ => wL_state_40 post (nI T.length) 0 fr ab ac pl op ch st ns li a1 a2 a3 a4 a5 a6 a7 a8 a9 a10 a11 a12 a13 a14 a15 n (ld_hs (fun m => ld_no T (a7 m)) (ld_hs (ld_ln T a1) (nI T.length * 64 + ld_no T pl) 62) i) (nI i)) (fun _ _ => True) 4 0 () (by omega) trivial (fun n s _ => ?_) (fun n i s hi _ hw => ?_)
    · exact pk_le 4 4 (fun _ => hp _ _) (fun z => absurd z (by omega))
    · exact pk_le 4 i (fun z => absurd z (by omega)) (fun _ => ld_marked hi hR hok.2 (nm_e (nm_r (nI_1 i) (hw () trivial))))
  · obtain ⟨ab, ac⟩ := s
    exact pk_lt 61 i (fun z => absurd z (by omega)) (fun _ => ld_line hR (by omega) (fun ab ac => nm_e (nm_r (nI_1 i) (hw (ab, ac) trivial))))
/-- find -/
theorem ld_find {post : Int32 → St1 → Prop} {fr ab ac pl op ch st ns li : Int32} {a1 a2 a3 a4 a5 a6 a7 a8 a9 a10 a11 a12 a13 a14 a15 : Nat → Int32} {T : List Nat} {v : Int32} (hR : ld_R fr a2 a4 a5 a6 T) (hok : (pl = -1 ∧ T = []) ∨ ∃ id, id ∈ T ∧ pl = nI id) (hp : ∀ f li a15, f ≤ T.length → (0 < f → ld_ln T a1 f = v) → post (nI f) (nI T.length, 0, fr, ab, ac, pl, op, ch, st, ns, li, a1, a2, a3, a4, a5, a6, a7, a8, a9, a10, a11, a12, a13, a14, a15)) : wpX_find post (nI T.length, 0, fr, ab, ac, pl, op, ch, st, ns, li, a1, a2, a3, a4, a5, a6, a7, a8, a9, a10, a11, a12, a13, a14, a15) v := by
  have htx := ld_R_tx hR
  have h60 := htx.2.1
  refine pk_eq T.length 0 (fun z => hp 0 li a15 (by omega) (fun w => absurd w (by omega))) (fun z => ?_)
  rcases hok with ⟨_, e⟩ | ⟨id, hi, e⟩
  · exact absurd (by rw [e]; rfl) z
  · obtain ⟨P, Q, eT⟩ := List.append_of_mem hi
    have hPl : P.length + 1 ≤ T.length := by
      rw [eT, List.length_append, List.length_cons]
      omega
    refine ld_numx hR ⟨id, hi, e⟩ ?_
    rw [e, ld_no_in eT htx]
    refine ld_listRange (p := 0) hR (by omega) (Nat.le_refl _) (fun a15 h15 => ?_)
    have hz : ∀ n k at', at' < T.length → (ld_ln T a1 (at' + 1) ≠ v → wX_find_29 post v (nI (P.length + 1)) (nI T.length) 0 fr ab ac (nI id) op ch st ns (nI (T.length - 0)) a1 a2 a3 a4 a5 a6 a7 a8 a9 a10 a11 a12 a13 a14 a15 n (nI (k + 1))) → wX_find_61 post (wX_find_29 post v (nI (P.length + 1)) (nI T.length) 0 fr ab ac (nI id) op ch st ns (nI (T.length - 0)) a1 a2 a3 a4 a5 a6 a7 a8 a9 a10 a11 a12 a13 a14 a15 n) v (nI (P.length + 1)) (nI k) (nI at') (nI T.length) 0 fr ab ac (nI id) op ch st ns (nI (T.length - 0)) a1 a2 a3 a4 a5 a6 a7 a8 a9 a10 a11 a12 a13 a14 a15 := by
      intro n k at' hat hnx
      have hca : (nI at').toNatClampNeg = at' := nI_clamp (by omega)
      obtain ⟨y, hy⟩ := ld_getl hat
      have hy1 := htx.2.2 y (ld_mem hy)
      have ey : a15 (nI at').toNatClampNeg = nI y := by
        rw [hca]
        exact h15 at' y (by omega) (by rw [Nat.zero_add]; exact hy)
      have el : ld_ln T a1 (at' + 1) = a1 y := by
        show (match T[at']? with | some x => a1 x | none => 0) = a1 y
        rw [hy]
      rw [el] at hnx
      refine ⟨pk_in at' 60 (by omega), pk_in y 128 hy1 ey, br_c (fun w => ?_) (fun w => nm_r (nI_1 k) (hnx ?_))⟩
      · rw [ey, nI_clamp (by omega)] at w
        rw [nI_1, ← e]
        exact hp (at' + 1) _ _ (by omega) (fun _ => by rw [el]; exact w)
      · rw [ey, nI_clamp (by omega)] at w
        exact w
    refine pk_loop (σ := Unit) (fun n i _ => wX_find_29 post v (nI (P.length + 1)) (nI T.length) 0 fr ab ac (nI id) op ch st ns (nI (T.length - 0)) a1 a2 a3 a4 a5 a6 a7 a8 a9 a10 a11 a12 a13 a14 a15 n (nI i)) (fun _ _ => True) T.length 0 () (by omega) trivial (fun n s _ => ?_) (fun n i s hi _ hw => ?_)
    · refine pk_le T.length T.length (fun _ => ?_) (fun z => absurd z (by omega))
      rw [← e]
      exact hp 0 _ _ (by omega) (fun w => absurd w (by omega))
    · refine pk_le T.length i (fun z => absurd z (by omega)) (fun _ => pk_le T.length (P.length + 1 + i) (fun w => ?_) (fun w => ?_) rfl (nI_add _ _))
      · rw [nI_add, pk_sub w]
        exact hz n i _ (by omega) (fun _ => hw () trivial)
      · rw [nI_add]
        exact hz n i _ w (fun _ => hw () trivial)
end
section
/-! the invariant, and what a change leaves -/
def ld_iv (T : List Nat) (fr pl op ch st : Int32) (a1 a2 a4 a5 a6 a7 a8 a9 a10 a11 : Nat → Int32) : Prop := ld_R fr a2 a4 a5 a6 T ∧ ld_ok T pl a7 ∧ (ch = 0 ∨ ∃ (m : Nat) (T0 : List Nat) (v0 : Nat → Int32), ¬ ch = 0 ∧ m ≤ 120 ∧ st = nI m ∧ ld_lg a9 a10 a11 m T0 v0 T a1 ∧ ld_ok T0 op a8)
def ld_K (post : St1 → Prop) (φ : List Nat → (Nat → Int32) → Int32 → Prop) : Prop := ∀ (T : List Nat) (fr ab ac pl op ch st ns li : Int32) (a1 a2 a3 a4 a5 a6 a7 a8 a9 a10 a11 a12 a13 a14 a15 : Nat → Int32), ld_iv T fr pl op ch st a1 a2 a4 a5 a6 a7 a8 a9 a10 a11 → φ T a1 pl → post (nI T.length, 0, fr, ab, ac, pl, op, ch, st, ns, li, a1, a2, a3, a4, a5, a6, a7, a8, a9, a10, a11, a12, a13, a14, a15)
theorem ld_K_u {post : St1 → Prop} {φ : List Nat → (Nat → Int32) → Int32 → Prop} {fr ab ac pl op ch st ns li : Int32} {a1 a2 a3 a4 a5 a6 a7 a8 a9 a10 a11 a12 a13 a14 a15 : Nat → Int32} {T : List Nat} (h : ld_K post φ) (hi : ld_iv T fr pl op ch st a1 a2 a4 a5 a6 a7 a8 a9 a10 a11) (hφ : φ T a1 pl) : post (nI T.length, 0, fr, ab, ac, pl, op, ch, st, ns, li, a1, a2, a3, a4, a5, a6, a7, a8, a9, a10, a11, a12, a13, a14, a15) := h _ _ _ _ _ _ _ _ _ _ _ _ _ _ _ _ _ _ _ _ _ _ _ _ _ hi hφ
theorem ld_fin {post : St1 → Prop} {φ : List Nat → (Nat → Int32) → Int32 → Prop} {fr ab ac pl op ns li : Int32} {a1 a2 a3 a4 a5 a6 a7 a8 a9 a10 a11 a12 a13 a14 a15 : Nat → Int32} {m : Nat} {T T0 : List Nat} (hp : ld_K post φ) (hR : ld_R fr a2 a4 a5 a6 T) (hok : ld_ok T pl a7) (hm : m ≤ 120) (hl : ld_lT a9 a10 a11 m T0 T) (ho : ld_ok T0 op a8) (hφ : φ T a1 pl) : post (nI T.length, 0, fr, ab, ac, pl, op, 1, nI m, ns, li, a1, a2, a3, a4, a5, a6, a7, a8, a9, a10, a11, a12, a13, a14, a15) :=
  ld_K_u hp ⟨hR, hok, Or.inr ⟨m, T0, a1, by decide, hm, rfl, hl a1, ho⟩⟩ hφ
theorem ld_ok_c {T : List Nat} {pl : Int32} {a7 b7 : Nat → Int32} (h : ld_ok T pl a7) (hc : ∀ k, k < 4 → b7 k = a7 k) : ld_ok T pl b7 := ⟨h.1, fun k hk => by rw [hc k hk]; exact h.2 k hk⟩
def ld_mk (T : List Nat) (a7 : Nat → Int32) : Prop := ∀ k, k < 4 → a7 k = -1 ∨ ∃ id, id ∈ T ∧ a7 k = nI id
theorem ld_mk_m {T T' : List Nat} {a7 : Nat → Int32} (h : ld_mk T a7) (hs : ∀ x, x ∈ T → x ∈ T') : ld_mk T' a7 := by
  intro k hk
  rcases h k hk with e | ⟨id, hi, e⟩
  · exact Or.inl e
  · exact Or.inr ⟨id, hs id hi, e⟩
theorem ld_mk_clear {P Q : List Nat} {id : Nat} {a7 b7 : Nat → Int32} (h : ld_mk (P ++ id :: Q) a7) (hc : ∀ k, k < 4 → (a7 k = nI id → b7 k = -1) ∧ (a7 k ≠ nI id → b7 k = a7 k)) : ld_mk (P ++ Q) b7 := by
  intro k hk
  by_cases e : a7 k = nI id
  · exact Or.inl ((hc k hk).1 e)
  · rw [(hc k hk).2 e]
    rcases h k hk with e2 | ⟨y, hy, e2⟩
    · exact Or.inl e2
    · refine Or.inr ⟨y, ?_, e2⟩
      rcases List.mem_append.mp hy with z | z
      · exact List.mem_append.mpr (Or.inl z)
      · rcases List.mem_cons.mp z with w | w
        · exact absurd (by rw [e2, w]) e
        · exact List.mem_append.mpr (Or.inr w)
theorem ld_tx_ins {P Q : List Nat} {id : Nat} (h : ld_tx (P ++ Q)) (h1 : id < 128) (h2 : id ∉ P ++ Q) (h3 : (P ++ Q).length < 60) : ld_tx (P ++ id :: Q) := by
  refine ⟨List.perm_middle.nodup_iff.mpr (List.nodup_cons.mpr ⟨h2, h.1⟩), ?_, fun x hx => ?_⟩
  · rw [List.length_append] at h3
    rw [List.length_append, List.length_cons]
    omega
  · rcases List.mem_cons.mp (List.perm_middle.mem_iff.mp hx) with e | e
    · rw [e]
      exact h1
    · exact h.2.2 x e
theorem ld_ins_mem {P Q : List Nat} {id y : Nat} : y ∈ P ++ id :: Q ↔ y = id ∨ y ∈ P ++ Q := by
  rw [List.perm_middle.mem_iff, List.mem_cons]
theorem ld_ins_len {P Q : List Nat} {id : Nat} : (P ++ id :: Q).length = (P ++ Q).length + 1 := by
  simp only [List.length_append, List.length_cons]
  omega
/-- a line is taken out and put in elsewhere -/
theorem ld_mv {P Q P' Q' : List Nat} {id : Nat} (h : ld_tx (P ++ id :: Q)) (e : P ++ Q = P' ++ Q') : ld_tx (P' ++ id :: Q') := by
  have hn : (P ++ id :: Q).Perm (P' ++ id :: Q') := by
    refine List.perm_middle.trans ?_
    rw [e]
    exact List.perm_middle.symm
  exact ⟨hn.nodup_iff.mp h.1, by rw [← hn.length_eq]; exact h.2.1, fun x hx => h.2.2 x (hn.mem_iff.mpr hx)⟩
theorem ld_cut (T : List Nat) {k : Nat} (h : k ≤ T.length) : ∃ P Q, T = P ++ Q ∧ P.length = k := ⟨T.take k, T.drop k, by rw [List.take_append_drop], by rw [List.length_take]; omega⟩
theorem ld_ln_at {P Q : List Nat} {id : Nat} {v : Nat → Int32} : ld_ln (P ++ id :: Q) v (P.length + 1) = v id := by
  show (match (P ++ id :: Q)[P.length]? with | some x => v x | none => 0) = v id
  rw [show (P ++ id :: Q)[P.length]? = some id from by rw [show P.length = P.length + 0 by omega, ld_ap_r]; rfl]
/-- put -/
theorem ld_put {post : Int32 → St1 → Prop} {fr ab ac pl op ch st ns li : Int32} {a1 a2 a3 a4 a5 a6 a7 a8 a9 a10 a11 a12 a13 a14 a15 : Nat → Int32} {T : List Nat} {a : Nat} {v : Int32} (hR : ld_R fr a2 a4 a5 a6 T) (hok : ld_ok T pl a7) (ha : a ≤ T.length) (hf : T.length = 60 → post (-1) (nI T.length, 0, fr, ab, ac, pl, op, ch, st, ns, li, a1, a2, a3, a4, a5, a6, a7, a8, a9, a10, a11, a12, a13, a14, a15))
    (hp : T.length < 60 → ld_K (post (nI (a + 1))) (fun T' v' pl' => T'.length = T.length + 1 ∧ ld_ln T' v' (a + 1) = v ∧ ld_no T' pl' = nI (a + 1))) : wpX_put post (nI T.length, 0, fr, ab, ac, pl, op, ch, st, ns, li, a1, a2, a3, a4, a5, a6, a7, a8, a9, a10, a11, a12, a13, a14, a15) (nI a) v := by
  have htx := ld_R_tx hR
  have h60 := htx.2.1
  refine br_f (nI_pos (by omega)) (pk_lt T.length a (fun z => absurd z (by omega)) (fun _ => pk_lt T.length 60 (fun z => ?_) (fun z => hf (by omega))))
  have hp := hp z
  obtain ⟨P, Q, eT, eP⟩ := ld_cut T ha
  subst eP
  refine ld_begin (fun a3 a8 h3 h8 => ld_fresh hR h3 (fun id hi hn => ?_))
  rw [nI_1]
  subst eT
  have ht := ld_tx_ins htx hi hn z
  refine ld_putIn hR (by omega) ht (fun fr ab ac a2 a4 a5 a6 hR' => ?_)
  refine ld_fin hp hR' ⟨Or.inr ⟨id, by simp, rfl⟩, ld_mk_m hok.2 (fun x hx => ld_ins_mem.mpr (Or.inr hx))⟩ (by omega) (ld_lT_put ld_lT_0 ht) (ld_ok_c hok h8) ⟨ld_ins_len, ?_, ld_no_in rfl ht⟩
  rw [ld_ln_at, pk_us]
/-- remove's loop -/
theorem ld_rem17 {post : Int32 → St1 → Prop} {P Q T0 : List Nat} {hi : Nat} {op : Int32} {a8 : Nat → Int32} (h0 : P.length + 1 ≤ hi) (hh : hi ≤ 60) (ho : ld_ok T0 op a8) (hp : ld_K (post (nI (hi - P.length))) (fun T' _ _ => T'.length = (P ++ Q).length)) :
    ∀ (M : List Nat) (n i m : Nat) (fr ab ac pl ns li : Int32) (a1 a2 a3 a4 a5 a6 a7 a9 a10 a11 a12 a13 a14 a15 : Nat → Int32), i + M.length = hi + 1 → M.length < n → m + M.length ≤ 60 → ld_R fr a2 a4 a5 a6 (P ++ (M ++ Q)) → ld_lT a9 a10 a11 m T0 (P ++ (M ++ Q)) → ld_mk (P ++ (M ++ Q)) a7 → wX_remove_17 post (nI (P.length + 1)) (nI hi) n (nI i) (nI (P ++ (M ++ Q)).length) 0 fr ab ac pl op 1 (nI m) ns li a1 a2 a3 a4 a5 a6 a7 a8 a9 a10 a11 a12 a13 a14 a15 := by
  intro M
  induction M with
  | nil =>
    intro n i m fr ab ac pl ns li a1 a2 a3 a4 a5 a6 a7 a9 a10 a11 a12 a13 a14 a15 hi1 hn hm hR hl hmk
    rw [List.nil_append] at hR hl hmk ⊢
    simp only [List.length_nil] at hi1 hn hm
    obtain ⟨n, rfl⟩ : ∃ m, n = m + 1 := ⟨n - 1, by omega⟩
    have h60 := (ld_R_tx hR).2.1
    have hle : (P ++ Q).length = P.length + Q.length := List.length_append
    have er : (nI hi - nI (P.length + 1)) + 1 = nI (hi - P.length) := by
      rw [pk_sub h0, nI_1]
      congr 1
      omega
    rw [← er] at hp
    refine pk_lt hi i (fun _ => pk_lt (P ++ Q).length (P.length + 1) (fun z => ?_) (fun z => ?_)) (fun z => absurd z (by omega))
    · have eQ : Q = [] := List.length_eq_zero_iff.mp (by omega)
      subst eQ
      rw [List.append_nil] at *
      refine pk_eq P.length 0 (fun w => ?_) (fun w => ?_)
      · have eP : P = [] := List.length_eq_zero_iff.mp w
        subst eP
        exact ld_fin hp hR ⟨Or.inl ⟨rfl, rfl⟩, hmk⟩ (by omega) hl ho rfl
      · obtain ⟨P1, id, Q1, e1, e2, e3⟩ := ld_split_at (T := P) (k := P.length - 1) (by omega)
        have e4 : nI P.length = nI (P1.length + 1) := by
          congr 1
          omega
        have hR1 := hR
        rw [e1] at hR1
        rw [e4]
        refine ld_lineAt hR1 (fun ab ac => ?_)
        rw [← e4]
        exact ld_fin hp hR ⟨Or.inr ⟨id, by rw [e1]; simp, rfl⟩, hmk⟩ (by omega) hl ho rfl
    · cases Q with
      | nil => simp only [List.length_nil] at hle; omega
      | cons id Q =>
        refine br_f (nI_ne0 (by omega) (by omega)) ?_
        exact ld_lineAt hR (fun ab ac => ld_fin hp hR ⟨Or.inr ⟨id, by simp, rfl⟩, hmk⟩ (by omega) hl ho rfl)
  | cons id M ih =>
    intro n i m fr ab ac pl ns li a1 a2 a3 a4 a5 a6 a7 a9 a10 a11 a12 a13 a14 a15 hi1 hn hm hR hl hmk
    simp only [List.length_cons] at hi1 hn hm
    obtain ⟨n, rfl⟩ : ∃ m, n = m + 1 := ⟨n - 1, by omega⟩
    refine pk_lt hi i (fun z => absurd z (by omega)) (fun _ => ?_)
    refine ld_takeOut hR (by omega) (fun fr ab ac a2 a4 a5 a6 hR' => ?_)
    refine ld_clear (fun a7' h7 => nm_r (nI_1 i) ?_)
    exact ih n (i + 1) (m + 1) _ _ _ _ _ _ _ _ _ _ _ _ _ _ _ _ _ _ _ _ (by omega) (by omega) (by omega) hR' (ld_lT_take hl (ld_R_tx hR)) (ld_mk_clear hmk h7)
/-- remove -/
theorem ld_remove {post : Int32 → St1 → Prop} {fr ab ac pl op ch st ns li : Int32} {a1 a2 a3 a4 a5 a6 a7 a8 a9 a10 a11 a12 a13 a14 a15 : Nat → Int32} {T : List Nat} {lo hi : Nat} (hR : ld_R fr a2 a4 a5 a6 T) (hok : ld_ok T pl a7) (hlh : lo ≤ hi) (hh : hi ≤ T.length) (hf : lo = 0 → post (-1) (nI T.length, 0, fr, ab, ac, pl, op, ch, st, ns, li, a1, a2, a3, a4, a5, a6, a7, a8, a9, a10, a11, a12, a13, a14, a15))
    (hp : 1 ≤ lo → ld_K (post (nI (hi - lo + 1))) (fun T' _ _ => T'.length = T.length - (hi - lo + 1))) : wpX_remove post (nI T.length, 0, fr, ab, ac, pl, op, ch, st, ns, li, a1, a2, a3, a4, a5, a6, a7, a8, a9, a10, a11, a12, a13, a14, a15) (nI lo) (nI hi) := by
  have htx := ld_R_tx hR
  have h60 := htx.2.1
  unfold wpX_remove
  refine ld_isRange (by omega) (by omega) (by omega) (fun z => br_f (by decide) ?_) (fun z => br_t rfl (hf (by omega)))
  have hp := hp z.1
  obtain ⟨P, R, eT, eP⟩ := ld_cut T (k := lo - 1) (by omega)
  obtain ⟨M, Q, eR, eM⟩ := ld_cut R (k := hi - lo + 1) (by rw [eT, List.length_append] at hh; omega)
  subst eR eT
  have elo : lo = P.length + 1 := by omega
  subst elo
  have hlen : (P ++ (M ++ Q)).length = P.length + (M.length + Q.length) := by simp only [List.length_append]
  have hlen2 : (P ++ Q).length = P.length + Q.length := List.length_append
  rw [hlen] at h60
  refine ld_begin (fun a3 a8 h3 h8 => ⟨M.length + 1, ?_⟩)
  refine ld_rem17 (P := P) (Q := Q) (T0 := P ++ (M ++ Q)) (by omega) (by omega) (ld_ok_c hok h8) ?_ M (M.length + 1) (P.length + 1) 0 _ _ _ _ _ _ _ _ _ _ _ _ _ _ _ _ _ _ _ _ (by omega) (by omega) (by omega) hR ld_lT_0 hok.2
  have e1 : hi - P.length = hi - (P.length + 1) + 1 := by omega
  have e2 : (P ++ (M ++ Q)).length - (hi - (P.length + 1) + 1) = (P ++ Q).length := by omega
  rw [e1]
  rw [e2] at hp
  exact hp
end
section
/-- move's loop -/
theorem ld_mv43 {post : Int32 → St1 → Prop} {lo hi d L : Nat} {T0 : List Nat} {op : Int32} {a8 : Nat → Int32} (h1 : 1 ≤ lo) (h2 : lo ≤ hi) (h3 : hi ≤ L) (hL : L ≤ 60) (hd : d ≤ L) (hd2 : d < lo ∨ hi ≤ d) (ho : ld_ok T0 op a8)
    (hp : ∀ r, 1 ≤ r → r ≤ 60 → ld_K (post (nI r)) (fun T' _ pl' => T'.length = L ∧ ld_no T' pl' = nI r)) :
    ∀ (k n i m : Nat) (T : List Nat) (x4 : Int32) (fr ab ac pl ns li : Int32) (a1 a2 a3 a4 a5 a6 a7 a9 a10 a11 a12 a13 a14 a15 : Nat → Int32), i + k = hi + 1 → lo ≤ i → k < n → m + 2 * k ≤ 120 → T.length = L → ld_R fr a2 a4 a5 a6 T → ld_lT a9 a10 a11 m T0 T → ld_mk T a7 → (i ≠ lo → ∃ r id, 1 ≤ r ∧ r ≤ 60 ∧ x4 = nI r ∧ id ∈ T ∧ pl = nI id ∧ ld_no T pl = nI r) →
      wX_move_43 post (nI lo) (nI hi) (nI d) n x4 (nI i) (nI T.length) 0 fr ab ac pl op 1 (nI m) ns li a1 a2 a3 a4 a5 a6 a7 a8 a9 a10 a11 a12 a13 a14 a15 := by
  intro k
  induction k with
  | zero =>
    intro n i m T x4 fr ab ac pl ns li a1 a2 a3 a4 a5 a6 a7 a9 a10 a11 a12 a13 a14 a15 hi1 hli hn hm hT hR hl hmk hx
    obtain ⟨n, rfl⟩ : ∃ m, n = m + 1 := ⟨n - 1, by omega⟩
    obtain ⟨r, id, r1, r60, r2, r3, r4, r5⟩ := hx (by omega)
    subst r2
    exact pk_lt hi i (fun _ => ld_fin (hp r r1 r60) hR ⟨Or.inr ⟨id, r3, r4⟩, hmk⟩ (by omega) hl ho ⟨hT, r5⟩) (fun z => absurd z (by omega))
  | succ k ih =>
    intro n i m T x4 fr ab ac pl ns li a1 a2 a3 a4 a5 a6 a7 a9 a10 a11 a12 a13 a14 a15 hi1 hli hn hm hT hR hl hmk hx
    obtain ⟨n, rfl⟩ : ∃ m, n = m + 1 := ⟨n - 1, by omega⟩
    have htx := ld_R_tx hR
    have fin : ∀ (P Q P' Q' : List Nat) (id : Nat) (fr ab ac ns li : Int32) (a1 a2 a3 a4 a5 a6 a7 a9 a10 a11 a12 a13 a14 a15 : Nat → Int32), P'.length < 60 → T = P ++ id :: Q → P ++ Q = P' ++ Q' → ld_mk T a7 → ld_R fr a2 a4 a5 a6 (P' ++ id :: Q') → ld_lT a9 a10 a11 (m + 1) T0 (P ++ Q) → wX_move_43 post (nI lo) (nI hi) (nI d) n (nI (P'.length + 1)) (nI (i + 1)) (nI (P' ++ id :: Q').length) 0 fr ab ac (nI id) op 1 (nI (m + 1 + 1)) ns li a1 a2 a3 a4 a5 a6 a7 a8 (upd a9 (m + 1) 0) (upd a10 (m + 1) (nI (P'.length + 1))) (upd a11 (m + 1) (nI id)) a12 a13 a14 a15 := by
      intro P Q P' Q' id fr ab ac ns li a1 a2 a3 a4 a5 a6 a7 a9 a10 a11 a12 a13 a14 a15 hP' eT epq hmk hR' hl'
      have htx' := ld_R_tx hR'
      rw [epq] at hl'
      refine ih n (i + 1) (m + 1 + 1) (P' ++ id :: Q') _ _ _ _ _ _ _ _ _ _ _ _ _ _ _ _ _ _ _ _ _ (by omega) (by omega) (by omega) (by omega) ?_ hR' (ld_lT_put hl' htx') ?_ (fun _ => ⟨P'.length + 1, id, by omega, by omega, rfl, by simp, rfl, ld_no_in rfl htx'⟩)
      · rw [ld_ins_len, ← epq, ← ld_ins_len (id := id), ← eT]
        exact hT
      · refine ld_mk_m hmk (fun x hx => ?_)
        rw [eT] at hx
        rw [ld_ins_mem, ← epq, ← ld_ins_mem]
        exact hx
    refine pk_lt hi i (fun z => absurd z (by omega)) (fun _ => pk_lt d hi (fun z => ?_) (fun z => ?_))
    · refine br_t rfl ?_
      obtain ⟨P, id, Q, eT, eP, _⟩ := ld_split_at (T := T) (k := i - 1) (by omega)
      have hlT : T.length = (P ++ Q).length + 1 := by rw [eT, ld_ins_len]
      obtain ⟨P', Q', epq, eP'⟩ := ld_cut (P ++ Q) (k := d + i - lo) (by omega)
      have e1 : nI i = nI (P.length + 1) := by
        congr 1
        omega
      have e2 : ((nI d + 1) + nI i) - nI lo = nI (P'.length + 1) := by
        rw [nI_1, nI_add, pk_sub (by omega)]
        congr 1
        omega
      unfold wX_move_73
      rw [e2, e1]
      have hR1 := hR
      rw [eT] at hR1 hl htx ⊢
      refine ld_takeOut hR1 (by omega) (fun fr ab ac a2 a4 a5 a6 hR2 => ?_)
      refine br_t rfl ?_
      have ht' := ld_mv htx epq
      unfold wX_move_95
      have hl2 := ld_lT_take hl htx
      rw [epq] at hR2 ⊢
      refine ld_putIn hR2 (by omega) ht' (fun fr ab ac a2 a4 a5 a6 hR3 => ?_)
      rw [← e1]
      refine nm_r (nI_1 i) (fin P Q P' Q' id _ _ _ _ _ _ _ _ _ _ _ _ _ _ _ _ _ _ _ ?_ eT epq hmk hR3 ?_)
      · omega
      · rw [e1]
        exact hl2
    · refine br_f (by decide) ?_
      obtain ⟨P, id, Q, eT, eP, _⟩ := ld_split_at (T := T) (k := lo - 1) (by omega)
      have hlT : T.length = (P ++ Q).length + 1 := by rw [eT, ld_ins_len]
      obtain ⟨P', Q', epq, eP'⟩ := ld_cut (P ++ Q) (k := d - 1) (by omega)
      have e1 : nI lo = nI (P.length + 1) := by
        congr 1
        omega
      have e2 : nI d = nI (P'.length + 1) := by
        congr 1
        omega
      unfold wX_move_73
      have hR1 := hR
      rw [eT] at hR1 hl htx ⊢
      rw [e1]
      refine ld_takeOut hR1 (by omega) (fun fr ab ac a2 a4 a5 a6 hR2 => ?_)
      refine br_f (by decide) ?_
      have ht' := ld_mv htx epq
      unfold wX_move_95
      have hl2 := ld_lT_take hl htx
      rw [epq] at hR2 ⊢
      rw [← e1, e2]
      refine ld_putIn hR2 (by omega) ht' (fun fr ab ac a2 a4 a5 a6 hR3 => ?_)
      rw [← e2]
      refine nm_r (nI_1 i) ?_
      have := fin P Q P' Q' id fr ab ac ns li a1 a2 (upd a3 id 1) a4 a5 a6 a7 (upd a9 m 1) (upd a10 m (nI (P.length + 1))) (upd a11 m (nI id)) a12 a13 a14 a15 (by omega) eT epq hmk hR3 hl2
      rw [← e1, ← e2] at this
      exact this
/-- move -/
theorem ld_move {post : Int32 → St1 → Prop} {fr ab ac pl op ch st ns li : Int32} {a1 a2 a3 a4 a5 a6 a7 a8 a9 a10 a11 a12 a13 a14 a15 : Nat → Int32} {T : List Nat} {lo hi d : Nat} (hR : ld_R fr a2 a4 a5 a6 T) (hok : ld_ok T pl a7) (hlh : lo ≤ hi) (hh : hi ≤ T.length) (hd : d ≤ T.length) (hf : (lo = 0 ∨ (lo ≤ d ∧ d < hi)) → post (-1) (nI T.length, 0, fr, ab, ac, pl, op, ch, st, ns, li, a1, a2, a3, a4, a5, a6, a7, a8, a9, a10, a11, a12, a13, a14, a15))
    (hp : 1 ≤ lo → (d < lo ∨ hi ≤ d) → ∀ r, 1 ≤ r → r ≤ 60 → ld_K (post (nI r)) (fun T' _ pl' => T'.length = T.length ∧ ld_no T' pl' = nI r)) : wpX_move post (nI T.length, 0, fr, ab, ac, pl, op, ch, st, ns, li, a1, a2, a3, a4, a5, a6, a7, a8, a9, a10, a11, a12, a13, a14, a15) (nI lo) (nI hi) (nI d) := by
  have htx := ld_R_tx hR
  have h60 := htx.2.1
  have go : 1 ≤ lo → (d < lo ∨ hi ≤ d) → wX_move_33 post (nI lo) (nI hi) (nI d) (nI T.length) 0 fr ab ac pl op ch st ns li a1 a2 a3 a4 a5 a6 a7 a8 a9 a10 a11 a12 a13 a14 a15 := by
    intro z w
    unfold wX_move_33
    refine ld_begin (fun a3 a8 h3 h8 => ⟨hi + 1 - lo + 1, ?_⟩)
    exact ld_mv43 (T0 := T) z hlh hh h60 hd w (ld_ok_c hok h8) (hp z w) (hi + 1 - lo) (hi + 1 - lo + 1) lo 0 T _ _ _ _ _ _ _ _ _ _ _ _ _ _ _ _ _ _ _ _ _ (by omega) (by omega) (by omega) (by omega) rfl hR ld_lT_0 hok.2 (fun e => absurd rfl e)
  unfold wpX_move
  refine ld_isRange (by omega) (by omega) (by omega) (fun z => br_f (by decide) ?_) (fun z => br_t rfl (hf (by omega)))
  refine br_f (nI_pos (by omega)) (pk_lt T.length d (fun w => absurd w (by omega)) (fun _ => pk_lt d lo (fun w => go z.1 (Or.inl w)) (fun w => pk_le hi d (fun y => go z.1 (Or.inr y)) (fun y => hf (Or.inr ⟨w, y⟩)))))
/-- copy's loop -/
theorem ld_cp51 {post : Int32 → St1 → Prop} {d L cnt : Nat} {T0 : List Nat} {op : Int32} {a8 : Nat → Int32} (hL : L + cnt ≤ 60) (hd : d ≤ L) (hc : 1 ≤ cnt) (ho : ld_ok T0 op a8) (hp : ld_K (post (nI (d + cnt))) (fun T' _ _ => T'.length = L + cnt)) :
    ∀ (k n i : Nat) (T : List Nat) (fr ab ac pl ns : Int32) (a1 a2 a3 a4 a5 a6 a7 a9 a10 a11 a12 a13 a14 a15 : Nat → Int32), i + k = cnt → k < n → T.length = L + i → (∀ j, j < cnt → ∃ id, id < 128 ∧ a15 j = nI id) → (∀ j, j < 128 → a3 j = 0) → ld_R fr a2 a4 a5 a6 T → ld_lT a9 a10 a11 i T0 T → ld_mk T a7 → (i ≠ 0 → ∃ id, id ∈ T ∧ pl = nI id) →
      wX_copy_51 post (nI d) n (nI i) (nI T.length) 0 fr ab ac pl op 1 (nI i) ns (nI cnt) a1 a2 a3 a4 a5 a6 a7 a8 a9 a10 a11 a12 a13 a14 a15 := by
  intro k
  induction k with
  | zero =>
    intro n i T fr ab ac pl ns a1 a2 a3 a4 a5 a6 a7 a9 a10 a11 a12 a13 a14 a15 hi hn hT h15 h3 hR hl hmk hx
    obtain ⟨n, rfl⟩ : ∃ m, n = m + 1 := ⟨n - 1, by omega⟩
    refine pk_le cnt i (fun _ => ?_) (fun z => absurd z (by omega))
    rw [nI_add]
    exact ld_fin hp hR ⟨Or.inr (hx (by omega)), hmk⟩ (by omega) hl ho (by rw [hT]; omega)
  | succ k ih =>
    intro n i T fr ab ac pl ns a1 a2 a3 a4 a5 a6 a7 a9 a10 a11 a12 a13 a14 a15 hi hn hT h15 h3 hR hl hmk hx
    obtain ⟨n, rfl⟩ : ∃ m, n = m + 1 := ⟨n - 1, by omega⟩
    have htx := ld_R_tx hR
    obtain ⟨y, hy, ey⟩ := h15 i (by omega)
    refine pk_le cnt i (fun z => absurd z (by omega)) (fun _ => ⟨pk_in i 60 (by omega), pk_in y 128 hy (by rw [nI_clamp (by omega)]; exact ey), ?_⟩)
    refine ld_fresh hR h3 (fun id hid hn1 => ?_)
    obtain ⟨P, Q, eT, eP⟩ := ld_cut T (k := d + i) (by omega)
    have e1 : (nI d + 1) + nI i = nI (P.length + 1) := by
      rw [nI_1, nI_add]
      congr 1
      omega
    rw [e1]
    subst eT
    have ht := ld_tx_ins htx hid hn1 (by omega)
    refine ld_putIn hR (by omega) ht (fun fr ab ac a2 a4 a5 a6 hR' => nm_r (nI_1 i) ?_)
    exact ih n (i + 1) (P ++ id :: Q) _ _ _ _ _ _ _ _ _ _ _ _ _ _ _ _ _ _ _ (by omega) (by omega) (by rw [ld_ins_len]; omega) h15 h3 hR' (ld_lT_put hl ht) (ld_mk_m hmk (fun x hx => ld_ins_mem.mpr (Or.inr hx))) (fun _ => ⟨id, by simp, rfl⟩)
/-- the listed lines are lines of the text -/
theorem ld_listed {T : List Nat} {p q : Nat} {a15 : Nat → Int32} (hq : q ≤ T.length) (h : ∀ j x, j < q - p → T[p + j]? = some x → a15 j = nI x) : ∀ j, j < q - p → ∃ id, id ∈ T ∧ a15 j = nI id := by
  intro j hj
  obtain ⟨y, hy⟩ := ld_getl (l := T) (k := p + j) (by omega)
  exact ⟨y, ld_mem hy, h j y hj hy⟩
/-- copy -/
theorem ld_copy {post : Int32 → St1 → Prop} {fr ab ac pl op ch st ns li : Int32} {a1 a2 a3 a4 a5 a6 a7 a8 a9 a10 a11 a12 a13 a14 a15 : Nat → Int32} {T : List Nat} {lo hi d : Nat} (hR : ld_R fr a2 a4 a5 a6 T) (hok : ld_ok T pl a7) (hlh : lo ≤ hi) (hh : hi ≤ T.length) (hd : d ≤ T.length) (hf : (lo = 0 ∨ 60 < T.length + hi - lo + 1) → post (-1) (nI T.length, 0, fr, ab, ac, pl, op, ch, st, ns, li, a1, a2, a3, a4, a5, a6, a7, a8, a9, a10, a11, a12, a13, a14, a15))
    (hp : 1 ≤ lo → T.length + hi - lo + 1 ≤ 60 → ld_K (post (nI (d + (hi - lo + 1)))) (fun T' _ _ => T'.length = T.length + (hi - lo + 1))) : wpX_copy post (nI T.length, 0, fr, ab, ac, pl, op, ch, st, ns, li, a1, a2, a3, a4, a5, a6, a7, a8, a9, a10, a11, a12, a13, a14, a15) (nI lo) (nI hi) (nI d) := by
  have htx := ld_R_tx hR
  have h60 := htx.2.1
  unfold wpX_copy
  refine ld_isRange (by omega) (by omega) (by omega) (fun z => br_f (by decide) ?_) (fun z => br_t rfl (hf (by omega)))
  refine br_f (nI_pos (by omega)) (pk_lt T.length d (fun w => absurd w (by omega)) (fun _ => pk_le (T.length + hi - lo + 1) 60 (fun w => ?_) (fun w => hf (by omega)) (by rw [nI_add, pk_sub (by omega), nI_1]) rfl))
  obtain ⟨p, rfl⟩ : ∃ p, lo = p + 1 := ⟨lo - 1, by omega⟩
  have hp := hp z.1 w
  have ec : hi - (p + 1) + 1 = hi - p := by omega
  rw [ec] at hp
  refine ld_begin (fun a3 a8 h3 h8 => ld_listRange hR (by omega) hh (fun a15 h15 => ⟨hi - p + 1, ?_⟩))
  have h15' := ld_listed hh h15
  exact ld_cp51 (T0 := T) (by omega) hd (by omega) (ld_ok_c hok h8) hp (hi - p) (hi - p + 1) 0 T _ _ _ _ _ _ _ _ _ _ _ _ _ _ _ _ _ _ _ (by omega) (by omega) (by omega) (fun j hj => by obtain ⟨id, h1, h2⟩ := h15' j hj; exact ⟨id, htx.2.2 id h1, h2⟩) h3 hR ld_lT_0 hok.2 (fun e => absurd rfl e)
/-- replace's loop -/
theorem ld_rp27 {post : Int32 → St1 → Prop} {old new op : Int32} {T : List Nat} {cnt : Nat} {a8 v0 : Nat → Int32} (hc : cnt ≤ 60) (ho : ld_ok T op a8) (hp : ∀ r, ld_K (post r) (fun _ _ _ => True)) :
    ∀ (k n i m : Nat) (x5 : Int32) (fr ab ac pl ns : Int32) (a1 a2 a3 a4 a5 a6 a7 a9 a10 a11 a12 a13 a14 a15 : Nat → Int32), i + k = cnt → k < n → m ≤ i → (∀ j, j < cnt → ∃ id, id ∈ T ∧ a15 j = nI id) → ld_R fr a2 a4 a5 a6 T → ld_lg a9 a10 a11 m T v0 T a1 → ld_ok T pl a7 →
      wX_replace_27 post old new n x5 (nI i) (nI T.length) 0 fr ab ac pl op 1 (nI m) ns (nI cnt) a1 a2 a3 a4 a5 a6 a7 a8 a9 a10 a11 a12 a13 a14 a15 := by
  intro k
  induction k with
  | zero =>
    intro n i m x5 fr ab ac pl ns a1 a2 a3 a4 a5 a6 a7 a9 a10 a11 a12 a13 a14 a15 hi hn hm h15 hR hl hok
    obtain ⟨n, rfl⟩ : ∃ m, n = m + 1 := ⟨n - 1, by omega⟩
    exact pk_le cnt i (fun _ => ld_K_u (hp x5) ⟨hR, hok, Or.inr ⟨m, T, v0, by decide, by omega, rfl, hl, ho⟩⟩ trivial) (fun z => absurd z (by omega))
  | succ k ih =>
    intro n i m x5 fr ab ac pl ns a1 a2 a3 a4 a5 a6 a7 a9 a10 a11 a12 a13 a14 a15 hi hn hm h15 hR hl hok
    obtain ⟨n, rfl⟩ : ∃ m, n = m + 1 := ⟨n - 1, by omega⟩
    obtain ⟨y, hy, ey⟩ := h15 i (by omega)
    have hy1 := (ld_R_tx hR).2.2 y hy
    have e1 : a15 (nI i).toNatClampNeg = nI y := by rw [nI_clamp (by omega)]; exact ey
    have e2 : (nI y).toNatClampNeg = y := nI_clamp (by omega)
    have i60 : vp_in (nI i) 60 := pk_in i 60 (by omega)
    have y128 : vp_in (a15 (nI i).toNatClampNeg) 128 := pk_in y 128 hy1 e1
    refine pk_le cnt i (fun z => absurd z (by omega)) (fun _ => ⟨i60, y128, br_c (fun z => ⟨i60, y128, i60, ?_⟩) (fun z => nm_r (nI_1 i) (ih n (i + 1) m x5 _ _ _ _ _ _ _ _ _ _ _ _ _ _ _ _ _ _ _ (by omega) (by omega) (by omega) h15 hR hl hok))⟩)
    refine ld_note (by omega) ⟨i60, y128, nm_r (e' := upd a1 y new) (by rw [e1, e2]) ⟨i60, nm_r e1 (nm_e (nm_r (nI_1 i) ?_))⟩⟩
    rw [e1, e2]
    exact ih n (i + 1) (m + 1) _ _ _ _ _ _ _ _ _ _ _ _ _ _ _ _ _ _ _ _ (by omega) (by omega) (by omega) h15 hR (ld_lg_add hl (Or.inr (Or.inr ⟨y, new, rfl, rfl, rfl, hy1, rfl, rfl⟩))) ⟨Or.inr ⟨y, hy, rfl⟩, hok.2⟩
/-- replace -/
theorem ld_replace {post : Int32 → St1 → Prop} {fr ab ac pl op ch st ns li : Int32} {a1 a2 a3 a4 a5 a6 a7 a8 a9 a10 a11 a12 a13 a14 a15 : Nat → Int32} {T : List Nat} {lo hi : Nat} {old new : Int32} (hR : ld_R fr a2 a4 a5 a6 T) (hok : ld_ok T pl a7) (hlh : lo ≤ hi) (hh : hi ≤ T.length) (hf : post (-1) (nI T.length, 0, fr, ab, ac, pl, op, ch, st, ns, li, a1, a2, a3, a4, a5, a6, a7, a8, a9, a10, a11, a12, a13, a14, a15)) (hp : ∀ r, ld_K (post r) (fun _ _ _ => True)) : wpX_replace post (nI T.length, 0, fr, ab, ac, pl, op, ch, st, ns, li, a1, a2, a3, a4, a5, a6, a7, a8, a9, a10, a11, a12, a13, a14, a15) (nI lo) (nI hi) old new := by
  have htx := ld_R_tx hR
  have h60 := htx.2.1
  unfold wpX_replace
  refine ld_isRange (by omega) (by omega) (by omega) (fun z => br_f (by decide) ?_) (fun z => br_t rfl hf)
  obtain ⟨p, rfl⟩ : ∃ p, lo = p + 1 := ⟨lo - 1, by omega⟩
  refine ld_begin (fun a3 a8 h3 h8 => ld_listRange hR (by omega) hh (fun a15 h15 => ⟨hi - p + 1, ?_⟩))
  exact ld_rp27 (T := T) (v0 := a1) (by omega) (ld_ok_c hok h8) hp (hi - p) (hi - p + 1) 0 0 _ _ _ _ _ _ _ _ _ _ _ _ _ _ _ _ _ _ _ _ (by omega) (by omega) (by omega) (ld_listed hh h15) hR ⟨rfl, rfl⟩ hok
end
section
theorem ld_ginj {T : List Nat} {i j y : Nat} (h : T.Nodup) (h1 : T[i]? = some y) (h2 : T[j]? = some y) : i = j := (List.getElem?_inj (ld_lt h1) h).mp (by rw [h1, h2])
/-- listWith -/
theorem ld_listWith {post : St1 → Prop} {fr ab ac pl op ch st ns li : Int32} {a1 a2 a3 a4 a5 a6 a7 a8 a9 a10 a11 a12 a13 a14 a15 : Nat → Int32} {T : List Nat} {v : Int32} (hR : ld_R fr a2 a4 a5 a6 T) (hp : ∀ cnt a15, cnt ≤ T.length → (∀ j, j < cnt → ∃ id, id ∈ T ∧ a15 j = nI id) → (∀ i j, i < j → j < cnt → a15 i ≠ a15 j) → post (nI T.length, 0, fr, ab, ac, pl, op, ch, st, ns, nI cnt, a1, a2, a3, a4, a5, a6, a7, a8, a9, a10, a11, a12, a13, a14, a15)) : wpX_listWith post (nI T.length, 0, fr, ab, ac, pl, op, ch, st, ns, li, a1, a2, a3, a4, a5, a6, a7, a8, a9, a10, a11, a12, a13, a14, a15) v := by
  have htx := ld_R_tx hR
  have h60 := htx.2.1
  unfold wpX_listWith
  refine ld_listRange (p := 0) hR (by omega) (Nat.le_refl _) (fun a15 h15 => ?_)
  refine pk_loop (σ := Nat × (Nat → Int32)) (fun n i s => wX_listWith_13 post v (nI T.length) 0 fr ab ac pl op ch st ns (nI (T.length - 0)) n (nI s.1) (nI i) a1 a2 a3 a4 a5 a6 a7 a8 a9 a10 a11 a12 a13 a14 s.2)
    (fun i s => s.1 ≤ i ∧ (∀ j, i ≤ j → j < T.length → s.2 j = a15 j) ∧ (∀ j, j < s.1 → ∃ k y, k < i ∧ T[k]? = some y ∧ s.2 j = nI y) ∧ ∀ i' j, i' < j → j < s.1 → s.2 i' ≠ s.2 j) T.length 0 (0, a15) (by omega) ⟨Nat.le_refl _, fun j _ _ => rfl, fun j hj => absurd hj (by dsimp only; omega), fun i j _ hj => absurd hj (by dsimp only; omega)⟩ (fun n s hs => ?_) (fun n i s hi hs hw => ?_)
  · obtain ⟨kp, s⟩ := s
    obtain ⟨k1, k2, k3, k4⟩ := hs
    dsimp only at k1 k2 k3 k4
    refine pk_le T.length T.length (fun _ => hp kp s k1 (fun j hj => ?_) k4) (fun z => absurd z (by omega))
    obtain ⟨k, y, h1, h2, h3⟩ := k3 j hj
    exact ⟨y, ld_mem h2, h3⟩
  · obtain ⟨kp, s⟩ := s
    obtain ⟨k1, k2, k3, k4⟩ := hs
    dsimp only at k1 k2 k3 k4
    obtain ⟨y, hy⟩ := ld_getl hi
    have hy1 := htx.2.2 y (ld_mem hy)
    have hc : (nI i).toNatClampNeg = i := nI_clamp (by omega)
    have es : s i = nI y := by
      rw [k2 i (Nat.le_refl _) hi]
      exact h15 i y (by omega) (by rw [Nat.zero_add]; exact hy)
    refine pk_le T.length i (fun z => absurd z (by omega)) (fun _ => ⟨pk_in i 60 (by omega), pk_in y 128 hy1 (by rw [hc]; exact es), br_c (fun z => ?_) (fun z => ?_)⟩)
    · refine ⟨pk_in i 60 (by omega), pk_in kp 60 (by omega), nm_r (e' := upd s kp (nI y)) (by rw [hc, nI_clamp (by omega)]; dsimp only; rw [es]) (nm_r (nI_1 kp) (nm_r (nI_1 i) (hw (kp + 1, upd s kp (nI y)) ⟨by dsimp only; omega, fun j h1 h2 => ?_, fun j hj => ?_, fun i' j h1 h2 => ?_⟩)))⟩
      · dsimp only
        rw [pk_un (by omega)]
        exact k2 j (by omega) h2
      · dsimp only at hj ⊢
        by_cases e : j = kp
        · rw [e, pk_us]
          exact ⟨i, y, by omega, hy, rfl⟩
        · rw [pk_un e]
          obtain ⟨k, y', g1, g2, g3⟩ := k3 j (by omega)
          exact ⟨k, y', by omega, g2, g3⟩
      · dsimp only at h2 ⊢
        rw [pk_un (show i' ≠ kp by omega)]
        by_cases e : j = kp
        · rw [e, pk_us]
          obtain ⟨k, y', g1, g2, g3⟩ := k3 i' (by omega)
          have hy2 := htx.2.2 y' (ld_mem g2)
          intro w
          rw [g3, nI_eq (by omega) (by omega)] at w
          rw [w] at g2
          have := ld_ginj htx.1 g2 hy
          omega
        · rw [pk_un e]
          exact k4 i' j h1 (by omega)
    · refine nm_r (nI_1 i) (hw (kp, s) ⟨by dsimp only; omega, fun j h1 h2 => k2 j (by omega) h2, fun j hj => ?_, k4⟩)
      obtain ⟨k, y', g1, g2, g3⟩ := k3 j hj
      exact ⟨k, y', by omega, g2, g3⟩
/-- carryOut: what it leaves -/
def ld_CK (post : St1 → Prop) (T0 T : List Nat) (id kd m : Nat) (pl op ch ns li : Int32) (a3 a8 a12 a13 a14 a15 : Nat → Int32) : Prop :=
  ∀ (T' : List Nat) (m' : Nat) (fr ab ac : Int32) (a1 a2 a3' a4 a5 a6 a7 a9 a10 a11 : Nat → Int32), ld_R fr a2 a4 a5 a6 T' → ld_lT a9 a10 a11 m' T0 T' → ld_mk T' a7 → m' ≤ m + 2 → (∀ x, x ∈ T → x ≠ id → x ∈ T') → (kd ≠ 0 → id ∈ T') → (kd = 3 → a3' = a3) → post (nI T'.length, 0, fr, ab, ac, pl, op, ch, nI m', ns, li, a1, a2, a3', a4, a5, a6, a7, a8, a9, a10, a11, a12, a13, a14, a15)
theorem ld_c75 {post : St1 → Prop} {fr ab ac pl op ch ns li : Int32} {a1 a2 a3 a4 a5 a6 a7 a8 a9 a10 a11 a12 a13 a14 a15 : Nat → Int32} {T0 P Q : List Nat} {id kd m : Nat} (hR : ld_R fr a2 a4 a5 a6 (P ++ id :: Q)) (hl : ld_lT a9 a10 a11 m T0 (P ++ id :: Q)) (hmk : ld_mk (P ++ id :: Q) a7) (hm : m ≤ 120) (hkd : kd = 1 ∨ kd = 2 ∨ kd = 4) (h4 : kd = 4 → Q ≠ [])
    (hp : ld_CK post T0 (P ++ id :: Q) id kd m pl op ch ns li a3 a8 a12 a13 a14 a15) : wX_carryOut_75 post (nI id) (nI kd) (nI (P.length + 1)) (nI (P ++ id :: Q).length) 0 fr ab ac pl op ch (nI m) ns li a1 a2 a3 a4 a5 a6 a7 a8 a9 a10 a11 a12 a13 a14 a15 := by
  have htx := ld_R_tx hR
  have h60 := htx.2.1
  have main : ∀ (P' Q' : List Nat) (fr ab ac : Int32) (a2 a4 a5 a6 : Nat → Int32), P ++ Q = P' ++ Q' → ld_R fr a2 a4 a5 a6 (P ++ Q) → wX_carryOut_108 post (nI id) (nI (P'.length + 1)) (nI (P ++ Q).length) 0 fr ab ac pl op ch (nI (m + 1)) ns li a1 a2 (upd a3 id 1) a4 a5 a6 a7 a8 (upd a9 m 1) (upd a10 m (nI (P.length + 1))) (upd a11 m (nI id)) a12 a13 a14 a15 := by
    intro P' Q' fr ab ac a2 a4 a5 a6 epq hR2
    have ht' := ld_mv htx epq
    have hl2 := ld_lT_take hl htx
    unfold wX_carryOut_108
    rw [epq] at hR2 hl2 ⊢
    refine ld_putIn hR2 (by omega) ht' (fun fr ab ac a2 a4 a5 a6 hR3 => ?_)
    have hmem : ∀ x, x ∈ P ++ id :: Q → x ∈ P' ++ id :: Q' := by
      intro x hx
      rw [ld_ins_mem, ← epq, ← ld_ins_mem]
      exact hx
    exact hp _ _ _ _ _ _ _ _ _ _ _ _ _ _ _ hR3 (ld_lT_put hl2 ht') (ld_mk_m hmk hmem) (by omega) (fun x hx _ => hmem x hx) (fun _ => by simp) (fun e => absurd e (by omega))
  unfold wX_carryOut_75
  refine ld_takeOut hR (by omega) (fun fr ab ac a2 a4 a5 a6 hR2 => ?_)
  refine pk_eq kd 1 (fun z => ?_) (fun z => pk_eq kd 2 (fun w => ?_) (fun w => ?_))
  · exact main [] (P ++ Q) fr ab ac a2 a4 a5 a6 rfl hR2
  · rw [nI_1]
    exact main (P ++ Q) [] fr ab ac a2 a4 a5 a6 (by rw [List.append_nil]) hR2
  · match Q, h4 (by omega) with
    | [], h => exact absurd rfl h
    | y :: Q, _ =>
      have e : nI (P.length + 1) + 1 = nI ((P ++ [y]).length + 1) := by
        rw [nI_1, List.length_append]
        rfl
      rw [e]
      exact main (P ++ [y]) Q fr ab ac a2 a4 a5 a6 (by rw [List.append_assoc]; rfl) hR2
theorem ld_carry {post : St1 → Prop} {fr ab ac pl op ch ns li : Int32} {a1 a2 a3 a4 a5 a6 a7 a8 a9 a10 a11 a12 a13 a14 a15 : Nat → Int32} {T0 T : List Nat} {id kd m : Nat} (hR : ld_R fr a2 a4 a5 a6 T) (hl : ld_lT a9 a10 a11 m T0 T) (hmk : ld_mk T a7) (hm : m ≤ 120) (hkd : kd ≤ 4) (hid : id ∈ T) (h3 : kd = 3 → ∀ k, k < 128 → a3 k = 0)
    (hp : ld_CK post T0 T id kd m pl op ch ns li a3 a8 a12 a13 a14 a15) : wpX_carryOut post (nI T.length, 0, fr, ab, ac, pl, op, ch, nI m, ns, li, a1, a2, a3, a4, a5, a6, a7, a8, a9, a10, a11, a12, a13, a14, a15) (nI id) (nI kd) := by
  have htx := ld_R_tx hR
  have h60 := htx.2.1
  have hid1 := htx.2.2 id hid
  obtain ⟨P, Q, eT⟩ := List.append_of_mem hid
  subst eT
  have hlen : (P ++ id :: Q).length = P.length + (Q.length + 1) := by rw [List.length_append, List.length_cons]
  unfold wpX_carryOut
  refine ld_num hR ?_
  refine pk_eq kd 0 (fun z => ?_) (fun z => pk_eq kd 3 (fun w => pk_le 60 (P ++ id :: Q).length (fun y => ?_) (fun y => ⟨pk_in id 128 hid1, ?_⟩)) (fun w => pk_eq kd 4 (fun y => pk_le (P ++ id :: Q).length (P.length + 1) (fun x => ?_) (fun x => ?_)) (fun y => ?_)))
  · refine ld_takeOut hR (by omega) (fun fr ab ac a2 a4 a5 a6 hR2 => ld_clear (fun a7' h7 => ?_))
    exact hp _ _ _ _ _ _ _ _ _ _ _ _ _ _ _ hR2 (ld_lT_take hl htx) (ld_mk_clear hmk h7) (by omega) (fun x hx hne => by rcases ld_ins_mem.mp hx with e | e; exact absurd e hne; exact e) (fun e => absurd z e) (fun e => absurd e (by omega))
  · exact hp _ _ _ _ _ _ _ _ _ _ _ _ _ _ _ hR hl hmk (by omega) (fun x hx _ => hx) (fun _ => hid) (fun _ => rfl)
  · refine ld_fresh hR (h3 w) (fun tw htw hn => ?_)
    rw [nI_1]
    have e : P ++ id :: Q = (P ++ [id]) ++ Q := by rw [List.append_assoc]; rfl
    have e2 : nI (P.length + 1 + 1) = nI ((P ++ [id]).length + 1) := by
      rw [List.length_append]
      rfl
    have ht := ld_tx_ins (P := P ++ [id]) (Q := Q) (by rw [← e]; exact htx) htw (by rw [← e]; exact hn) (by rw [← e]; exact y)
    have hmem : ∀ x, x ∈ P ++ id :: Q → x ∈ (P ++ [id]) ++ tw :: Q := by
      intro x hx
      rw [e] at hx
      exact ld_ins_mem.mpr (Or.inr hx)
    rw [e2]
    rw [e] at hR hl ⊢
    refine ld_putIn hR (by omega) ht (fun fr ab ac a2 a4 a5 a6 hR2 => ?_)
    exact hp _ _ _ _ _ _ _ _ _ _ _ _ _ _ _ hR2 (ld_lT_put hl ht) (ld_mk_m hmk hmem) (by omega) (fun x hx _ => hmem x hx) (fun _ => hmem id hid) (fun _ => rfl)
  · exact hp _ _ _ _ _ _ _ _ _ _ _ _ _ _ _ hR hl hmk (by omega) (fun x hx _ => hx) (fun _ => hid) (fun _ => rfl)
  · exact ld_c75 hR hl hmk hm (Or.inr (Or.inr y)) (fun _ e => by have e0 : Q.length = 0 := (by rw [e]; rfl); omega) hp
  · exact ld_c75 hR hl hmk hm (by omega) (fun e => absurd e y) hp
/-- all's loop -/
theorem ld_all22 {post : Int32 → St1 → Prop} {kd cnt : Nat} {T0 : List Nat} {op : Int32} {a8 a15 : Nat → Int32} (hkd : kd ≤ 4) (hc : cnt ≤ 60) (ho : ld_ok T0 op a8) (hd : ∀ i j, i < j → j < cnt → a15 i ≠ a15 j) (hp : ∀ r, ld_K (post r) (fun _ _ _ => True)) :
    ∀ (k n i m : Nat) (T : List Nat) (fr ab ac pl ns : Int32) (a1 a2 a3 a4 a5 a6 a7 a9 a10 a11 a12 a13 a14 : Nat → Int32), i + k = cnt → k < n → m ≤ 2 * i → ld_R fr a2 a4 a5 a6 T → ld_lT a9 a10 a11 m T0 T → ld_mk T a7 → (∀ j, i ≤ j → j < cnt → ∃ id, id ∈ T ∧ a15 j = nI id) → (kd ≠ 0 → ∀ j, j < cnt → ∃ id, id ∈ T ∧ a15 j = nI id) → (kd = 3 → ∀ j, j < 128 → a3 j = 0) → (cnt = 0 → ld_ok T pl a7) →
      wX_all_22 post (nI kd) n (nI i) (nI T.length) 0 fr ab ac pl op 1 (nI m) ns (nI cnt) a1 a2 a3 a4 a5 a6 a7 a8 a9 a10 a11 a12 a13 a14 a15 := by
  intro k
  induction k with
  | zero =>
    intro n i m T fr ab ac pl ns a1 a2 a3 a4 a5 a6 a7 a9 a10 a11 a12 a13 a14 hi hn hm hR hl hmk hj hj2 h3 h0
    obtain ⟨n, rfl⟩ : ∃ m, n = m + 1 := ⟨n - 1, by omega⟩
    have h60 := (ld_R_tx hR).2.1
    refine pk_le cnt i (fun _ => pk_le cnt 0 (fun z => ld_fin (hp _) hR (h0 (by omega)) (by omega) hl ho trivial) (fun z => pk_eq kd 0 (fun w => pk_eq T.length 0 (fun y => ?_) (fun y => ?_)) (fun w => ?_))) (fun z => absurd z (by omega))
    · have eT : T = [] := List.length_eq_zero_iff.mp y
      subst eT
      exact ld_fin (hp _) hR ⟨Or.inl ⟨rfl, rfl⟩, hmk⟩ (by omega) hl ho trivial
    · obtain ⟨P, id, Q, e1, e2, _⟩ := ld_split_at (T := T) (k := T.length - 1) (by omega)
      have hid : id ∈ T := by rw [e1]; simp
      have e4 : nI T.length = nI (P.length + 1) := by
        congr 1
        omega
      have hR1 := hR
      rw [e1] at hR1
      rw [e4]
      refine ld_lineAt hR1 (fun ab ac => ?_)
      rw [← e4]
      exact ld_fin (hp _) hR ⟨Or.inr ⟨id, hid, rfl⟩, hmk⟩ (by omega) hl ho trivial
    · obtain ⟨id, hid, e⟩ := hj2 w (cnt - 1) (by omega)
      have e1 : nI cnt - 1 = nI (cnt - 1) := pk_sub (b := 1) (by omega)
      refine ⟨pk_in (cnt - 1) 60 (by omega) e1, nm_r (e' := nI id) (by rw [e1, nI_clamp (by omega)]; exact e) ?_⟩
      exact ld_fin (hp _) hR ⟨Or.inr ⟨id, hid, rfl⟩, hmk⟩ (by omega) hl ho trivial
  | succ k ih =>
    intro n i m T fr ab ac pl ns a1 a2 a3 a4 a5 a6 a7 a9 a10 a11 a12 a13 a14 hi hn hm hR hl hmk hj hj2 h3 h0
    obtain ⟨n, rfl⟩ : ∃ m, n = m + 1 := ⟨n - 1, by omega⟩
    obtain ⟨id, hid, e⟩ := hj i (Nat.le_refl _) (by omega)
    refine pk_le cnt i (fun z => absurd z (by omega)) (fun _ => ⟨pk_in i 60 (by omega), ?_⟩)
    rw [nI_clamp (by omega), e]
    refine ld_carry hR hl hmk (by omega) hkd hid h3 ?_
    intro T' m' fr ab ac a1 a2 a3' a4 a5 a6 a7 a9 a10 a11 hR' hl' hmk' hm' hx1 hx2 hx3
    refine nm_r (nI_1 i) (ih n (i + 1) m' T' _ _ _ _ _ _ _ _ _ _ _ _ _ _ _ _ _ _ (by omega) (by omega) (by omega) hR' hl' hmk' (fun j h1 h2 => ?_) (fun w j h1 => ?_) (fun w => by rw [hx3 w]; exact h3 w) (fun w => absurd w (by omega)))
    · obtain ⟨y, hy, ey⟩ := hj j (by omega) h2
      refine ⟨y, hx1 y hy (fun w => ?_), ey⟩
      exact hd i j (by omega) h2 (by rw [e, ey, w])
    · obtain ⟨y, hy, ey⟩ := hj2 w j h1
      by_cases g : y = id
      · exact ⟨id, hx2 w, by rw [ey, g]⟩
      · exact ⟨y, hx1 y hy g, ey⟩
/-- all -/
theorem ld_all {post : Int32 → St1 → Prop} {fr ab ac pl op ch st ns li : Int32} {a1 a2 a3 a4 a5 a6 a7 a8 a9 a10 a11 a12 a13 a14 a15 : Nat → Int32} {T : List Nat} {kd : Nat} {v : Int32} (hR : ld_R fr a2 a4 a5 a6 T) (hok : ld_ok T pl a7) (hkd : kd ≤ 4) (hp : ∀ r, ld_K (post r) (fun _ _ _ => True)) : wpX_all post (nI T.length, 0, fr, ab, ac, pl, op, ch, st, ns, li, a1, a2, a3, a4, a5, a6, a7, a8, a9, a10, a11, a12, a13, a14, a15) v (nI kd) := by
  have h60 := (ld_R_tx hR).2.1
  refine br_f (nI_pos (by omega)) (pk_le kd 4 (fun _ => ?_) (fun z => absurd z (by omega)))
  refine ld_begin (fun a3 a8 h3 h8 => ld_listWith hR (fun cnt a15 hc h15 hd => ⟨cnt + 1, ?_⟩))
  exact ld_all22 (T0 := T) hkd (by omega) (ld_ok_c hok h8) hd hp cnt (cnt + 1) 0 0 T _ _ _ _ _ _ _ _ _ _ _ _ _ _ _ _ _ _ (by omega) (by omega) (by omega) hR ld_lT_0 hok.2 (fun j _ hj => h15 j hj) (fun _ => h15) (fun _ => h3) (fun _ => hok)
end
section
/-! walkTo and lineAt as mark() reaches them -/
theorem ld_walk14b {post : St1 → Prop} {c fr ac pl op ch st ns li : Int32} {a1 a2 a3 a4 a5 a6 a7 a8 a9 a10 a11 a12 a13 a14 a15 : Nat → Int32} {b r : Nat} {l : List Nat} {B2 : List (Nat × List Nat)} (hr : r ≤ l.length) (hr2 : r < l.length ∨ B2 = []) (hp : post (c, 0, fr, nI b, nI r, pl, op, ch, st, ns, li, a1, a2, a3, a4, a5, a6, a7, a8, a9, a10, a11, a12, a13, a14, a15)) :
    ∀ (B1 : List (Nat × List Nat)) (h : Int32) (s n : Nat), ld_lk a4 ((B1 ++ (b, l) :: B2).map Prod.fst) h (-1) → (∀ x, x ∈ B1 ++ (b, l) :: B2 → ld_bk a2 a5 a6 x) → s + B1.length < 32 → B1.length < n → (ld_fl B1).length + r ≤ 1000 →
      wX_walkTo_2_14 post c 0 fr ac pl op ch st ns li a1 a2 a3 a4 a5 a6 a7 a8 a9 a10 a11 a12 a13 a14 a15 n (nI ((ld_fl B1).length + r)) (nI s) h := by
  intro B1
  induction B1 with
  | nil =>
    intro h s n hk hb hs hn hm
    obtain ⟨n, rfl⟩ : ∃ m, n = m + 1 := ⟨n - 1, by simp only [List.length_nil] at hn; omega⟩
    obtain ⟨c1, c2, c3, _, _⟩ := hb (b, l) (by simp)
    dsimp only at c1 c2 c3
    obtain ⟨e1, e2⟩ : h = nI b ∧ ld_lk a4 (B2.map Prod.fst) (a4 b) (-1) := hk
    subst e1
    have ez : (ld_fl []).length + r = r := by simp [ld_fl_0]
    rw [ez]
    have hc : (nI b).toNatClampNeg = b := nI_clamp (by omega)
    simp only [List.length_nil] at hs
    refine pk_le 32 s (fun z => absurd z (by omega)) (fun _ => ⟨pk_in b 32 c1, br_c (fun _ => hp) (fun z => ⟨pk_in b 32 c1, br_t ?_ hp⟩)⟩)
    rw [hc, c3, ld_sz (by omega) (by omega)] at z
    have e3 : B2 = [] := by
      rcases hr2 with w | w
      · exact absurd w z
      · exact w
    subst e3
    have e4 : a4 b = -1 := e2
    rw [hc, e4]
    decide
  | cons x B1 ih =>
    intro h s n hk hb hs hn hm
    obtain ⟨n, rfl⟩ : ∃ m, n = m + 1 := ⟨n - 1, by simp only [List.length_cons] at hn; omega⟩
    obtain ⟨c1, c2, c3, _, _⟩ := hb x (by simp)
    obtain ⟨e1, e2⟩ : h = nI x.1 ∧ ld_lk a4 ((B1 ++ (b, l) :: B2).map Prod.fst) (a4 x.1) (-1) := hk
    subst e1
    have hc : (nI x.1).toNatClampNeg = x.1 := nI_clamp (by omega)
    simp only [List.length_cons] at hs hn
    rw [ld_fl_c, List.length_append] at hm ⊢
    have hy : ∃ y, y < 32 ∧ a4 x.1 = nI y := by
      cases B1 with
      | nil => exact ⟨b, (hb (b, l) (by simp)).1, e2.1⟩
      | cons z B1 => exact ⟨z.1, (hb z (by simp)).1, e2.1⟩
    obtain ⟨y, hy1, hy2⟩ := hy
    refine pk_le 32 s (fun z => absurd z (by omega)) (fun _ => ⟨pk_in x.1 32 c1, br_f ?_ ⟨pk_in x.1 32 c1, br_f ?_ ⟨pk_in x.1 32 c1, nm_r (e' := nI ((ld_fl B1).length + r)) ?_ ⟨pk_in x.1 32 c1, nm_r (e' := a4 x.1) (by rw [hc]) (nm_r (nI_1 s) ?_)⟩⟩⟩⟩)
    · rw [hc, c3, ld_sz (by omega) (by omega)]
      omega
    · rw [hc, hy2]
      exact nI_pos (by omega)
    · rw [hc, c3, pk_sub (by omega)]
      congr 1
      omega
    · exact ih (a4 x.1) (s + 1) n e2 (fun z hz => hb z (by simp only [List.cons_append, List.mem_cons]; exact Or.inr hz)) (by omega) (by omega) (by omega)
theorem ld_walkTob {post : St1 → Prop} {c fr ab ac pl op ch st ns li : Int32} {a1 a2 a3 a4 a5 a6 a7 a8 a9 a10 a11 a12 a13 a14 a15 : Nat → Int32} {b r : Nat} {l F T : List Nat} {B1 B2 : List (Nat × List Nat)} (h : ld_R0 fr a2 a4 a5 a6 (B1 ++ (b, l) :: B2) F T) (hr : r ≤ l.length) (hr2 : r < l.length ∨ B2 = []) (hp : post (c, 0, fr, nI b, nI r, pl, op, ch, st, ns, li, a1, a2, a3, a4, a5, a6, a7, a8, a9, a10, a11, a12, a13, a14, a15)) :
    wpX_walkTo_2 post (c, 0, fr, ab, ac, pl, op, ch, st, ns, li, a1, a2, a3, a4, a5, a6, a7, a8, a9, a10, a11, a12, a13, a14, a15) (nI ((ld_fl B1).length + r + 1)) := by
  have h5 := h.2.2.2.2.1
  have h60 := h.2.2.2.2.2.2.2.1.2.1
  have hl := (ld_R0_bk h).2.1
  have hT := h.2.2.2.2.2.2.1
  rw [← hT, ld_fl_app, List.length_append] at h60
  dsimp only at hl
  simp only [List.length_append, List.length_cons] at h5
  refine nm_r (nI_pred _) ⟨B1.length + 1, ?_⟩
  exact ld_walk14b hr hr2 hp B1 0 0 (B1.length + 1) h.1 h.2.2.2.2.2.1 (by omega) (by omega) (by omega)
theorem ld_lineAtb {post : Int32 → St1 → Prop} {c fr ab ac pl op ch st ns li : Int32} {a1 a2 a3 a4 a5 a6 a7 a8 a9 a10 a11 a12 a13 a14 a15 : Nat → Int32} {id : Nat} {P Q : List Nat} (h : ld_R fr a2 a4 a5 a6 (P ++ id :: Q)) (hp : ∀ ab ac, post (nI id) (c, 0, fr, ab, ac, pl, op, ch, st, ns, li, a1, a2, a3, a4, a5, a6, a7, a8, a9, a10, a11, a12, a13, a14, a15)) : wpX_lineAt_2 post (c, 0, fr, ab, ac, pl, op, ch, st, ns, li, a1, a2, a3, a4, a5, a6, a7, a8, a9, a10, a11, a12, a13, a14, a15) (nI (P.length + 1)) := by
  obtain ⟨B, F, h, _⟩ := h
  obtain ⟨B1, b, l1, l2, B2, rfl, rfl, rfl⟩ := ld_atid (ld_R0_ne h) h.2.2.2.2.2.2.1
  obtain ⟨c1, c2, c3, c4, _⟩ := ld_R0_bk h
  dsimp only at c1 c2 c3 c4
  rw [List.length_append, List.length_cons] at c2
  rw [List.length_append]
  unfold wpX_lineAt_2
  refine ld_walkTob h (by rw [List.length_append]; omega) (Or.inl (by rw [List.length_append, List.length_cons]; omega)) ⟨ld_ci (by omega), ?_⟩
  have e : a6 (6 * nI b + nI l1.length).toNatClampNeg = nI id := by
    rw [ld_cc (by omega)]
    exact c4 _ _ (by rw [show l1.length = l1.length + 0 by omega, ld_ap_r]; rfl)
  rw [e]
  exact hp _ _
/-- mark -/
theorem ld_ok_u {T : List Nat} {pl x : Int32} {a7 : Nat → Int32} {j : Nat} (h : ld_ok T pl a7) (hx : x = -1 ∨ ∃ id, id ∈ T ∧ x = nI id) : ld_ok T pl (upd a7 j x) := by
  refine ⟨h.1, fun k hk => ?_⟩
  by_cases e : k = j
  · rw [e, pk_us]
    exact hx
  · rw [pk_un e]
    exact h.2 k hk
theorem ld_mark {post : Int32 → St1 → Prop} {fr ab ac pl op ch st ns li : Int32} {a1 a2 a3 a4 a5 a6 a7 a8 a9 a10 a11 a12 a13 a14 a15 : Nat → Int32} {T : List Nat} {a : Nat} {v : Int32} (hi : ld_iv T fr pl op ch st a1 a2 a4 a5 a6 a7 a8 a9 a10 a11) (ha : a ≤ T.length) (hp : ∀ r, ld_K (post r) (fun _ _ _ => True)) : wpX_mark post (nI T.length, 0, fr, ab, ac, pl, op, ch, st, ns, li, a1, a2, a3, a4, a5, a6, a7, a8, a9, a10, a11, a12, a13, a14, a15) v (nI a) := by
  obtain ⟨hR, hok, hh⟩ := hi
  have h60 := (ld_R_tx hR).2.1
  obtain ⟨j, hj, ej⟩ := pk_andE v (m := 3) 2 (by decide)
  have hc : (v &&& 3).toNatClampNeg = j := by rw [ej, nI_clamp (by omega)]
  refine br_f (nI_pos (by omega)) (pk_le a T.length (fun _ => pk_eq a 0 (fun z => ⟨pk_in j 4 hj ej, nm_r (e' := upd a7 j (-1)) (by rw [hc]) ?_⟩) (fun z => ?_)) (fun z => absurd z (by omega)))
  · exact ld_K_u (hp 0) ⟨hR, ld_ok_u hok (Or.inl rfl), hh⟩ trivial
  · obtain ⟨P, id, Q, eT, eP, _⟩ := ld_split_at (T := T) (k := a - 1) (by omega)
    have hid : id ∈ T := by rw [eT]; simp
    have e1 : nI a = nI (P.length + 1) := by
      congr 1
      omega
    have hR1 := hR
    rw [eT] at hR1
    rw [e1]
    refine ld_lineAtb hR1 (fun ab ac => ⟨pk_in j 4 hj ej, nm_r (e' := upd a7 j (nI id)) (by rw [hc]) ?_⟩)
    exact ld_K_u (hp 0) ⟨hR, ld_ok_u hok (Or.inr ⟨id, hid, rfl⟩), hh⟩ trivial
/-- go -/
theorem ld_go {post : Int32 → St1 → Prop} {fr ab ac pl op ch st ns li : Int32} {a1 a2 a3 a4 a5 a6 a7 a8 a9 a10 a11 a12 a13 a14 a15 : Nat → Int32} {T : List Nat} {a : Nat} (hi : ld_iv T fr pl op ch st a1 a2 a4 a5 a6 a7 a8 a9 a10 a11) (ha : a ≤ T.length) (hp : ∀ r, ld_K (post r) (fun _ _ _ => True)) : wpX_go post (nI T.length, 0, fr, ab, ac, pl, op, ch, st, ns, li, a1, a2, a3, a4, a5, a6, a7, a8, a9, a10, a11, a12, a13, a14, a15) (nI a) := by
  have hi0 := hi
  obtain ⟨hR, hok, hh⟩ := hi
  have h60 := (ld_R_tx hR).2.1
  refine pk_lt a 1 (fun z => ld_K_u (hp 0) hi0 trivial) (fun z => pk_le a T.length (fun _ => ?_) (fun z => absurd z (by omega)))
  obtain ⟨P, id, Q, eT, eP, _⟩ := ld_split_at (T := T) (k := a - 1) (by omega)
  have hid : id ∈ T := by rw [eT]; simp
  have hid1 := (ld_R_tx hR).2.2 id hid
  have e1 : nI a = nI (P.length + 1) := by
    congr 1
    omega
  have hR1 := hR
  rw [eT] at hR1
  rw [e1]
  refine ld_lineAt hR1 (fun ab ac => ⟨pk_in id 128 hid1, ?_⟩)
  exact ld_K_u (hp _) ⟨hR, ⟨Or.inr ⟨id, hid, rfl⟩, hok.2⟩, hh⟩ trivial
/-- undo keeps the invariant -/
theorem ld_undo {post : Int32 → St1 → Prop} {fr ab ac pl op ch st ns li : Int32} {a1 a2 a3 a4 a5 a6 a7 a8 a9 a10 a11 a12 a13 a14 a15 : Nat → Int32} {T : List Nat} (hi : ld_iv T fr pl op ch st a1 a2 a4 a5 a6 a7 a8 a9 a10 a11) (hp : ∀ r, ld_K (post r) (fun _ _ _ => True)) : wpX_undo post (nI T.length, 0, fr, ab, ac, pl, op, ch, st, ns, li, a1, a2, a3, a4, a5, a6, a7, a8, a9, a10, a11, a12, a13, a14, a15) := by
  have hi0 := hi
  obtain ⟨hR, hok, hh⟩ := hi
  rcases hh with h0 | ⟨m, T0, v0, hch, hm, hst, hl, ho⟩
  · exact br_t h0 (ld_K_u (hp 0) hi0 trivial)
  · subst hst
    exact ld_undo1 hR hm hl hch (fun fr ab ac ns a2 a3 a4 a5 a6 a7' a8' a9 a10 a11 a12 a13 a14 hR' hl' h7 h8 => ld_K_u (hp 1) ⟨hR', ld_ok_c ho h7, Or.inr ⟨m, T, a1, hch, hm, rfl, hl', ld_ok_c hok h8⟩⟩ trivial)
/-- undo twice: back where it was -/
theorem ld_undo2 {post1 : Int32 → St1 → Prop} {post2 : Int32 → Int32 → St1 → Prop} {fr ab ac pl op ch st ns li : Int32} {a1 a2 a3 a4 a5 a6 a7 a8 a9 a10 a11 a12 a13 a14 a15 : Nat → Int32} {T : List Nat} (hi : ld_iv T fr pl op ch st a1 a2 a4 a5 a6 a7 a8 a9 a10 a11) (h1 : ∀ r (c fr ab ac pl op ch st ns li : Int32) (a1 a2 a3 a4 a5 a6 a7 a8 a9 a10 a11 a12 a13 a14 a15 : Nat → Int32), wpX_undo (post2 r) (c, 0, fr, ab, ac, pl, op, ch, st, ns, li, a1, a2, a3, a4, a5, a6, a7, a8, a9, a10, a11, a12, a13, a14, a15) → post1 r (c, 0, fr, ab, ac, pl, op, ch, st, ns, li, a1, a2, a3, a4, a5, a6, a7, a8, a9, a10, a11, a12, a13, a14, a15))
    (hp : ∀ r fr ab ac op st ns a2 a3 a4 a5 a6 a7' a8 a9 a10 a11 a12 a13 a14, ld_iv T fr pl op ch st a1 a2 a4 a5 a6 a7' a8 a9 a10 a11 → (∀ k, k < 4 → a7' k = a7 k) → post2 r r (nI T.length, 0, fr, ab, ac, pl, op, ch, st, ns, li, a1, a2, a3, a4, a5, a6, a7', a8, a9, a10, a11, a12, a13, a14, a15)) : wpX_undo post1 (nI T.length, 0, fr, ab, ac, pl, op, ch, st, ns, li, a1, a2, a3, a4, a5, a6, a7, a8, a9, a10, a11, a12, a13, a14, a15) := by
  have hi0 := hi
  obtain ⟨hR, hok, hh⟩ := hi
  rcases hh with h0 | ⟨m, T0, v0, hch, hm, hst, hl, ho⟩
  · exact br_t h0 (h1 _ _ _ _ _ _ _ _ _ _ _ _ _ _ _ _ _ _ _ _ _ _ _ _ _ _ (br_t h0 (hp _ _ _ _ _ _ _ _ _ _ _ _ _ _ _ _ _ _ _ _ hi0 (fun _ _ => rfl))))
  · subst hst
    refine ld_undo1 hR hm hl hch (fun fr ab ac ns a2 a3 a4 a5 a6 a7' a8' a9 a10 a11 a12 a13 a14 hR' hl' h7 h8 => h1 _ _ _ _ _ _ _ _ _ _ _ _ _ _ _ _ _ _ _ _ _ _ _ _ _ _ ?_)
    refine ld_undo1 hR' hm hl' hch (fun fr ab ac ns a2 a3 a4 a5 a6 a7'' a8'' a9 a10 a11 a12 a13 a14 hR'' hl'' h7' h8' => ?_)
    have g7 : ∀ k, k < 4 → a7'' k = a7 k := fun k hk => by rw [h7' k hk, h8 k hk]
    have g8 : ∀ k, k < 4 → a8'' k = a8 k := fun k hk => by rw [h8' k hk, h7 k hk]
    exact hp _ _ _ _ _ _ _ _ _ _ _ _ _ _ _ _ _ _ _ _ ⟨hR'', ld_ok_c hok g7, Or.inr ⟨m, T0, v0, hch, hm, rfl, hl'', ld_ok_c ho g8⟩⟩ g7
end
section
/-! the new object -/
theorem ld_lk_new {a4 : Nat → Int32} (h : ∀ b, 1 ≤ b → b < 31 → a4 b = nI (b + 1)) (h31 : a4 31 = -1) : ∀ (k b : Nat), 1 ≤ b → b + k = 31 → ld_lk a4 (List.range' b (k + 1)) (nI b) (-1) := by
  intro k
  induction k with
  | zero =>
    intro b h1 h2
    have e : b = 31 := by omega
    subst e
    exact ⟨rfl, h31⟩
  | succ k ih =>
    intro b h1 h2
    rw [List.range'_succ]
    refine ⟨rfl, ?_⟩
    rw [h b h1 (by omega)]
    exact ih (b + 1) (by omega) (by omega)
theorem ld_R_new {a2 a4 a5 a6 : Nat → Int32} (h2 : ∀ k, k < 128 → a2 k = -1) (h : ∀ b, 1 ≤ b → b < 31 → a4 b = nI (b + 1)) (h31 : a4 31 = -1) (h0 : a4 0 = -1) (h5 : a5 0 = 0) : ld_R 1 a2 a4 a5 a6 [] := by
  refine ⟨[(0, [])], List.range' 1 31, ⟨⟨rfl, h0⟩, ld_lk_new h h31 30 1 (by omega) (by omega), by decide, fun b hb => ?_, by simp, fun x hx => ?_, rfl, ⟨List.nodup_nil, by simp, fun x hx => absurd hx (by simp)⟩, fun i hi _ => h2 i hi⟩, trivial⟩
  · have := List.mem_range'_1.mp hb
    omega
  · have e : x = (0, []) := by simpa using hx
    subst e
    exact ⟨by omega, by simp, h5, fun k y hk => absurd hk (by simp), fun y hy => absurd hy (by simp)⟩
theorem ld_init {post : St1 → Prop} (hp : ld_K post (fun T _ _ => T = [])) : wpX_init post 15 1548 (0, 0, 0, 0, 0, 0, 0, 0, 0, 0, 0) := by
  refine ⟨by decide, by decide, by decide, by decide, by decide, by decide, by decide, by decide, by decide, by decide, by decide, by decide, by decide, by decide, by decide, by decide, by decide, by decide, by decide, by decide, by decide, by decide, by decide, by decide, by decide, by decide, by decide, by decide, by decide, by decide, ?_⟩
  refine pk_loop (σ := Nat → Int32) (fun n i s => wX_init_134 post 15 1548 15 1548 0 0 0 0 0 0 0 0 0 0 0 n (nI i) (fun _ => 0) s (fun _ => 0) (fun _ => 0) (fun _ => 0) (fun _ => 0) (fun _ => 0) (fun _ => 0) (fun _ => 0) (fun _ => 0) (fun _ => 0) (fun _ => 0) (fun _ => 0) (fun _ => 0) (fun _ => 0)) (fun i s => ∀ k, k < i → s k = -1) 128 0 (fun _ => 0) (by omega) (fun k hk => absurd hk (by omega)) (fun n s2 h2 => ?_) (fun n i s hi hs hw => ?_)
  · refine pk_le 128 128 (fun _ => ?_) (fun z => absurd z (by omega))
    refine pk_loop (σ := Nat → Int32) (fun n i s => wX_init_156 post 15 1548 15 1548 0 0 0 0 0 0 0 0 0 0 0 n (nI i) (fun _ => 0) s2 (fun _ => 0) s (fun _ => 0) (fun _ => 0) (fun _ => 0) (fun _ => 0) (fun _ => 0) (fun _ => 0) (fun _ => 0) (fun _ => 0) (fun _ => 0) (fun _ => 0) (fun _ => 0)) (fun i s => (∀ b, 1 ≤ b → b < 31 → b < i → s b = nI (b + 1)) ∧ (31 < i → s 31 = -1)) 32 1 (fun _ => 0) (by omega) ⟨fun b h1 _ h3 => absurd h1 (by omega), fun z => absurd z (by omega)⟩ (fun n s4 h4 => ?_) (fun n i s hi hs hw => ?_)
    · refine pk_le 32 32 (fun _ => nm_e ?_) (fun z => absurd z (by omega))
      refine pk_loop (σ := Nat → Int32) (fun n i s => wX_init_201 post 15 1548 15 1548 0 0 1 0 0 0 0 0 0 0 0 n (nI i) (fun _ => 0) s2 (fun _ => 0) (upd s4 0 (-1)) (fun _ => 0) (fun _ => 0) s (fun _ => 0) (fun _ => 0) (fun _ => 0) (fun _ => 0) (fun _ => 0) (fun _ => 0) (fun _ => 0) (fun _ => 0)) (fun i s => ∀ k, k < i → s k = -1) 4 0 (fun _ => 0) (by omega) (fun k hk => absurd hk (by omega)) (fun n s7 h7 => ?_) (fun n i s hi hs hw => ?_)
      · refine pk_le 4 4 (fun _ => ?_) (fun z => absurd z (by omega))
        refine ld_K_u (T := []) hp ⟨ld_R_new h2 (fun b h1 h3 => ?_) ?_ pk_us rfl, ⟨Or.inl ⟨rfl, rfl⟩, fun k hk => Or.inl (h7 k hk)⟩, Or.inl rfl⟩ rfl
        · rw [pk_un (by omega)]
          exact h4.1 b h1 h3 (by omega)
        · rw [pk_un (by omega)]
          exact h4.2 (by omega)
      · have hc : (nI i).toNatClampNeg = i := nI_clamp (by omega)
        refine pk_le 4 i (fun z => absurd z (by omega)) (fun _ => ⟨pk_in i 4 hi, nm_r (e' := upd s i (-1)) (by rw [hc]) (nm_r (nI_1 i) (hw _ (fun k hk => ?_)))⟩)
        by_cases e : k = i
        · rw [e, pk_us]
        · rw [pk_un e]
          exact hs k (by omega)
    · have hc : (nI i).toNatClampNeg = i := nI_clamp (by omega)
      refine pk_le 32 i (fun z => absurd z (by omega)) (fun _ => pk_eq i 31 (fun z => ⟨pk_in i 32 hi, nm_r (e' := upd s i (-1)) (by rw [hc]) (nm_r (nI_1 i) (hw _ ⟨fun b h1 h3 h4 => ?_, fun w => ?_⟩))⟩) (fun z => ⟨pk_in i 32 hi, nm_r (e' := upd s i (nI (i + 1))) (by rw [hc, nI_1]) (nm_r (nI_1 i) (hw _ ⟨fun b h1 h3 h4 => ?_, fun w => absurd w (by omega)⟩))⟩))
      · rw [pk_un (by omega)]
        exact hs.1 b h1 h3 (by omega)
      · rw [z, pk_us]
      · by_cases e : b = i
        · rw [e, pk_us]
        · rw [pk_un e]
          exact hs.1 b h1 h3 (by omega)
  · have hc : (nI i).toNatClampNeg = i := nI_clamp (by omega)
    refine pk_le 128 i (fun z => absurd z (by omega)) (fun _ => ⟨pk_in i 128 hi, nm_r (e' := upd s i (-1)) (by rw [hc]) (nm_r (nI_1 i) (hw _ (fun k hk => ?_)))⟩)
    by_cases e : k = i
    · rw [e, pk_us]
    · rw [pk_un e]
      exact hs k (by omega)
end
section
/-! one turn of the law -/
def ld_JK (J : Int32 → Int32 → Int32 → Int32 → Int32 → Int32 → Int32 → Int32 → Int32 → Int32 → Int32 → Int32 → (Nat → Int32) → (Nat → Int32) → (Nat → Int32) → (Nat → Int32) → (Nat → Int32) → (Nat → Int32) → (Nat → Int32) → (Nat → Int32) → (Nat → Int32) → (Nat → Int32) → (Nat → Int32) → (Nat → Int32) → (Nat → Int32) → (Nat → Int32) → (Nat → Int32) → Prop) (i : Nat) : Prop := ∀ (T : List Nat) (fr ab ac pl op ch st ns li : Int32) (a1 a2 a3 a4 a5 a6 a7 a8 a9 a10 a11 a12 a13 a14 a15 : Nat → Int32), ld_iv T fr pl op ch st a1 a2 a4 a5 a6 a7 a8 a9 a10 a11 → J (nI (i + 4)) (nI T.length) 0 fr ab ac pl op ch st ns li a1 a2 a3 a4 a5 a6 a7 a8 a9 a10 a11 a12 a13 a14 a15
theorem ld_JK_u {J : Int32 → Int32 → Int32 → Int32 → Int32 → Int32 → Int32 → Int32 → Int32 → Int32 → Int32 → Int32 → (Nat → Int32) → (Nat → Int32) → (Nat → Int32) → (Nat → Int32) → (Nat → Int32) → (Nat → Int32) → (Nat → Int32) → (Nat → Int32) → (Nat → Int32) → (Nat → Int32) → (Nat → Int32) → (Nat → Int32) → (Nat → Int32) → (Nat → Int32) → (Nat → Int32) → Prop} {i : Nat} {fr ab ac pl op ch st ns li : Int32} {a1 a2 a3 a4 a5 a6 a7 a8 a9 a10 a11 a12 a13 a14 a15 : Nat → Int32} {T : List Nat} (hJ : ld_JK J i) (hi : ld_iv T fr pl op ch st a1 a2 a4 a5 a6 a7 a8 a9 a10 a11) : ∀ x, x = nI i + 4 → J x (nI T.length) 0 fr ab ac pl op ch st ns li a1 a2 a3 a4 a5 a6 a7 a8 a9 a10 a11 a12 a13 a14 a15 := nm_r (nI_add i 4) (hJ _ _ _ _ _ _ _ _ _ _ _ _ _ _ _ _ _ _ _ _ _ _ _ _ _ hi)
theorem ld_no_pos {T : List Nat} {pl : Int32} {a7 : Nat → Int32} (ht : ld_tx T) (hok : ld_ok T pl a7) (hT : T.length ≠ 0) : ¬ ld_no T pl = 0 := by
  rcases hok.1 with ⟨_, e⟩ | ⟨id, hid, e⟩
  · exact absurd (by rw [e]; rfl) hT
  · obtain ⟨P, Q, eT⟩ := List.append_of_mem hid
    have h60 := ht.2.1
    rw [eT, List.length_append, List.length_cons] at h60
    rw [e, ld_no_in eT ht]
    exact nI_ne0 (by omega) (by omega)
theorem ld_632 {J : Int32 → Int32 → Int32 → Int32 → Int32 → Int32 → Int32 → Int32 → Int32 → Int32 → Int32 → Int32 → (Nat → Int32) → (Nat → Int32) → (Nat → Int32) → (Nat → Int32) → (Nat → Int32) → (Nat → Int32) → (Nat → Int32) → (Nat → Int32) → (Nat → Int32) → (Nat → Int32) → (Nat → Int32) → (Nat → Int32) → (Nat → Int32) → (Nat → Int32) → (Nat → Int32) → Prop} {L i : Nat} {xs : Nat → Int32} {kc ks : Nat} {fr ab ac pl op ch st ns li : Int32} {a1 a2 a3 a4 a5 a6 a7 a8 a9 a10 a11 a12 a13 a14 a15 : Nat → Int32} {T : List Nat} (hJ : ld_JK J i) (hi : ld_iv T fr pl op ch st a1 a2 a4 a5 a6 a7 a8 a9 a10 a11) : wL_law_632 (fun r => r = 1) L xs J (nI i) kc ks (nI T.length) 0 fr ab ac pl op ch st ns li a1 a2 a3 a4 a5 a6 a7 a8 a9 a10 a11 a12 a13 a14 a15 := by
  have hR := hi.1
  have hok := hi.2.1
  have htx := ld_R_tx hR
  have h60 := htx.2.1
  unfold wL_law_632
  refine ld_present hR hok.1 ?_
  by_cases hT : T.length = 0
  · have eT : T = [] := List.length_eq_zero_iff.mp hT
    have ep : ld_no T pl = 0 := by
      rcases hok.1 with ⟨e, _⟩ | ⟨id, hid, _⟩
      · rw [e]
        rfl
      · rw [eT] at hid
        exact absurd hid (by simp)
    refine br_t ep ?_
    unfold wL_law_644
    refine br_t (by rw [hT]; rfl) ?_
    unfold wL_law_656
    exact br_t rfl (ld_JK_u hJ hi)
  · refine br_f (ld_no_pos htx hok hT) ?_
    unfold wL_law_644
    refine br_f (nI_ne0 (by omega) (by omega)) ?_
    unfold wL_law_656
    exact br_t rfl (ld_JK_u hJ hi)
theorem ld_594 {v : Int32} {J : Int32 → Int32 → Int32 → Int32 → Int32 → Int32 → Int32 → Int32 → Int32 → Int32 → Int32 → Int32 → (Nat → Int32) → (Nat → Int32) → (Nat → Int32) → (Nat → Int32) → (Nat → Int32) → (Nat → Int32) → (Nat → Int32) → (Nat → Int32) → (Nat → Int32) → (Nat → Int32) → (Nat → Int32) → (Nat → Int32) → (Nat → Int32) → (Nat → Int32) → (Nat → Int32) → Prop} {L i : Nat} {xs : Nat → Int32} {kc ks : Nat} {fr ab ac pl op ch st ns li : Int32} {a1 a2 a3 a4 a5 a6 a7 a8 a9 a10 a11 a12 a13 a14 a15 : Nat → Int32} {T : List Nat} (hJ : ld_JK J i) (hi : ld_iv T fr pl op ch st a1 a2 a4 a5 a6 a7 a8 a9 a10 a11) : wL_law_594 (fun r => r = 1) L xs J (nI i) v kc ks (nI T.length) 0 fr ab ac pl op ch st ns li a1 a2 a3 a4 a5 a6 a7 a8 a9 a10 a11 a12 a13 a14 a15 := by
  have hR := hi.1
  have hok := hi.2.1
  have h60 := (ld_R_tx hR).2.1
  unfold wL_law_594
  refine ld_find hR hok.1 (fun f li a15 hf hv => br_f (nI_pos (by omega)) ?_)
  refine pk_lt T.length f (fun z => absurd z (by omega)) (fun _ => pk_le f 0 (fun z => ?_) (fun z => ?_))
  · exact ld_632 hJ hi
  · refine ld_line hR (by omega) (fun ab ac => br_t (hv z) ?_)
    exact ld_632 hJ hi
theorem ld_bput {v : Int32} {a : Nat} {J : Int32 → Int32 → Int32 → Int32 → Int32 → Int32 → Int32 → Int32 → Int32 → Int32 → Int32 → Int32 → (Nat → Int32) → (Nat → Int32) → (Nat → Int32) → (Nat → Int32) → (Nat → Int32) → (Nat → Int32) → (Nat → Int32) → (Nat → Int32) → (Nat → Int32) → (Nat → Int32) → (Nat → Int32) → (Nat → Int32) → (Nat → Int32) → (Nat → Int32) → (Nat → Int32) → Prop} {L i : Nat} {xs : Nat → Int32} {kc ks : Nat} {fr ab ac pl op ch st ns li : Int32} {a1 a2 a3 a4 a5 a6 a7 a8 a9 a10 a11 a12 a13 a14 a15 : Nat → Int32} {T : List Nat} (hJ : ld_JK J i) (hi : ld_iv T fr pl op ch st a1 a2 a4 a5 a6 a7 a8 a9 a10 a11) (ha : a ≤ T.length) (x : Int32) (hx : x = nI T.length) :
    wpX_put (fun r u => match u with
      | (c, fb, fr, ab, ac, pl, op, ch, st, ns, li, a1, a2, a3, a4, a5, a6, a7, a8, a9, a10, a11, a12, a13, a14, a15) => (x = 60 → wL_law_168 (fun r => r = 1) L xs J (nI i) x v r (-1) r kc ks c fb fr ab ac pl op ch st ns li a1 a2 a3 a4 a5 a6 a7 a8 a9 a10 a11 a12 a13 a14 a15) ∧ (¬ x = 60 → wL_law_168 (fun r => r = 1) L xs J (nI i) x v r (nI a + 1) r kc ks c fb fr ab ac pl op ch st ns li a1 a2 a3 a4 a5 a6 a7 a8 a9 a10 a11 a12 a13 a14 a15)) (nI T.length, 0, fr, ab, ac, pl, op, ch, st, ns, li, a1, a2, a3, a4, a5, a6, a7, a8, a9, a10, a11, a12, a13, a14, a15) (nI a) v := by
  subst hx
  have hR := hi.1
  have hok := hi.2.1
  have h60 := (ld_R_tx hR).2.1
  refine ld_put hR hok ha (fun z => ?_) (fun z => ?_)
  · refine br_t (by rw [z]; rfl) ?_
    unfold wL_law_168
    refine br_t rfl (br_f (by decide) ?_)
    unfold wL_law_189
    refine br_t rfl (br_t (by decide) ?_)
    unfold wL_law_219
    exact ld_594 hJ hi
  · intro T' fr ab ac pl op ch st ns li a1 a2 a3 a4 a5 a6 a7 a8 a9 a10 a11 a12 a13 a14 a15 hi' hφ
    have hR' := hi'.1
    have hok' := hi'.2.1
    refine pk_eq T.length 60 (fun w => absurd w (by omega)) (fun _ => ?_)
    unfold wL_law_168
    refine br_t (nI_1 a).symm (br_t (nI_pos' (by omega)) ?_)
    unfold wL_law_189
    refine br_t (by rw [hφ.1, nI_1]) (br_f (nI_nle (by omega) (by omega)) ?_)
    refine ld_line hR' (by omega) (fun ab ac => br_t hφ.2.1 ?_)
    refine ld_present hR' hok'.1 (br_t hφ.2.2 ?_)
    unfold wL_law_219
    exact ld_594 hJ hi'
theorem ld_594K {v : Int32} {J : Int32 → Int32 → Int32 → Int32 → Int32 → Int32 → Int32 → Int32 → Int32 → Int32 → Int32 → Int32 → (Nat → Int32) → (Nat → Int32) → (Nat → Int32) → (Nat → Int32) → (Nat → Int32) → (Nat → Int32) → (Nat → Int32) → (Nat → Int32) → (Nat → Int32) → (Nat → Int32) → (Nat → Int32) → (Nat → Int32) → (Nat → Int32) → (Nat → Int32) → (Nat → Int32) → Prop} {L i : Nat} {xs : Nat → Int32} {kc ks : Nat} {post : Int32 → St1 → Prop} (hJ : ld_JK J i) (hp : ∀ r (c fr ab ac pl op ch st ns li : Int32) (a1 a2 a3 a4 a5 a6 a7 a8 a9 a10 a11 a12 a13 a14 a15 : Nat → Int32), wL_law_594 (fun r => r = 1) L xs J (nI i) v kc ks c 0 fr ab ac pl op ch st ns li a1 a2 a3 a4 a5 a6 a7 a8 a9 a10 a11 a12 a13 a14 a15 → post r (c, 0, fr, ab, ac, pl, op, ch, st, ns, li, a1, a2, a3, a4, a5, a6, a7, a8, a9, a10, a11, a12, a13, a14, a15)) : ∀ r, ld_K (post r) (fun _ _ _ => True) := by
  intro r T' fr ab ac pl op ch st ns li a1 a2 a3 a4 a5 a6 a7 a8 a9 a10 a11 a12 a13 a14 a15 hi' _
  exact hp _ _ _ _ _ _ _ _ _ _ _ _ _ _ _ _ _ _ _ _ _ _ _ _ _ _ (ld_594 hJ hi')
end
section
/-- the calls of one turn -/
theorem ld_134 {v z0 : Int32} {kk a d lo hh : Nat} {J : Int32 → Int32 → Int32 → Int32 → Int32 → Int32 → Int32 → Int32 → Int32 → Int32 → Int32 → Int32 → (Nat → Int32) → (Nat → Int32) → (Nat → Int32) → (Nat → Int32) → (Nat → Int32) → (Nat → Int32) → (Nat → Int32) → (Nat → Int32) → (Nat → Int32) → (Nat → Int32) → (Nat → Int32) → (Nat → Int32) → (Nat → Int32) → (Nat → Int32) → (Nat → Int32) → Prop} {L i : Nat} {xs : Nat → Int32} {kc ks : Nat} {fr ab ac pl op ch st ns li : Int32} {a1 a2 a3 a4 a5 a6 a7 a8 a9 a10 a11 a12 a13 a14 a15 : Nat → Int32} {T : List Nat} (hJ : ld_JK J i) (hi : ld_iv T fr pl op ch st a1 a2 a4 a5 a6 a7 a8 a9 a10 a11) (hlh : lo ≤ hh) (hhT : hh ≤ T.length) (ha : a ≤ T.length) (hd : d ≤ T.length) (hz : (lo = 0 ∧ z0 = 0) ∨ (1 ≤ lo ∧ z0 = 1)) (hiL : i + 4 ≤ L) (hL : L ≤ 260) (hk : kk < 16) :
    wL_law_134 (fun r => r = 1) L xs J (nI i) (nI kk) (nI T.length) (nI a) v (nI d) (nI lo) (nI hh) z0 kc ks (nI T.length) 0 fr ab ac pl op ch st ns li a1 a2 a3 a4 a5 a6 a7 a8 a9 a10 a11 a12 a13 a14 a15 := by
  have hR := hi.1
  have hok := hi.2.1
  have h60 := (ld_R_tx hR).2.1
  have hz0 : lo = 0 → z0 = 0 := fun e => by
    rcases hz with w | w
    · exact w.2
    · exact absurd w.1 (by omega)
  have hz1 : 1 ≤ lo → ¬ z0 = 0 := fun e => by
    rcases hz with w | w
    · exact absurd w.1 (by omega)
    · rw [w.2]
      decide
  unfold wL_law_134
  refine pk_lt 4 kk (fun k4 => pk_eq kk 5 (fun _ => ?_) (fun _ => pk_lt 7 kk (fun _ => pk_eq kk 8 (fun _ => ?_) (fun _ => pk_eq kk 9 (fun _ => ?_) (fun _ => pk_lt 11 kk (fun _ => pk_eq kk 12 (fun _ => ?_) (fun _ => pk_eq kk 13 (fun _ => ?_) (fun _ => ?_))) (fun _ => ?_)))) (fun _ => ?_))) (fun _ => ?_)
  · refine ld_remove hR hok hlh hhT (fun z => br_t (hz0 z) ?_) (fun z => ?_)
    · unfold wL_law_255
      refine br_t rfl (br_f (by decide) ?_)
      unfold wL_law_277
      exact br_t rfl (ld_594 hJ hi)
    · intro T' fr ab ac pl op ch st ns li a1 a2 a3 a4 a5 a6 a7 a8 a9 a10 a11 a12 a13 a14 a15 hi' hφ
      refine br_f (hz1 z) ?_
      unfold wL_law_255
      refine br_t (by rw [pk_sub hlh, nI_1]) (br_t (nI_pos' (by omega)) ?_)
      unfold wL_law_277
      exact br_t (by rw [pk_sub (by omega), hφ]) (ld_594 hJ hi')
  · have e404 : ∀ (x : Int32), x = -1 → wL_law_404 (fun r => r = 1) L xs J (nI i) (nI T.length) v (nI d) (nI lo) (nI hh) x 0 kc ks (nI T.length) 0 fr ab ac pl op ch st ns li a1 a2 a3 a4 a5 a6 a7 a8 a9 a10 a11 a12 a13 a14 a15 := by
      intro x hx
      unfold wL_law_404
      refine br_t rfl ?_
      unfold wL_law_427
      refine br_t hx (br_t rfl ?_)
      unfold wL_law_454
      exact br_t rfl (ld_594 hJ hi)
    have ex : ((nI T.length + nI hh) - nI lo) + 1 = nI (T.length + hh - lo + 1) := by rw [nI_add, pk_sub (by omega), nI_1]
    refine ld_copy hR hok hlh hhT hd (fun z => ?_) (fun z w => ?_)
    · by_cases e : lo = 0
      · refine br_t (hz0 e) ?_
        unfold wL_law_403
        exact e404 _ rfl
      · refine br_f (hz1 (by omega)) (br_t (by rw [ex]; exact nI_lt (a := 60) (by omega) (by omega)) ?_)
        unfold wL_law_403
        exact e404 _ rfl
    · intro T' fr ab ac pl op ch st ns li a1 a2 a3 a4 a5 a6 a7 a8 a9 a10 a11 a12 a13 a14 a15 hi' hφ
      refine br_f (hz1 z) (br_f (by rw [ex]; exact nI_nlt (a := 60) w (by omega)) ?_)
      unfold wL_law_404
      refine br_f (by decide) ?_
      unfold wL_law_427
      refine br_t ?_ (br_f (by decide) ?_)
      · rw [nI_add, pk_sub (by omega), nI_1]
        congr 1
        omega
      · unfold wL_law_454
        refine br_t ?_ (ld_594 hJ hi')
        rw [ex, hφ]
        congr 1
        omega
  · refine ld_replace hR hok hlh hhT (ld_594 hJ hi) (ld_594K hJ (fun _ _ _ _ _ _ _ _ _ _ _ _ _ _ _ _ _ _ _ _ _ _ _ _ _ _ h => h))
  · exact ld_mark hi ha (ld_594K hJ (fun _ _ _ _ _ _ _ _ _ _ _ _ _ _ _ _ _ _ _ _ _ _ _ _ _ _ h => h))
  · exact ld_go hi ha (ld_594K hJ (fun _ _ _ _ _ _ _ _ _ _ _ _ _ _ _ _ _ _ _ _ _ _ _ _ _ _ h => h))
  · refine ld_state hR hok (fun ab ac => ?_)
    refine ld_undo2 hi (fun _ _ _ _ _ _ _ _ _ _ _ _ _ _ _ _ _ _ _ _ _ _ _ _ _ _ h => h) (fun r fr ab ac op st ns a2 a3 a4 a5 a6 a7' a8 a9 a10 a11 a12 a13 a14 hi' h7 => br_t rfl ?_)
    refine ld_state hi'.1 hi'.2.1 (fun ab ac => br_t (ld_H_c h7) ?_)
    exact pk_eq kk 15 (fun _ => ld_undo hi' (ld_594K hJ (fun _ _ _ _ _ _ _ _ _ _ _ _ _ _ _ _ _ _ _ _ _ _ _ _ _ _ h => h))) (fun _ => ld_594 hJ hi')
  · obtain ⟨j, hj, ej⟩ := pk_andE (xs (nI i + 3).toNatClampNeg >>> ((8 : Int32) &&& 31)) (m := 255) 8 (by decide)
    have e5 : ((xs (nI i + 3).toNatClampNeg >>> ((8 : Int32) &&& 31)) &&& 255) - ((xs (nI i + 3).toNatClampNeg >>> ((8 : Int32) &&& 31)) &&& 255) / 5 * 5 = nI (j % 5) := by
      rw [ej]
      exact pk_rem (d := 5) (by omega) (by omega) (by omega)
    refine ⟨pk_in (i + 3) L (by omega) (nI_add i 3), by decide, ?_⟩
    rw [e5]
    exact ld_all hR hok (by omega) (ld_594K hJ (fun _ _ _ _ _ _ _ _ _ _ _ _ _ _ _ _ _ _ _ _ _ _ _ _ _ _ h => h))
  · refine ld_move hR hok hlh hhT hd (fun z => br_t rfl ?_) (fun z w r hr hr60 => ?_)
    · by_cases e : lo = 0
      · refine br_t (hz0 e) ?_
        unfold wL_law_347
        exact br_t rfl (ld_594 hJ hi)
      · refine br_f (hz1 (by omega)) (pk_lt d lo (fun w => absurd w (by omega)) (fun _ => pk_lt d hh (fun _ => ?_) (fun w => absurd w (by omega))))
        unfold wL_law_347
        exact br_t rfl (ld_594 hJ hi)
    · intro T' fr ab ac pl op ch st ns li a1 a2 a3 a4 a5 a6 a7 a8 a9 a10 a11 a12 a13 a14 a15 hi' hφ
      refine br_f (ld_ne (by omega)) (br_f (hz1 z) ?_)
      refine ld_present hi'.1 hi'.2.1.1 (br_t hφ.2 ?_)
      unfold wL_law_347
      exact br_t (by rw [hφ.1]) (ld_594 hJ hi')
  · exact ld_bput hJ hi ha (nI T.length) rfl
theorem ld_121 {v : Int32} {kk a d lo hh : Nat} {J : Int32 → Int32 → Int32 → Int32 → Int32 → Int32 → Int32 → Int32 → Int32 → Int32 → Int32 → Int32 → (Nat → Int32) → (Nat → Int32) → (Nat → Int32) → (Nat → Int32) → (Nat → Int32) → (Nat → Int32) → (Nat → Int32) → (Nat → Int32) → (Nat → Int32) → (Nat → Int32) → (Nat → Int32) → (Nat → Int32) → (Nat → Int32) → (Nat → Int32) → (Nat → Int32) → Prop} {L i : Nat} {xs : Nat → Int32} {kc ks : Nat} {fr ab ac pl op ch st ns li : Int32} {a1 a2 a3 a4 a5 a6 a7 a8 a9 a10 a11 a12 a13 a14 a15 : Nat → Int32} {T : List Nat} (hJ : ld_JK J i) (hi : ld_iv T fr pl op ch st a1 a2 a4 a5 a6 a7 a8 a9 a10 a11) (hlh : lo ≤ hh) (hhT : hh ≤ T.length) (ha : a ≤ T.length) (hd : d ≤ T.length) (hiL : i + 4 ≤ L) (hL : L ≤ 260) (hk : kk < 16) :
    wL_law_121 (fun r => r = 1) L xs J (nI i) (nI kk) (nI T.length) (nI a) v (nI d) (nI lo) (nI hh) kc ks (nI T.length) 0 fr ab ac pl op ch st ns li a1 a2 a3 a4 a5 a6 a7 a8 a9 a10 a11 a12 a13 a14 a15 := by
  have h60 := (ld_R_tx hi.1).2.1
  unfold wL_law_121
  exact pk_lt lo 1 (fun z => ld_134 hJ hi hlh hhT ha hd (Or.inl ⟨by omega, rfl⟩) hiL hL hk) (fun z => ld_134 hJ hi hlh hhT ha hd (Or.inr ⟨z, rfl⟩) hiL hL hk)
/-- the law's loop -/
theorem ld_law10 {L kc ks : Nat} {xs : Nat → Int32} (hL : L ≤ 260) : ∀ (n i : Nat) (T : List Nat) (fr ab ac pl op ch st ns li : Int32) (a1 a2 a3 a4 a5 a6 a7 a8 a9 a10 a11 a12 a13 a14 a15 : Nat → Int32), L < n + i → i ≤ L → ld_iv T fr pl op ch st a1 a2 a4 a5 a6 a7 a8 a9 a10 a11 → wL_law_10 (fun r => r = 1) L xs kc ks n (nI i) (nI T.length) 0 fr ab ac pl op ch st ns li a1 a2 a3 a4 a5 a6 a7 a8 a9 a10 a11 a12 a13 a14 a15 := by
  intro n
  induction n with
  | zero => intro i T fr ab ac pl op ch st ns li a1 a2 a3 a4 a5 a6 a7 a8 a9 a10 a11 a12 a13 a14 a15 h1 h2; omega
  | succ n ih =>
    intro i T fr ab ac pl op ch st ns li a1 a2 a3 a4 a5 a6 a7 a8 a9 a10 a11 a12 a13 a14 a15 h1 h2 hi
    have h60 := (ld_R_tx hi.1).2.1
    refine pk_lt L (i + 4) (fun z => ?_) (fun z => ?_) rfl (nI_add i 4)
    · refine ld_state hi.1 hi.2.1 (fun ab ac => ?_)
      refine ld_undo2 hi (fun _ _ _ _ _ _ _ _ _ _ _ _ _ _ _ _ _ _ _ _ _ _ _ _ _ _ h => h) (fun r fr ab ac op st ns a2 a3 a4 a5 a6 a7' a8 a9 a10 a11 a12 a13 a14 hi' h7 => br_t rfl ?_)
      exact ld_state hi'.1 hi'.2.1 (fun ab ac => br_t (ld_H_c h7) rfl)
    · have hJ : ld_JK (wL_law_10 (fun r => r = 1) L xs kc ks n) i := fun T' fr ab ac pl op ch st ns li a1 a2 a3 a4 a5 a6 a7 a8 a9 a10 a11 a12 a13 a14 a15 hi' => ih (i + 4) T' fr ab ac pl op ch st ns li a1 a2 a3 a4 a5 a6 a7 a8 a9 a10 a11 a12 a13 a14 a15 (by omega) z hi'
      obtain ⟨kk, hk, ek⟩ := pk_andE (xs (nI i).toNatClampNeg) (m := 15) 4 (by decide)
      obtain ⟨ja, hja, eja⟩ := pk_andE (xs (nI i + 1).toNatClampNeg) (m := 255) 8 (by decide)
      obtain ⟨jb, hjb, ejb⟩ := pk_andE (xs (nI i + 2).toNatClampNeg) (m := 255) 8 (by decide)
      obtain ⟨jc, hjc, ejc⟩ := pk_andE (xs (nI i + 3).toNatClampNeg >>> ((3 : Int32) &&& 31)) (m := 255) 8 (by decide)
      have hn0 : ¬ nI T.length + 1 = 0 := by
        rw [nI_1]
        exact nI_ne0 (by omega) (by omega)
      have hm : ∀ j, j < 256 → nI j - nI j / (nI T.length + 1) * (nI T.length + 1) = nI (j % (T.length + 1)) := fun j hj => by
        rw [nI_1]
        exact pk_rem (by omega) (by omega) (by omega)
      have ml : ∀ j, j % (T.length + 1) ≤ T.length := fun j => by
        have := Nat.mod_lt j (show T.length + 1 > 0 by omega)
        omega
      have la := ml ja
      have lb := ml jb
      have lc := ml jc
      refine ⟨pk_in i L (by omega), nm_r ek ?_⟩
      refine ⟨pk_in (i + 1) L (by omega) (nI_1 i), hn0, nm_r (e' := nI (ja % (T.length + 1))) (by rw [eja]; exact hm ja hja) ⟨pk_in (i + 2) L (by omega) (nI_add i 2), hn0, nm_r (e' := nI (jb % (T.length + 1))) (by rw [ejb]; exact hm jb hjb) ⟨pk_in (i + 3) L (by omega) (nI_add i 3), nm_e ⟨pk_in (i + 3) L (by omega) (nI_add i 3), hn0, nm_r (e' := nI (jc % (T.length + 1))) (by rw [ejc]; exact hm jc hjc) ?_⟩⟩⟩⟩
      refine pk_le (jb % (T.length + 1)) (ja % (T.length + 1)) (fun w => ?_) (fun w => ?_) rfl rfl (by omega) (by omega)
      · unfold wL_law_105
        exact br_t (nI_le w (by omega)) (ld_121 hJ hi w la la lc z hL hk)
      · unfold wL_law_105
        exact br_f (nI_ge w (by omega)) (ld_121 hJ hi (by omega) lb la lc z hL hk)
theorem i_vc (xs : Nat → Int32) (L : Nat) (hL : L ≤ 260) : wpL_law (fun r => r = 1) L xs := by
  refine ⟨15, 1548, by decide, by decide, ld_init ?_⟩
  intro T' fr ab ac pl op ch st ns li a1 a2 a3 a4 a5 a6 a7 a8 a9 a10 a11 a12 a13 a14 a15 hi' hφ
  exact ⟨L + 1, ld_law10 hL (L + 1) 0 T' _ _ _ _ _ _ _ _ _ _ _ _ _ _ _ _ _ _ _ _ _ _ _ _ (by omega) (by omega) hi'⟩
end
