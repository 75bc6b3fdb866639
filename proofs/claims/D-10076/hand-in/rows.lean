section
/-! ===== lists, arrays of numbers ===== -/
theorem aw_pig {n : Nat} {l : List Nat} (h : l.Nodup) (hl : ∀ x ∈ l, x < n) : l.length ≤ n := by
  have h1 := h.length_le_of_subset (l₂ := List.range n) (fun x hx => List.mem_range.mpr (hl x hx))
  rwa [List.length_range] at h1
theorem aw_pig1 {n a : Nat} {l : List Nat} (h : l.Nodup) (hl : ∀ x ∈ l, x < n) (ha : a < n) (hn : a ∉ l) : l.length < n := by
  have h1 := aw_pig (n := n) (l := a :: l) (List.nodup_cons.mpr ⟨hn, h⟩) (fun x hx => by
    rcases List.mem_cons.mp hx with e | hx
    · rw [e]; exact ha
    · exact hl x hx)
  rw [List.length_cons] at h1
  omega
/-- the places c, c+1, .. hold g of the numbers of a list -/
def aw_ar (g : Nat → Int32) (m : Nat → Int32) : Nat → List Nat → Prop
  | _, [] => True
  | c, a :: l => m c = g a ∧ aw_ar g m (c + 1) l
theorem aw_ar_fr {g m m' : Nat → Int32} : ∀ {l : List Nat} {c c' : Nat}, aw_ar g m c l → (∀ i, i < l.length → m' (c' + i) = m (c + i)) → aw_ar g m' c' l := by
  intro l
  induction l with
  | nil => intro c c' _ _; trivial
  | cons a l ih =>
    intro c c' h hf
    refine ⟨(hf 0 (by simp)).trans h.1, ih h.2 (fun i hi => ?_)⟩
    have := hf (i + 1) (by simp; omega)
    rw [show c' + 1 + i = c' + (i + 1) by omega, show c + 1 + i = c + (i + 1) by omega]
    exact this
theorem aw_ar_app {g m : Nat → Int32} {r : List Nat} : ∀ {l : List Nat} {c : Nat}, aw_ar g m c (l ++ r) ↔ aw_ar g m c l ∧ aw_ar g m (c + l.length) r := by
  intro l
  induction l with
  | nil => intro c; exact ⟨fun h => ⟨trivial, h⟩, fun h => h.2⟩
  | cons a l ih =>
    intro c
    have e : c + (a :: l).length = c + 1 + l.length := by simp; omega
    rw [e]
    constructor
    · intro h
      have h2 := ih.mp h.2
      exact ⟨⟨h.1, h2.1⟩, h2.2⟩
    · intro h
      exact ⟨h.1.1, ih.mpr ⟨h.1.2, h.2⟩⟩
theorem aw_ar_get {g m : Nat → Int32} : ∀ {l : List Nat} {c k : Nat} (_ : aw_ar g m c l) (hk : k < l.length), m (c + k) = g l[k] := by
  intro l
  induction l with
  | nil => intro c k _ hk; exact absurd hk (by simp)
  | cons a l ih =>
    intro c k h hk
    cases k with
    | zero => exact h.1
    | succ k =>
      have := ih h.2 (k := k) (by simp at hk; omega)
      rw [show c + (k + 1) = c + 1 + k by omega]
      exact this
/-! ===== the log: one list of kept cells a level ===== -/
def aw_ll (j : Nat) (s : (Nat → Int32)) (l : List Nat) (a2 a3 a4 a5 : (Nat → Int32)) : Prop :=
  l.Nodup ∧ (∀ x ∈ l, x < 340) ∧ a5 j = nI l.length ∧ aw_ar nI a2 (340 * j) l ∧ aw_ar s a3 (340 * j) l ∧ ∀ x, x < 340 → a4 (340 * j + x) = if x ∈ l then 1 else 0
def aw_log : List (Nat → Int32) → (Nat → Int32) → (Nat → Int32) → (Nat → Int32) → (Nat → Int32) → (Nat → Int32) → Prop
  | [], _, _, _, _, _ => True
  | s :: S, m, a2, a3, a4, a5 => (∃ l, aw_ll S.length s l a2 a3 a4 a5 ∧ ∀ x, x ∉ l → s x = m x) ∧ aw_log S s a2 a3 a4 a5
def aw_emp (o : Nat) (a4 a5 : (Nat → Int32)) : Prop := ∀ j, o ≤ j → j < 4 → a5 j = 0 ∧ ∀ x, x < 340 → a4 (340 * j + x) = 0
/-- level i is the same in both -/
def aw_eqv (i : Nat) (a2 a3 a4 a5 b2 b3 b4 b5 : (Nat → Int32)) : Prop := b5 i = a5 i ∧ ∀ x, x < 340 → b2 (340 * i + x) = a2 (340 * i + x) ∧ b3 (340 * i + x) = a3 (340 * i + x) ∧ b4 (340 * i + x) = a4 (340 * i + x)
theorem aw_eqv_refl (i : Nat) (a2 a3 a4 a5 : (Nat → Int32)) : aw_eqv i a2 a3 a4 a5 a2 a3 a4 a5 := ⟨rfl, fun _ _ => ⟨rfl, rfl, rfl⟩⟩
theorem aw_eqv_trans {i : Nat} {a2 a3 a4 a5 b2 b3 b4 b5 c2 c3 c4 c5 : (Nat → Int32)} (h : aw_eqv i a2 a3 a4 a5 b2 b3 b4 b5) (h' : aw_eqv i b2 b3 b4 b5 c2 c3 c4 c5) : aw_eqv i a2 a3 a4 a5 c2 c3 c4 c5 :=
  ⟨h'.1.trans h.1, fun x hx => ⟨(h'.2 x hx).1.trans (h.2 x hx).1, (h'.2 x hx).2.1.trans (h.2 x hx).2.1, (h'.2 x hx).2.2.trans (h.2 x hx).2.2⟩⟩
theorem aw_ll_fr {j : Nat} {s : (Nat → Int32)} {l : List Nat} {a2 a3 a4 a5 b2 b3 b4 b5 : (Nat → Int32)} (h : aw_ll j s l a2 a3 a4 a5) (he : aw_eqv j a2 a3 a4 a5 b2 b3 b4 b5) : aw_ll j s l b2 b3 b4 b5 := by
  obtain ⟨h1, h2, h3, h4, h5, h6⟩ := h
  have hp := aw_pig h1 h2
  refine ⟨h1, h2, he.1.trans h3, aw_ar_fr h4 (fun i hi => (he.2 i (by omega)).1), aw_ar_fr h5 (fun i hi => (he.2 i (by omega)).2.1), fun x hx => ?_⟩
  exact (he.2 x hx).2.2.trans (h6 x hx)
theorem aw_log_fr {a2 a3 a4 a5 b2 b3 b4 b5 : (Nat → Int32)} : ∀ {S : List (Nat → Int32)} {m : (Nat → Int32)}, aw_log S m a2 a3 a4 a5 → (∀ i, i < S.length → aw_eqv i a2 a3 a4 a5 b2 b3 b4 b5) → aw_log S m b2 b3 b4 b5 := by
  intro S
  induction S with
  | nil => intro m _ _; trivial
  | cons s S ih =>
    intro m h hf
    obtain ⟨⟨l, h1, h2⟩, h3⟩ := h
    exact ⟨⟨l, aw_ll_fr h1 (hf S.length (by simp)), h2⟩, ih h3 (fun i hi => hf i (by simp; omega))⟩
/-- a state: its cells are m, the saved cells of the transactions are S, the innermost first -/
def aw_R (S : List (Nat → Int32)) (m : (Nat → Int32)) (u : St1) : Prop := match u with
  | (f0, f1, f2, f3, f4, a1, a2, a3, a4, a5, a6, a7, a8, a9, a10, a11, a12, a13) => f0 = nI S.length ∧ a1 = m ∧ S.length ≤ 4 ∧ aw_log S m a2 a3 a4 a5 ∧ aw_emp S.length a4 a5
def aw_K (S : List (Nat → Int32)) (m : (Nat → Int32)) (post : St1 → Prop) : Prop := ∀ (f1 f2 f3 f4 : Int32) (a2 a3 a4 a5 a6 a7 a8 a9 a10 a11 a12 a13 : Nat → Int32), aw_R S m (nI S.length, f1, f2, f3, f4, m, a2, a3, a4, a5, a6, a7, a8, a9, a10, a11, a12, a13) → post (nI S.length, f1, f2, f3, f4, m, a2, a3, a4, a5, a6, a7, a8, a9, a10, a11, a12, a13)
theorem aw_Ke {S : List (Nat → Int32)} {m : (Nat → Int32)} {post : St1 → Prop} {u : St1} (H : aw_K S m post) (h : aw_R S m u) : post u := by
  obtain ⟨f0, f1, f2, f3, f4, a1, a2, a3, a4, a5, a6, a7, a8, a9, a10, a11, a12, a13⟩ := u
  obtain ⟨rfl, rfl, h⟩ := h
  exact H f1 f2 f3 f4 a2 a3 a4 a5 a6 a7 a8 a9 a10 a11 a12 a13 ⟨rfl, rfl, h⟩
/-- the cells of a state -/
def aw_m (u : St1) : (Nat → Int32) := u.2.2.2.2.2.1
theorem aw_Rm {S : List (Nat → Int32)} {m : (Nat → Int32)} {u : St1} (h : aw_R S m u) : aw_m u = m := by
  obtain ⟨f0, f1, f2, f3, f4, a1, a2, a3, a4, a5, a6, a7, a8, a9, a10, a11, a12, a13⟩ := u
  exact h.2.1
/-! ===== addresses ===== -/
theorem aw_n2 (a b c : Nat) : nI a + nI b + nI c = nI (a + b + c) := by rw [nI_add, nI_add]
theorem aw_na {post : Int32 → Prop} {x : Int32} {u : St2} (n : Nat) (hx : x = nI n) (h : post (nI (16 + 7 * n))) : wpX_nodeAt post u x := by
  subst hx
  have e : (16 : Int32) + 7 * nI n = nI (16 + 7 * n) := by
    show nI 16 + nI 7 * nI n = _
    rw [pk_mul, nI_add]
  unfold wpX_nodeAt
  rw [e]
  exact h
theorem aw_ac {post : Int32 → Prop} {x : Int32} {u : St2} (n : Nat) (hx : x = nI n) (h : post (nI (100 + 10 * n))) : wpX_arrowCell post u x := by
  subst hx
  have e : (100 : Int32) + 10 * nI n = nI (100 + 10 * n) := by
    show nI 100 + nI 10 * nI n = _
    rw [pk_mul, nI_add]
  unfold wpX_arrowCell
  rw [e]
  exact h
theorem aw_340 (j k : Nat) : (340 : Int32) * nI j + nI k = nI (340 * j + k) := by
  show nI 340 * nI j + nI k = _
  rw [pk_mul, nI_add]
theorem aw_pred (n : Nat) : nI (n + 1) - 1 = nI n := nI_pred n
/-! ===== keepOld, put, add ===== -/
theorem aw_keepOld {post : St1 → Prop} {f0 f1 f2 f3 f4 : Int32} {a2 a3 a4 a5 a6 a7 a8 a9 a10 a11 a12 a13 : Nat → Int32} {a1 : (Nat → Int32)} {j k : Nat} {s : (Nat → Int32)} {l : List Nat} {x0 x1 v : Int32} (hj : j < 4) (hk : k < 340) (e0 : x0 = nI j) (e1 : x1 = nI k)
    (h : aw_ll j s l a2 a3 a4 a5) (hv : k ∉ l → v = s k)
    (H : ∀ l' b2 b3 b4 b5, (∀ x, x ∈ l' ↔ x ∈ l ∨ x = k) → aw_ll j s l' b2 b3 b4 b5 → (∀ i, i ≠ j → aw_eqv i a2 a3 a4 a5 b2 b3 b4 b5) → post (f0, f1, f2, f3, f4, a1, b2, b3, b4, b5, a6, a7, a8, a9, a10, a11, a12, a13)) :
    wpX_keepOld post (f0, f1, f2, f3, f4, a1, a2, a3, a4, a5, a6, a7, a8, a9, a10, a11, a12, a13) x0 x1 v := by
  subst e0 e1
  have c1 : (nI (340 * j + k)).toNatClampNeg = 340 * j + k := nI_clamp (by omega)
  have c2 : (nI j).toNatClampNeg = j := nI_clamp (by omega)
  have h0 := h
  obtain ⟨h1, h2, h3, h4, h5, h6⟩ := h
  have hp := aw_pig h1 h2
  refine nm_r (aw_340 j k) ⟨pk_in (340 * j + k) 1360 (by omega), ?_⟩
  by_cases hm : k ∈ l
  · refine br_f (by rw [c1, h6 k hk, if_pos hm]; decide) ?_
    exact H l a2 a3 a4 a5 (fun x => ⟨Or.inl, fun z => z.elim id (fun e => by rw [e]; exact hm)⟩) h0 (fun i _ => aw_eqv_refl i a2 a3 a4 a5)
  · have hlt := aw_pig1 h1 h2 hk hm
    have c3 : (nI (340 * j + l.length)).toNatClampNeg = 340 * j + l.length := nI_clamp (by omega)
    have e5 : (340 : Int32) * nI j + a5 (nI j).toNatClampNeg = nI (340 * j + l.length) := by rw [c2, h3, aw_340]
    have e6 : upd a5 (nI j).toNatClampNeg (a5 (nI j).toNatClampNeg + 1) = upd a5 j (nI (l.length + 1)) := by rw [c2, h3, nI_1]
    refine br_t (by rw [c1, h6 k hk, if_neg hm]) ⟨pk_in (340 * j + k) 1360 (by omega), nm_r (congrArg (fun z => upd a4 z 1) c1) ⟨pk_in j 4 hj, nm_r e5 ⟨pk_in (340 * j + l.length) 1360 (by omega),
      nm_r (congrArg (fun z => upd a2 z (nI k)) c3) ⟨pk_in (340 * j + l.length) 1360 (by omega), nm_r (congrArg (fun z => upd a3 z v) c3) ⟨pk_in j 4 hj, pk_in j 4 hj, nm_r e6 ?_⟩⟩⟩⟩⟩
    refine H (l ++ [k]) _ _ _ _ (fun x => by simp) ⟨?_, ?_, ?_, ?_, ?_, ?_⟩ ?_
    · rw [List.nodup_append]
      refine ⟨h1, by simp, fun a ha b hb => ?_⟩
      rw [List.mem_singleton.mp hb]
      intro e
      exact hm (e ▸ ha)
    · intro x hx
      rcases List.mem_append.mp hx with hx | hx
      · exact h2 x hx
      · rw [List.mem_singleton.mp hx]; exact hk
    · rw [pk_us, List.length_append]; rfl
    · rw [aw_ar_app]
      exact ⟨aw_ar_fr h4 (fun i hi => pk_un (by omega)), pk_us, trivial⟩
    · rw [aw_ar_app]
      exact ⟨aw_ar_fr h5 (fun i hi => pk_un (by omega)), by rw [pk_us]; exact hv hm, trivial⟩
    · intro x hx
      by_cases e : x = k
      · rw [e, pk_us, if_pos (by simp)]
      · rw [pk_un (by omega), h6 x hx]
        simp [e]
    · intro i hi
      refine ⟨pk_un hi, fun x hx => ⟨pk_un ?_, pk_un ?_, pk_un ?_⟩⟩ <;>
      · intro e
        rcases Nat.lt_or_ge i j with z | z
        · have : 340 * (i + 1) ≤ 340 * j := Nat.mul_le_mul_left 340 z
          omega
        · have : 340 * (j + 1) ≤ 340 * i := Nat.mul_le_mul_left 340 (by omega)
          omega
theorem aw_put {post : St1 → Prop} {S : List (Nat → Int32)} {m : (Nat → Int32)} {u : St1} {x v : Int32} (k : Nat) (hx : x = nI k) (hk : k < 340) (h : aw_R S m u) (H : aw_K S (upd m k v) post) : wpX_put post u x v := by
  obtain ⟨f0, f1, f2, f3, f4, a1, a2, a3, a4, a5, a6, a7, a8, a9, a10, a11, a12, a13⟩ := u
  obtain ⟨rfl, rfl, h1, h2, h3⟩ := h
  subst hx
  have ck : (nI k).toNatClampNeg = k := nI_clamp (by omega)
  cases S with
  | nil =>
    refine br_t (by decide) ⟨pk_in k 340 hk, nm_r (congrArg (fun z => upd a1 z v) ck) ?_⟩
    exact H f1 f2 f3 f4 a2 a3 a4 a5 a6 a7 a8 a9 a10 a11 a12 a13 ⟨rfl, rfl, h1, trivial, h3⟩
  | cons s S =>
    rw [List.length_cons] at h1
    obtain ⟨⟨l, g1, g2⟩, g3⟩ := h2
    refine br_f (nI_nle (by simp) (by simp; omega)) ⟨pk_in k 340 hk, ?_⟩
    refine aw_keepOld (j := S.length) (by omega) hk (aw_pred S.length) rfl g1 (fun z => by rw [ck]; exact (g2 k z).symm) (fun l' b2 b3 b4 b5 i1 i2 i3 => ?_)
    refine ⟨pk_in k 340 hk, nm_r (congrArg (fun z => upd a1 z v) ck) ?_⟩
    refine H f1 f2 f3 f4 b2 b3 b4 b5 a6 a7 a8 a9 a10 a11 a12 a13 ⟨rfl, rfl, h1, ⟨⟨l', i2, fun x hx => ?_⟩, aw_log_fr g3 (fun i hi => i3 i (by omega))⟩, ?_⟩
    · rw [i1] at hx
      rw [pk_un (fun e => hx (Or.inr e))]
      exact g2 x (fun e => hx (Or.inl e))
    · intro i hi hi4
      rw [List.length_cons] at hi
      have e := i3 i (by omega)
      obtain ⟨e1, e2⟩ := h3 i (by simp; omega) hi4
      exact ⟨e.1.trans e1, fun x hx => (e.2 x hx).2.2.trans (e2 x hx)⟩
theorem aw_add {post : St1 → Prop} {S : List (Nat → Int32)} {m : (Nat → Int32)} {u : St1} {x v : Int32} (k : Nat) (hx : x = nI k) (hk : k < 340) (h : aw_R S m u) (H : aw_K S (upd m k (m k + v)) post) : wpX_add post u x v := by
  obtain ⟨f0, f1, f2, f3, f4, a1, a2, a3, a4, a5, a6, a7, a8, a9, a10, a11, a12, a13⟩ := u
  have h' := h
  obtain ⟨rfl, rfl, _⟩ := h'
  subst hx
  have ck : (nI k).toNatClampNeg = k := nI_clamp (by omega)
  refine ⟨pk_in k 340 hk, aw_put k rfl hk h (fun f1 f2 f3 f4 a2 a3 a4 a5 a6 a7 a8 a9 a10 a11 a12 a13 h2 => ?_)⟩
  rw [ck] at h2
  have t := H f1 f2 f3 f4 a2 a3 a4 a5 a6 a7 a8 a9 a10 a11 a12 a13 h2
  rw [ck]
  exact t
end
section
/-! ===== transactions: forget, begin, end, undo, crash ===== -/
theorem aw_clr {j : Nat} {a4 : (Nat → Int32)} {l : List Nat} {a : Nat} {b4 : (Nat → Int32)} (hb : ∀ y, b4 y = if 340 * j ≤ y ∧ y - 340 * j ∈ l then 0 else upd a4 (340 * j + a) 0 y) : ∀ y, b4 y = if 340 * j ≤ y ∧ y - 340 * j ∈ a :: l then 0 else a4 y := by
  intro y
  rw [hb y]
  by_cases h1 : 340 * j ≤ y ∧ y - 340 * j ∈ l
  · rw [if_pos h1, if_pos ⟨h1.1, List.mem_cons_of_mem _ h1.2⟩]
  · rw [if_neg h1]
    by_cases h2 : y = 340 * j + a
    · rw [h2, pk_us, if_pos ⟨by omega, by rw [show 340 * j + a - 340 * j = a by omega]; exact List.mem_cons_self ..⟩]
    · rw [pk_un h2, if_neg]
      rintro ⟨z1, z2⟩
      rcases List.mem_cons.mp z2 with z | z
      · omega
      · exact h1 ⟨z1, z⟩
theorem aw_forget_l {post : St1 → Prop} {f0 f1 f2 f3 f4 : Int32} {a2 a3 a4 a5 a6 a7 a8 a9 a10 a11 a12 a13 : Nat → Int32} {a1 : (Nat → Int32)} {j e : Nat} (hj : j < 4) (he : e ≤ 340) (h5 : a5 j = nI e) :
    ∀ (l : List Nat) (n k : Nat) (a4 : (Nat → Int32)), l.length < n → k + l.length = e → (∀ x ∈ l, x < 340) → aw_ar nI a2 (340 * j + k) l →
    (∀ b4 : (Nat → Int32), (∀ y, b4 y = if 340 * j ≤ y ∧ y - 340 * j ∈ l then 0 else a4 y) → post (f0, f1, f2, f3, f4, a1, a2, a3, b4, (upd a5 j 0), a6, a7, a8, a9, a10, a11, a12, a13)) →
    wX_forget_2 post (nI j) f0 f1 f2 f3 f4 n (nI k) a1 a2 a3 a4 a5 a6 a7 a8 a9 a10 a11 a12 a13 := by
  have c2 : (nI j).toNatClampNeg = j := nI_clamp (by omega)
  intro l
  induction l with
  | nil =>
    intro n k a4 hn hk _ _ H
    cases n with
    | zero => exact absurd hn (by omega)
    | succ n =>
      rw [List.length_nil] at hk
      refine ⟨pk_in j 4 hj, pk_le e k (fun _ => ⟨pk_in j 4 hj, nm_r (congrArg (fun z => upd a5 z 0) c2) (H a4 (fun y => by simp))⟩) (fun z => absurd z (by omega)) (by rw [c2]; exact h5)⟩
  | cons a l ih =>
    intro n k a4 hn hk hl ha H
    cases n with
    | zero => exact absurd hn (by omega)
    | succ n =>
      rw [List.length_cons] at hk hn
      have ha' : a < 340 := hl a (List.mem_cons_self ..)
      have c3 : (nI (340 * j + k)).toNatClampNeg = 340 * j + k := nI_clamp (by omega)
      have c4 : (nI (340 * j + a)).toNatClampNeg = 340 * j + a := nI_clamp (by omega)
      have e1 : (340 : Int32) * nI j + nI k = nI (340 * j + k) := aw_340 j k
      have e2 : (340 : Int32) * nI j + a2 ((340 : Int32) * nI j + nI k).toNatClampNeg = nI (340 * j + a) := by rw [e1, c3, ha.1, aw_340]
      refine ⟨pk_in j 4 hj, pk_le e k (fun z => absurd z (by omega)) (fun _ => ⟨pk_in (340 * j + k) 1360 (by omega) e1, pk_in (340 * j + a) 1360 (by omega) e2, nm_r (e' := upd a4 (340 * j + a) 0) (by rw [e2, c4]) (nm_r (nI_1 k) ?_)⟩) (by rw [c2]; exact h5)⟩
      exact ih n (k + 1) _ (by omega) (by omega) (fun x hx => hl x (List.mem_cons_of_mem _ hx)) ha.2 (fun b4 hb => H b4 (aw_clr hb))
theorem aw_forget {post : St1 → Prop} {f0 f1 f2 f3 f4 : Int32} {a2 a3 a4 a5 a6 a7 a8 a9 a10 a11 a12 a13 : Nat → Int32} {a1 : (Nat → Int32)} {j : Nat} {s : (Nat → Int32)} {l : List Nat} {x : Int32} (hj : j < 4) (hx : x = nI j) (h : aw_ll j s l a2 a3 a4 a5)
    (H : ∀ b4 b5, b5 j = 0 → (∀ x, x < 340 → b4 (340 * j + x) = 0) → (∀ i, i ≠ j → aw_eqv i a2 a3 a4 a5 a2 a3 b4 b5) → post (f0, f1, f2, f3, f4, a1, a2, a3, b4, b5, a6, a7, a8, a9, a10, a11, a12, a13)) : wpX_forget post (f0, f1, f2, f3, f4, a1, a2, a3, a4, a5, a6, a7, a8, a9, a10, a11, a12, a13) x := by
  subst hx
  obtain ⟨h1, h2, h3, h4, h5, h6⟩ := h
  have hp := aw_pig h1 h2
  refine ⟨l.length + 1, ?_⟩
  have t := aw_forget_l (post := post) (f0 := f0) (f1 := f1) (f2 := f2) (f3 := f3) (f4 := f4) (a1 := a1) (a2 := a2) (a3 := a3) (a4 := a4) (a6 := a6) (a7 := a7) (a8 := a8) (a9 := a9) (a10 := a10) (a11 := a11) (a12 := a12) (a13 := a13) hj hp h3 l (l.length + 1) 0 a4 (by omega) (by omega) h2 h4 (fun b4 hb => by
    refine H b4 _ pk_us (fun x hx => ?_) (fun i hi => ⟨pk_un hi, fun x hx => ⟨rfl, rfl, ?_⟩⟩)
    · rw [hb, h6 x hx]
      rw [show 340 * j + x - 340 * j = x by omega]
      by_cases e : x ∈ l
      · rw [if_pos ⟨by omega, e⟩]
      · rw [if_neg (fun z => e z.2), if_neg e]
    · rw [hb, if_neg]
      rintro ⟨z1, z2⟩
      have := h2 _ z2
      rcases Nat.lt_or_ge i j with z | z
      · have : 340 * (i + 1) ≤ 340 * j := Nat.mul_le_mul_left 340 z
        omega
      · have : 340 * (j + 1) ≤ 340 * i := Nat.mul_le_mul_left 340 (by omega)
        omega)
  exact t
theorem aw_begin {post : Int32 → St1 → Prop} {S : List (Nat → Int32)} {m : (Nat → Int32)} {u : St1} (h : aw_R S m u) (hS : S.length < 4) (H : aw_K (m :: S) m (post (nI (S.length + 1)))) : wpX_begin post u := by
  obtain ⟨f0, f1, f2, f3, f4, a1, a2, a3, a4, a5, a6, a7, a8, a9, a10, a11, a12, a13⟩ := u
  obtain ⟨rfl, rfl, h1, h2, h3⟩ := h
  refine br_t (nI_lt (b := 4) hS (by omega)) (nm_r (nI_1 S.length) ?_)
  obtain ⟨e1, e2⟩ := h3 S.length (Nat.le_refl _) hS
  refine H f1 f2 f3 f4 a2 a3 a4 a5 a6 a7 a8 a9 a10 a11 a12 a13 ⟨rfl, rfl, by simp; omega, ⟨⟨[], ⟨by simp, by simp, e1, trivial, trivial, fun x hx => ?_⟩, fun x _ => rfl⟩, h2⟩, fun i hi => h3 i (by rw [List.length_cons] at hi; omega)⟩
  rw [e2 x hx]; simp
theorem aw_end_l {post : Int32 → St1 → Prop} {f1 f2 f3 f4 : Int32} {m a6 a7 a8 a9 a10 a11 a12 a13 : (Nat → Int32)} {s s' : (Nat → Int32)} {S : List (Nat → Int32)} {lt : List Nat} (hS : S.length + 2 ≤ 4) (H : aw_K (s' :: S) m (post (nI (S.length + 1)))) :
    ∀ (l : List Nat) (n k : Nat) (l1 : List Nat) (a2 a3 a4 a5 : (Nat → Int32)), l.length < n → k + l.length = lt.length → (∀ x, x ∈ l → x ∈ lt) → aw_ar nI a2 (340 * (S.length + 1) + k) l → aw_ar s a3 (340 * (S.length + 1) + k) l →
    aw_ll (S.length + 1) s lt a2 a3 a4 a5 → aw_ll S.length s' l1 a2 a3 a4 a5 → (∀ x, x ∉ lt → s x = m x) → (∀ x, x ∉ l1 → s' x = s x) → (∀ x, x ∈ lt → x ∈ l1 ∨ x ∈ l) → aw_log S s' a2 a3 a4 a5 → aw_emp (S.length + 2) a4 a5 →
    wX_end_23 post (nI (S.length + 1)) n (nI (340 * (S.length + 1) + k)) (nI (S.length + 2)) f1 f2 f3 f4 m a2 a3 a4 a5 a6 a7 a8 a9 a10 a11 a12 a13 := by
  intro l
  induction l with
  | nil =>
    intro n k l1 a2 a3 a4 a5 hn hk hs h2 h3 g1 g2 g3 g4 g5 g6 g7
    cases n with
    | zero => exact absurd hn (by omega)
    | succ n =>
      rw [List.length_nil] at hk
      have hp := aw_pig g1.1 g1.2.1
      have c2 : (nI (S.length + 1)).toNatClampNeg = S.length + 1 := nI_clamp (by omega)
      have e1 : (340 : Int32) * nI (S.length + 1) + a5 (nI (S.length + 1)).toNatClampNeg = nI (340 * (S.length + 1) + lt.length) := by rw [c2, g1.2.2.1, aw_340]
      refine ⟨pk_in (S.length + 1) 4 (by omega), pk_le (340 * (S.length + 1) + lt.length) (340 * (S.length + 1) + k) (fun _ => ?_) (fun z => absurd z (by omega)) e1⟩
      refine aw_forget (j := S.length + 1) (by omega) rfl g1 (fun b4 b5 i1 i2 i3 => nm_r (nI_pred (S.length + 1)) ?_)
      refine H f1 f2 f3 f4 a2 a3 b4 b5 a6 a7 a8 a9 a10 a11 a12 a13 ⟨rfl, rfl, by simp; omega, ⟨⟨l1, aw_ll_fr g2 (i3 _ (by omega)), fun x hx => ?_⟩, aw_log_fr g6 (fun i hi => i3 i (by omega))⟩, fun i hi hi4 => ?_⟩
      · have hx2 : x ∉ lt := fun z => (g5 x z).elim hx (fun z => by cases z)
        exact (g4 x hx).trans (g3 x hx2)
      · rw [List.length_cons] at hi
        by_cases e : i = S.length + 1
        · rw [e]; exact ⟨i1, i2⟩
        · obtain ⟨t1, t2⟩ := g7 i (by omega) hi4
          obtain ⟨t3, t4⟩ := i3 i e
          exact ⟨t3.trans t1, fun x hx => (t4 x hx).2.2.trans (t2 x hx)⟩
  | cons a l ih =>
    intro n k l1 a2 a3 a4 a5 hn hk hs h2 h3 g1 g2 g3 g4 g5 g6 g7
    cases n with
    | zero => exact absurd hn (by omega)
    | succ n =>
      rw [List.length_cons] at hk hn
      have hp := aw_pig g1.1 g1.2.1
      have hat : a ∈ lt := hs a (List.mem_cons_self ..)
      have ha : a < 340 := g1.2.1 a hat
      have c2 : (nI (S.length + 1)).toNatClampNeg = S.length + 1 := nI_clamp (by omega)
      have c3 : (nI (340 * (S.length + 1) + k)).toNatClampNeg = 340 * (S.length + 1) + k := nI_clamp (by omega)
      have e1 : (340 : Int32) * nI (S.length + 1) + a5 (nI (S.length + 1)).toNatClampNeg = nI (340 * (S.length + 1) + lt.length) := by rw [c2, g1.2.2.1, aw_340]
      refine ⟨pk_in (S.length + 1) 4 (by omega), pk_le (340 * (S.length + 1) + lt.length) (340 * (S.length + 1) + k) (fun z => absurd z (by omega)) (fun _ => ?_) e1⟩
      refine br_f (nI_nle (by omega) (by omega)) ⟨pk_in (340 * (S.length + 1) + k) 1360 (by omega), pk_in (340 * (S.length + 1) + k) 1360 (by omega), ?_⟩
      refine aw_keepOld (j := S.length) (k := a) (s := s') (l := l1) (by omega) ha (nI_pred S.length) (by rw [c3]; exact h2.1) g2 (fun z => by rw [c3, h3.1]; exact (g4 a z).symm) (fun l' b2 b3 b4 b5 i1 i2 i3 => ?_)
      have ie := i3 (S.length + 1) (by omega)
      have hl : aw_ll (S.length + 1) s lt b2 b3 b4 b5 := aw_ll_fr g1 ie
      refine nm_r (nI_1 (340 * (S.length + 1) + k)) ?_
      refine ih n (k + 1) l' b2 b3 b4 b5 (by omega) (by omega) (fun x hx => hs x (List.mem_cons_of_mem _ hx)) ?_ ?_ hl i2 g3 (fun x hx => g4 x (fun z => hx ((i1 x).mpr (Or.inl z)))) (fun x hx => ?_) (aw_log_fr g6 (fun i hi => i3 i (by omega))) (fun i hi hi4 => ?_)
      · exact aw_ar_fr h2.2 (fun i hi => by
          have := (ie.2 (k + 1 + i) (by omega)).1
          rw [show 340 * (S.length + 1) + (k + 1) + i = 340 * (S.length + 1) + (k + 1 + i) by omega, show 340 * (S.length + 1) + k + 1 + i = 340 * (S.length + 1) + (k + 1 + i) by omega]
          exact this)
      · exact aw_ar_fr h3.2 (fun i hi => by
          have := (ie.2 (k + 1 + i) (by omega)).2.1
          rw [show 340 * (S.length + 1) + (k + 1) + i = 340 * (S.length + 1) + (k + 1 + i) by omega, show 340 * (S.length + 1) + k + 1 + i = 340 * (S.length + 1) + (k + 1 + i) by omega]
          exact this)
      · rcases g5 x hx with z | z
        · exact Or.inl ((i1 x).mpr (Or.inl z))
        · rcases List.mem_cons.mp z with z | z
          · exact Or.inl ((i1 x).mpr (Or.inr z))
          · exact Or.inr z
      · obtain ⟨t1, t2⟩ := g7 i hi hi4
        obtain ⟨t3, t4⟩ := i3 i (by omega)
        exact ⟨t3.trans t1, fun x hx => (t4 x hx).2.2.trans (t2 x hx)⟩
theorem aw_end {post : Int32 → St1 → Prop} {S : List (Nat → Int32)} {s m : (Nat → Int32)} {u : St1} (h : aw_R (s :: S) m u) (H : aw_K S m (post (nI S.length))) : wpX_end post u := by
  obtain ⟨f0, f1, f2, f3, f4, a1, a2, a3, a4, a5, a6, a7, a8, a9, a10, a11, a12, a13⟩ := u
  obtain ⟨rfl, rfl, h1, ⟨⟨lt, g1, g3⟩, g2⟩, h3⟩ := h
  rw [List.length_cons] at h1
  have hp := aw_pig g1.1 g1.2.1
  refine br_f (nI_ne0 (by simp) (by simp; omega)) (nm_r (nI_pred S.length) (nm_r (e' := nI (340 * S.length + 0)) (by show nI 340 * nI S.length = _; rw [pk_mul]; rfl) ⟨lt.length + 1, ?_⟩))
  cases S with
  | nil =>
    have key : wX_end_68 post (nI 0) (nI 1) f1 f2 f3 f4 a1 a2 a3 a4 a5 a6 a7 a8 a9 a10 a11 a12 a13 := by
      refine aw_forget (j := 0) (by omega) rfl g1 (fun b4 b5 i1 i2 i3 => nm_r (nI_pred 0) ?_)
      refine H f1 f2 f3 f4 a2 a3 b4 b5 a6 a7 a8 a9 a10 a11 a12 a13 ⟨rfl, rfl, by simp, trivial, fun i hi hi4 => ?_⟩
      by_cases e : i = 0
      · rw [e]; exact ⟨i1, i2⟩
      · obtain ⟨t1, t2⟩ := h3 i (by simp; omega) hi4
        obtain ⟨t3, t4⟩ := i3 i e
        exact ⟨t3.trans t1, fun x hx => (t4 x hx).2.2.trans (t2 x hx)⟩
    exact ⟨pk_in 0 4 (by omega), br_c (fun _ => key) (fun _ => br_t (by decide) key)⟩
  | cons s' S =>
    rw [List.length_cons] at h1
    obtain ⟨⟨l1, k1, k2⟩, k3⟩ := g2
    exact aw_end_l (by omega) H lt (lt.length + 1) 0 l1 a2 a3 a4 a5 (by omega) (by omega) (fun x hx => hx) g1.2.2.2.1 g1.2.2.2.2.1 g1 k1 g3 k2 (fun x hx => Or.inr hx) k3 h3
theorem aw_undo_l {post : Int32 → St1 → Prop} {f1 f2 f3 f4 : Int32} {a2 a3 a4 a5 a6 a7 a8 a9 a10 a11 a12 a13 : Nat → Int32} {f0 : Int32} {s : (Nat → Int32)} {j e : Nat} (hj : j < 4) (he : e ≤ 340) (h5 : a5 j = nI e) :
    ∀ (l : List Nat) (n k : Nat) (m : (Nat → Int32)), l.length < n → k + l.length = e → (∀ x ∈ l, x < 340) → aw_ar nI a2 (340 * j + k) l → aw_ar s a3 (340 * j + k) l →
    (∀ m' : (Nat → Int32), (∀ x, m' x = if x ∈ l then s x else m x) → wpX_forget (fun u => match u with | (f0, f1, f2, f3, f4, a1, a2, a3, a4, a5, a6, a7, a8, a9, a10, a11, a12, a13) => ∀ f : Int32, f = f0 - 1 → post f (f, f1, f2, f3, f4, a1, a2, a3, a4, a5, a6, a7, a8, a9, a10, a11, a12, a13)) (f0, f1, f2, f3, f4, m', a2, a3, a4, a5, a6, a7, a8, a9, a10, a11, a12, a13) (nI j)) →
    wX_undo_23 post (nI j) f0 f1 f2 f3 f4 n (nI (340 * j + k)) m a2 a3 a4 a5 a6 a7 a8 a9 a10 a11 a12 a13 := by
  have c2 : (nI j).toNatClampNeg = j := nI_clamp (by omega)
  have e1 : (340 : Int32) * nI j + a5 (nI j).toNatClampNeg = nI (340 * j + e) := by rw [c2, h5, aw_340]
  intro l
  induction l with
  | nil =>
    intro n k m hn hk _ _ _ H
    cases n with
    | zero => exact absurd hn (by omega)
    | succ n =>
      rw [List.length_nil] at hk
      exact ⟨pk_in j 4 hj, pk_le (340 * j + e) (340 * j + k) (fun _ => H m (fun x => by simp)) (fun z => absurd z (by omega)) e1⟩
  | cons a l ih =>
    intro n k m hn hk hl h2 h3 H
    cases n with
    | zero => exact absurd hn (by omega)
    | succ n =>
      rw [List.length_cons] at hk hn
      have ha : a < 340 := hl a (List.mem_cons_self ..)
      have c3 : (nI (340 * j + k)).toNatClampNeg = 340 * j + k := nI_clamp (by omega)
      have c4 : (nI a).toNatClampNeg = a := nI_clamp (by omega)
      refine ⟨pk_in j 4 hj, pk_le (340 * j + e) (340 * j + k) (fun z => absurd z (by omega)) (fun _ => ⟨pk_in (340 * j + k) 1360 (by omega), pk_in (340 * j + k) 1360 (by omega), pk_in a 340 ha (by rw [c3]; exact h2.1), nm_r (e' := upd m a (s a)) (by rw [c3, h2.1, h3.1, c4]) (nm_r (nI_1 (340 * j + k)) ?_)⟩) e1⟩
      refine ih n (k + 1) (upd m a (s a)) (by omega) (by omega) (fun x hx => hl x (List.mem_cons_of_mem _ hx)) h2.2 h3.2 (fun m' hm => H m' (fun x => ?_))
      rw [hm x]
      by_cases z : x ∈ l
      · rw [if_pos z, if_pos (List.mem_cons_of_mem _ z)]
      · rw [if_neg z]
        by_cases z2 : x = a
        · rw [z2, pk_us, if_pos (List.mem_cons_self ..)]
        · rw [pk_un z2, if_neg (fun y => (List.mem_cons.mp y).elim z2 z)]
theorem aw_undo {post : Int32 → St1 → Prop} {S : List (Nat → Int32)} {s m : (Nat → Int32)} {u : St1} (h : aw_R (s :: S) m u) (H : aw_K S s (post (nI S.length))) : wpX_undo post u := by
  obtain ⟨f0, f1, f2, f3, f4, a1, a2, a3, a4, a5, a6, a7, a8, a9, a10, a11, a12, a13⟩ := u
  obtain ⟨rfl, rfl, h1, ⟨⟨lt, g1, g3⟩, g2⟩, h3⟩ := h
  rw [List.length_cons] at h1
  have hp := aw_pig g1.1 g1.2.1
  refine br_f (nI_ne0 (by simp) (by simp; omega)) (nm_r (nI_pred S.length) (nm_r (e' := nI (340 * S.length + 0)) (by show nI 340 * nI S.length = _; rw [pk_mul]; rfl) ⟨lt.length + 1, ?_⟩))
  refine aw_undo_l (s := s) (j := S.length) (by omega) hp g1.2.2.1 lt (lt.length + 1) 0 a1 (by omega) (by omega) g1.2.1 g1.2.2.2.1 g1.2.2.2.2.1 (fun m' hm => ?_)
  have em : m' = s := by
    funext x
    rw [hm x]
    by_cases z : x ∈ lt
    · rw [if_pos z]
    · rw [if_neg z]; exact (g3 x z).symm
  subst em
  refine aw_forget (j := S.length) (by omega) rfl g1 (fun b4 b5 i1 i2 i3 => nm_r (nI_pred S.length) ?_)
  refine H f1 f2 f3 f4 a2 a3 b4 b5 a6 a7 a8 a9 a10 a11 a12 a13 ⟨rfl, rfl, by omega, aw_log_fr g2 (fun i hi => i3 i (by omega)), fun i hi hi4 => ?_⟩
  by_cases e : i = S.length
  · rw [e]; exact ⟨i1, i2⟩
  · obtain ⟨t1, t2⟩ := h3 i (by simp; omega) hi4
    obtain ⟨t3, t4⟩ := i3 i e
    exact ⟨t3.trans t1, fun x hx => (t4 x hx).2.2.trans (t2 x hx)⟩
/-- what the outermost transaction saved -/
def aw_bot : List (Nat → Int32) → (Nat → Int32) → (Nat → Int32)
  | [], m => m
  | s :: S, _ => aw_bot S s
theorem aw_crash_l {post : Int32 → St1 → Prop} {x : Int32} : ∀ (S : List (Nat → Int32)) (m : (Nat → Int32)) (n : Nat), S.length < n → aw_K [] (aw_bot S m) (post x) → ∀ (f1 f2 f3 f4 : Int32) (a2 a3 a4 a5 a6 a7 a8 a9 a10 a11 a12 a13 : Nat → Int32), aw_R S m (nI S.length, f1, f2, f3, f4, m, a2, a3, a4, a5, a6, a7, a8, a9, a10, a11, a12, a13) → wX_crash_5 post x n (nI S.length) f1 f2 f3 f4 m a2 a3 a4 a5 a6 a7 a8 a9 a10 a11 a12 a13 := by
  intro S
  induction S with
  | nil =>
    intro m n hn H f1 f2 f3 f4 a2 a3 a4 a5 a6 a7 a8 a9 a10 a11 a12 a13 h
    cases n with
    | zero => exact absurd hn (by omega)
    | succ n => exact br_t (by decide) (H _ _ _ _ _ _ _ _ _ _ _ _ _ _ _ _ h)
  | cons s S ih =>
    intro m n hn H f1 f2 f3 f4 a2 a3 a4 a5 a6 a7 a8 a9 a10 a11 a12 a13 h
    cases n with
    | zero => exact absurd hn (by omega)
    | succ n =>
      have h4 : (s :: S).length ≤ 4 := h.2.2.1
      refine br_f (nI_nle (by simp) (by omega)) (aw_undo h (fun f1 f2 f3 f4 a2 a3 a4 a5 a6 a7 a8 a9 a10 a11 a12 a13 h2 => ?_))
      exact ih s n (by rw [List.length_cons] at hn; omega) H _ _ _ _ _ _ _ _ _ _ _ _ _ _ _ _ h2
theorem aw_crash {post : Int32 → St1 → Prop} {S : List (Nat → Int32)} {m : (Nat → Int32)} {u : St1} (h : aw_R S m u) (H : aw_K [] (aw_bot S m) (post (nI S.length))) : wpX_crash post u := by
  obtain ⟨f0, f1, f2, f3, f4, a1, a2, a3, a4, a5, a6, a7, a8, a9, a10, a11, a12, a13⟩ := u
  have h' := h
  obtain ⟨rfl, rfl, _⟩ := h'
  exact ⟨S.length + 1, aw_crash_l S _ (S.length + 1) (by omega) H _ _ _ _ _ _ _ _ _ _ _ _ _ _ _ _ h⟩
end
section
/-! ===== chains of records ===== -/
/-- the cell c names the first record, the cell f a the one behind a; -1 ends it -/
def aw_ch (m : (Nat → Int32)) (f : Nat → Nat) (N : Nat) : Nat → List Nat → Prop
  | c, [] => m c = -1
  | c, a :: l => m c = nI a ∧ a < N ∧ aw_ch m f N (f a) l
theorem aw_ch_fr {m m' : (Nat → Int32)} {f : Nat → Nat} {N : Nat} : ∀ {l : List Nat} {c c' : Nat}, aw_ch m f N c l → m' c' = m c → (∀ a ∈ l, m' (f a) = m (f a)) → aw_ch m' f N c' l := by
  intro l
  induction l with
  | nil => intro c c' h e _; exact e.trans h
  | cons a l ih =>
    intro c c' h e hf
    exact ⟨e.trans h.1, h.2.1, ih h.2.2 (hf a (List.mem_cons_self ..)) (fun b hb => hf b (List.mem_cons_of_mem _ hb))⟩
theorem aw_ch_lt {m : (Nat → Int32)} {f : Nat → Nat} {N : Nat} : ∀ {l : List Nat} {c : Nat}, aw_ch m f N c l → ∀ a ∈ l, a < N := by
  intro l
  induction l with
  | nil => intro c _ a h; cases h
  | cons a l ih =>
    intro c h b hb
    rcases List.mem_cons.mp hb with e | hb
    · rw [e]; exact h.2.1
    · exact ih h.2.2 b hb
/-- the cell that names the record behind P -/
def aw_at (f : Nat → Nat) : Nat → List Nat → Nat
  | c, [] => c
  | _, a :: l => aw_at f (f a) l
theorem aw_at_cases {f : Nat → Nat} : ∀ (P : List Nat) (c : Nat), (P = [] ∧ aw_at f c P = c) ∨ ∃ x, x ∈ P ∧ aw_at f c P = f x := by
  intro P
  induction P with
  | nil => intro c; exact Or.inl ⟨rfl, rfl⟩
  | cons a P ih =>
    intro c
    rcases ih (f a) with ⟨h1, h2⟩ | ⟨x, h1, h2⟩
    · exact Or.inr ⟨a, List.mem_cons_self .., h2⟩
    · exact Or.inr ⟨x, List.mem_cons_of_mem _ h1, h2⟩
theorem aw_ch_ins {m : (Nat → Int32)} {f : Nat → Nat} {N k : Nat} {Q : List Nat} (hk : k < N) (inj : ∀ a b, f a = f b → a = b) : ∀ {P : List Nat} {c : Nat}, aw_ch m f N c (P ++ Q) → k ∉ P ++ Q → (P ++ Q).Nodup → (∀ b ∈ P ++ Q, f b ≠ c) → f k ≠ c →
    aw_ch (upd (upd m (f k) (m (aw_at f c P))) (aw_at f c P) (nI k)) f N c (P ++ k :: Q) := by
  intro P
  induction P with
  | nil =>
    intro c h hn hd hc hkc
    refine ⟨pk_us, hk, aw_ch_fr h ?_ (fun a ha => ?_)⟩
    · show upd (upd m (f k) (m c)) c (nI k) (f k) = m c
      rw [pk_un hkc, pk_us]
    · have ha' : a ∈ [] ++ Q := ha
      show upd (upd m (f k) (m c)) c (nI k) (f a) = m (f a)
      rw [pk_un (hc a ha'), pk_un (fun e => hn ((inj a k e) ▸ ha'))]
  | cons a P ih =>
    intro c h hn hd hc hkc
    have hd' := List.nodup_cons.mp hd
    have hat : aw_at f (f a) P ≠ c := by
      rcases aw_at_cases P (f a) with ⟨_, h2⟩ | ⟨x, h1, h2⟩
      · rw [h2]; exact hc a (List.mem_cons_self ..)
      · rw [h2]; exact hc x (List.mem_cons_of_mem _ (List.mem_append_left _ h1))
    refine ⟨?_, h.2.1, ih h.2.2 (fun z => hn (List.mem_cons_of_mem _ z)) hd'.2 (fun b hb e => hd'.1 ((inj b a e) ▸ hb)) (fun e => hn ((inj k a e) ▸ List.mem_cons_self ..))⟩
    show upd (upd m (f k) (m (aw_at f (f a) P))) (aw_at f (f a) P) (nI k) c = nI a
    rw [pk_un hat.symm, pk_un hkc.symm]
    exact h.1
theorem aw_split {k : Nat} : ∀ {F : List Nat}, F.Pairwise (· < ·) → k ∉ F → ∃ P Q, F = P ++ Q ∧ (∀ a ∈ P, a < k) ∧ (∀ b ∈ Q, k < b) := by
  intro F
  induction F with
  | nil => intro _ _; exact ⟨[], [], rfl, by simp, by simp⟩
  | cons a F ih =>
    intro h hn
    have h' := List.pairwise_cons.mp h
    rcases Nat.lt_or_ge a k with z | z
    · obtain ⟨P, Q, e, h1, h2⟩ := ih h'.2 (fun y => hn (List.mem_cons_of_mem _ y))
      refine ⟨a :: P, Q, by rw [e]; rfl, fun b hb => ?_, h2⟩
      rcases List.mem_cons.mp hb with e | hb
      · rw [e]; exact z
      · exact h1 b hb
    · have z' : k < a := by
        have : k ≠ a := fun e => hn (e ▸ List.mem_cons_self ..)
        omega
      refine ⟨[], a :: F, rfl, by simp, fun b hb => ?_⟩
      rcases List.mem_cons.mp hb with e | hb
      · rw [e]; exact z'
      · have := h'.1 b hb; omega
theorem aw_sorted_nodup {F : List Nat} (h : F.Pairwise (· < ·)) : F.Nodup := h.imp (fun z => Nat.ne_of_lt z)
/-! ===== giveBack ===== -/
theorem aw_give_l {post : St1 → Prop} {S : List (Nat → Int32)} {m : (Nat → Int32)} {f1 f2 f3 f4 : Int32} {a2 a3 a4 a5 a6 a7 a8 a9 a10 a11 a12 a13 : Nat → Int32} {fi wi li N k : Nat} {Q : List Nat} (hN : ∀ a, a < N → fi + wi * a + li < 340) (hk : k < N) (hN2 : N ≤ 24) (hQ : ∀ b ∈ Q, k < b)
    (hR : aw_R S m (nI S.length, f1, f2, f3, f4, m, a2, a3, a4, a5, a6, a7, a8, a9, a10, a11, a12, a13)) :
    ∀ (P : List Nat) (n c : Nat), P.length < n → c < 340 → aw_ch m (fun a => fi + wi * a + li) N c (P ++ Q) → (∀ a ∈ P, a < k) →
    aw_K S (upd (upd m (fi + wi * k + li) (m (aw_at (fun a => fi + wi * a + li) c P))) (aw_at (fun a => fi + wi * a + li) c P) (nI k)) post →
    wX_giveBack_3 post (nI fi) (nI wi) (nI li) (nI k) (nI S.length) f1 f2 f3 f4 m a2 a3 a4 a5 a6 a7 a8 a9 a10 a11 a12 a13 n (nI c) := by
  have ad : ∀ a, nI fi + nI wi * nI a + nI li = nI (fi + wi * a + li) := fun a => by rw [pk_mul, nI_add, nI_add]
  intro P
  induction P with
  | nil =>
    intro n c hn hc hch _ H
    cases n with
    | zero => exact absurd hn (by omega)
    | succ n =>
      have cc : (nI c).toNatClampNeg = c := nI_clamp (by omega)
      have key : wX_giveBack_44 post (nI fi) (nI wi) (nI li) (nI k) (nI c) (nI S.length) f1 f2 f3 f4 m a2 a3 a4 a5 a6 a7 a8 a9 a10 a11 a12 a13 := by
        refine ⟨pk_in c 340 hc, aw_put (fi + wi * k + li) (ad k) (hN k hk) hR (fun f1 f2 f3 f4 a2 a3 a4 a5 a6 a7 a8 a9 a10 a11 a12 a13 h1 => ?_)⟩
        refine aw_put c rfl hc h1 (fun f1 f2 f3 f4 a2 a3 a4 a5 a6 a7 a8 a9 a10 a11 a12 a13 h2 => ?_)
        rw [cc] at h2
        have t := H f1 f2 f3 f4 a2 a3 a4 a5 a6 a7 a8 a9 a10 a11 a12 a13 h2
        rw [cc]
        exact t
      cases Q with
      | nil =>
        have hm : m c = -1 := hch
        exact ⟨pk_in c 340 hc, br_t (by rw [cc, hm]; decide) key⟩
      | cons b Q =>
        have hm : m c = nI b := hch.1
        have hb : b < N := hch.2.1
        have hkb : k < b := hQ b (List.mem_cons_self ..)
        exact ⟨pk_in c 340 hc, br_f (by rw [cc, hm]; exact nI_pos (by omega)) ⟨pk_in c 340 hc, br_t (by rw [cc, hm]; exact nI_le (by omega) (by omega)) key⟩⟩
  | cons a P ih =>
    intro n c hn hc hch hP H
    cases n with
    | zero => exact absurd hn (by omega)
    | succ n =>
      have cc : (nI c).toNatClampNeg = c := nI_clamp (by omega)
      have hm : m c = nI a := hch.1
      have ha : a < N := hch.2.1
      have hak : a < k := hP a (List.mem_cons_self ..)
      refine ⟨pk_in c 340 hc, br_f (by rw [cc, hm]; exact nI_pos (by omega)) ⟨pk_in c 340 hc, br_f (by rw [cc, hm]; exact nI_ge hak (by omega)) ⟨pk_in c 340 hc, nm_r (e' := nI (fi + wi * a + li)) (by rw [cc, hm]; exact ad a) ?_⟩⟩⟩
      exact ih n _ (by rw [List.length_cons] at hn; omega) (hN a ha) hch.2.2 (fun b hb => hP b (List.mem_cons_of_mem _ hb)) H
theorem aw_give {m : (Nat → Int32)} {F : List Nat} (fi wi li N hd k : Nat) (hN : ∀ a, a < N → fi + wi * a + li < 340) (hk : k < N) (hN2 : N ≤ 24) (hw : 0 < wi) (hh : hd < 340) (hhd : ∀ a, fi + wi * a + li ≠ hd)
    (h : aw_ch m (fun a => fi + wi * a + li) N hd F) (hs : F.Pairwise (· < ·)) (hn : k ∉ F) :
    ∃ m' F', aw_ch m' (fun a => fi + wi * a + li) N hd F' ∧ F'.Pairwise (· < ·) ∧ (∀ x, x ∈ F' ↔ x ∈ F ∨ x = k) ∧ F'.length = F.length + 1 ∧ (∀ x, x ≠ hd → (∀ a, a ∈ F ∨ a = k → x ≠ fi + wi * a + li) → m' x = m x) ∧
      ∀ (S : List (Nat → Int32)) (u : St1) (post : St1 → Prop), aw_R S m u → aw_K S m' post → wpX_giveBack post u (nI hd) (nI fi) (nI wi) (nI li) (nI k) := by
  obtain ⟨P, Q, rfl, h1, h2⟩ := aw_split hs hn
  have inj : ∀ a b, (fun a => fi + wi * a + li) a = (fun a => fi + wi * a + li) b → a = b := by
    intro a b e
    have e' : wi * a = wi * b := by have : fi + wi * a + li = fi + wi * b + li := e; omega
    exact Nat.eq_of_mul_eq_mul_left hw e'
  refine ⟨_, P ++ k :: Q, aw_ch_ins hk inj h hn (aw_sorted_nodup hs) (fun b _ => hhd b) (hhd k), ?_, ?_, ?_, ?_, ?_⟩
  · rw [List.pairwise_append] at hs ⊢
    refine ⟨hs.1, List.pairwise_cons.mpr ⟨h2, hs.2.1⟩, fun a ha b hb => ?_⟩
    rcases List.mem_cons.mp hb with e | hb
    · rw [e]; exact h1 a ha
    · exact hs.2.2 a ha b hb
  · intro x
    simp only [List.mem_append, List.mem_cons]
    constructor
    · rintro (z | z | z)
      · exact Or.inl (Or.inl z)
      · exact Or.inr z
      · exact Or.inl (Or.inr z)
    · rintro ((z | z) | z)
      · exact Or.inl z
      · exact Or.inr (Or.inr z)
      · exact Or.inr (Or.inl z)
  · simp only [List.length_append, List.length_cons]; omega
  · intro x hx hf
    have hat : x ≠ aw_at (fun a => fi + wi * a + li) hd P := by
      rcases aw_at_cases (f := fun a => fi + wi * a + li) P hd with ⟨_, e⟩ | ⟨y, hy, e⟩
      · rw [e]; exact hx
      · rw [e]; exact hf y (Or.inl (List.mem_append_left _ hy))
    rw [pk_un hat, pk_un (hf k (Or.inr rfl))]
  · intro S u post hR H
    obtain ⟨f0, f1, f2, f3, f4, a1, a2, a3, a4, a5, a6, a7, a8, a9, a10, a11, a12, a13⟩ := u
    have hR' := hR
    obtain ⟨rfl, rfl, _⟩ := hR'
    exact ⟨P.length + 1, aw_give_l hN hk hN2 h2 hR P (P.length + 1) hd (by omega) hh h h1 H⟩
/-! ===== chains with links both ways ===== -/
def aw_dl (m : (Nat → Int32)) (s : Nat) : Nat → Int32 → List Nat → Prop
  | c, _, [] => m c = -1
  | c, p, a :: l => m c = nI a ∧ a < 24 ∧ m (107 + 10 * a + s) = p ∧ aw_dl m s (105 + 10 * a + s) (nI a) l
theorem aw_dl_fr {m m' : (Nat → Int32)} {s : Nat} : ∀ {l : List Nat} {c : Nat} {p : Int32}, aw_dl m s c p l → m' c = m c → (∀ a ∈ l, m' (105 + 10 * a + s) = m (105 + 10 * a + s) ∧ m' (107 + 10 * a + s) = m (107 + 10 * a + s)) → aw_dl m' s c p l := by
  intro l
  induction l with
  | nil => intro c p h e _; exact e.trans h
  | cons a l ih =>
    intro c p h e hf
    have ha := hf a (List.mem_cons_self ..)
    exact ⟨e.trans h.1, h.2.1, ha.2.trans h.2.2.1, ih h.2.2.2 ha.1 (fun b hb => hf b (List.mem_cons_of_mem _ hb))⟩
theorem aw_dl_ch {m : (Nat → Int32)} {s : Nat} : ∀ {l : List Nat} {c : Nat} {p : Int32}, aw_dl m s c p l → aw_ch m (fun a => 105 + 10 * a + s) 24 c l := by
  intro l
  induction l with
  | nil => intro c p h; exact h
  | cons a l ih => intro c p h; exact ⟨h.1, h.2.1, ih h.2.2.2⟩
theorem aw_dl_lt {m : (Nat → Int32)} {s : Nat} {l : List Nat} {c : Nat} {p : Int32} (h : aw_dl m s c p l) : ∀ a ∈ l, a < 24 := aw_ch_lt (aw_dl_ch h)
def aw_lp : Int32 → List Nat → Int32
  | p, [] => p
  | _, a :: l => aw_lp (nI a) l
theorem aw_lp_cases {s : Nat} : ∀ (P : List Nat) (c : Nat) (p : Int32), (P = [] ∧ aw_at (fun a => 105 + 10 * a + s) c P = c ∧ aw_lp p P = p) ∨ ∃ x, x ∈ P ∧ aw_at (fun a => 105 + 10 * a + s) c P = 105 + 10 * x + s ∧ aw_lp p P = nI x := by
  intro P
  induction P with
  | nil => intro c p; exact Or.inl ⟨rfl, rfl, rfl⟩
  | cons a P ih =>
    intro c p
    rcases ih (105 + 10 * a + s) (nI a) with ⟨h1, h2, h3⟩ | ⟨x, h1, h2, h3⟩
    · exact Or.inr ⟨a, List.mem_cons_self .., h2, h3⟩
    · exact Or.inr ⟨x, List.mem_cons_of_mem _ h1, h2, h3⟩
theorem aw_dl_mid {m : (Nat → Int32)} {s a : Nat} {Q : List Nat} : ∀ {P : List Nat} {c : Nat} {p : Int32}, aw_dl m s c p (P ++ a :: Q) → m (107 + 10 * a + s) = aw_lp p P ∧ aw_dl m s (105 + 10 * a + s) (nI a) Q := by
  intro P
  induction P with
  | nil => intro c p h; exact ⟨h.2.2.1, h.2.2.2⟩
  | cons x P ih => intro c p h; exact ih h.2.2.2
theorem aw_dl_rm {m m' : (Nat → Int32)} {s a : Nat} {Q : List Nat} : ∀ {P : List Nat} {c : Nat} {p : Int32}, aw_dl m s c p (P ++ a :: Q) → (P ++ a :: Q).Nodup → (∀ y ∈ P ++ a :: Q, c ≠ 105 + 10 * y + s ∧ c ≠ 107 + 10 * y + s) →
    m' (aw_at (fun a => 105 + 10 * a + s) c P) = m (105 + 10 * a + s) → (∀ b Q', Q = b :: Q' → m' (107 + 10 * b + s) = aw_lp p P) → (∀ x, x ≠ aw_at (fun a => 105 + 10 * a + s) c P → (∀ b Q', Q = b :: Q' → x ≠ 107 + 10 * b + s) → m' x = m x) →
    aw_dl m' s c p (P ++ Q) := by
  intro P
  induction P with
  | nil =>
    intro c p h hd hc h1 h2 h3
    have h1' : m' c = m (105 + 10 * a + s) := h1
    cases Q with
    | nil => exact h1'.trans h.2.2.2
    | cons b Q =>
      have hd1 := List.nodup_cons.mp hd
      have hd2 := List.nodup_cons.mp hd1.2
      have hb : b ∈ [] ++ a :: b :: Q := by simp
      obtain ⟨g1, g2, g3, g4⟩ := h.2.2.2
      refine ⟨h1'.trans g1, g2, h2 b Q rfl, aw_dl_fr g4 ?_ (fun y hy => ?_)⟩
      · refine h3 _ (hc b hb).1.symm (fun b' Q' e => ?_)
        injection e with e1 _
        subst e1
        omega
      · have hy' : y ∈ [] ++ a :: b :: Q := by simp [hy]
        have hyb : y ≠ b := fun e => hd2.1 (e ▸ hy)
        constructor
        · refine h3 _ (hc y hy').1.symm (fun b' Q' e => ?_)
          injection e with e1 _
          subst e1
          omega
        · refine h3 _ (hc y hy').2.symm (fun b' Q' e => ?_)
          injection e with e1 _
          subst e1
          omega
  | cons x P ih =>
    intro c p h hd hc h1 h2 h3
    have hd' := List.nodup_cons.mp hd
    have hxm : x ∈ x :: P ++ a :: Q := List.mem_cons_self ..
    have hQx : ∀ b Q', Q = b :: Q' → x ≠ b := fun b Q' e z => hd'.1 (by rw [z, e]; simp)
    have hQm : ∀ b Q', Q = b :: Q' → b ∈ x :: P ++ a :: Q := fun b Q' e => by rw [e]; simp
    have hat : aw_at (fun a => 105 + 10 * a + s) (105 + 10 * x + s) P ≠ c ∧ aw_at (fun a => 105 + 10 * a + s) (105 + 10 * x + s) P ≠ 107 + 10 * x + s := by
      rcases aw_at_cases (f := fun a => 105 + 10 * a + s) P (105 + 10 * x + s) with ⟨_, e⟩ | ⟨y, hy, e⟩
      · rw [e]; exact ⟨(hc x hxm).1.symm, by omega⟩
      · rw [e]
        refine ⟨(hc y (List.mem_cons_of_mem _ (List.mem_append_left _ hy))).1.symm, ?_⟩
        show 105 + 10 * y + s ≠ _
        omega
    refine ⟨?_, h.2.1, ?_, ih h.2.2.2 hd'.2 (fun y hy => ?_) h1 h2 h3⟩
    · rw [h3 c hat.1.symm (fun b Q' e => (hc b (hQm b Q' e)).2)]
      exact h.1
    · rw [h3 _ hat.2.symm (fun b Q' e => by have := hQx b Q' e; omega)]
      exact h.2.2.1
    · have hxy : x ≠ y := fun e => hd'.1 (e ▸ hy)
      omega
end
section
/-! ===== chain, unchain ===== -/
theorem aw_e2 (k c t : Nat) (h : k + c = t) : nI k + nI c = nI t := by rw [nI_add, h]
theorem aw_e3 (k c s t : Nat) (h : k + c + s = t) : nI k + nI c + nI s = nI t := by rw [nI_add, nI_add, h]
theorem aw_chain {m : (Nat → Int32)} {s a n : Nat} {l : List Nat} (hs : s < 2) (ha : a < 24) (hn : n < 12) (e : m (101 + 10 * a + s) = nI n) (hl : aw_dl m s (19 + 7 * n + s) (-1) l) (hd : l.Nodup) (hna : a ∉ l) :
    ∃ m', aw_dl m' s (19 + 7 * n + s) (-1) (a :: l) ∧ (∀ x, x ≠ 19 + 7 * n + s → (∀ b, b = a ∨ b ∈ l → x ≠ 105 + 10 * b + s ∧ x ≠ 107 + 10 * b + s) → m' x = m x) ∧
      ∀ (S : List (Nat → Int32)) (u : St1) (post : St1 → Prop), aw_R S m u → aw_K S m' post → wpX_chain post u (nI a) (nI s) := by
  have hlt := aw_dl_lt hl
  have A1 : nI (100 + 10 * a) + 1 + nI s = nI (101 + 10 * a + s) := aw_e3 (100 + 10 * a) 1 s (101 + 10 * a + s) (by omega)
  have A5 : nI (100 + 10 * a) + 5 + nI s = nI (105 + 10 * a + s) := aw_e3 (100 + 10 * a) 5 s (105 + 10 * a + s) (by omega)
  have A7 : nI (100 + 10 * a) + 7 + nI s = nI (107 + 10 * a + s) := aw_e3 (100 + 10 * a) 7 s (107 + 10 * a + s) (by omega)
  have B3 : nI (16 + 7 * n) + 3 + nI s = nI (19 + 7 * n + s) := aw_e3 (16 + 7 * n) 3 s (19 + 7 * n + s) (by omega)
  cases l with
  | nil =>
    refine ⟨upd (upd (upd m (105 + 10 * a + s) (-1)) (107 + 10 * a + s) (-1)) (19 + 7 * n + s) (nI a), ⟨pk_us, ha, ?_, ?_⟩, ?_, ?_⟩
    · rw [pk_un (by omega), pk_us]
    · show upd _ _ _ (105 + 10 * a + s) = -1
      rw [pk_un (by omega), pk_un (by omega), pk_us]
    · intro x h1 h2
      have h3 := h2 a (Or.inl rfl)
      rw [pk_un h1, pk_un h3.2, pk_un h3.1]
    · intro S u post hR H
      obtain ⟨f0, f1, f2, f3, f4, a1, a2, a3, a4, a5, a6, a7, a8, a9, a10, a11, a12, a13⟩ := u
      have hR' := hR
      obtain ⟨rfl, rfl, _⟩ := hR'
      have hm : a1 (19 + 7 * n + s) = -1 := hl
      unfold wpX_chain
      refine aw_ac a rfl ?_
      refine ⟨pk_in (101 + 10 * a + s) 340 (by omega) A1, aw_na n (by rw [pk_cl (101 + 10 * a + s) A1]; exact e) (nm_r B3 ⟨pk_in (19 + 7 * n + s) 340 (by omega), nm_r (e' := -1) (by rw [pk_cl (19 + 7 * n + s)]; exact hm) ?_⟩)⟩
      refine aw_put (105 + 10 * a + s) A5 (by omega) hR (fun f1 f2 f3 f4 a2 a3 a4 a5 a6 a7 a8 a9 a10 a11 a12 a13 h1 => ?_)
      refine aw_put (107 + 10 * a + s) A7 (by omega) h1 (fun f1 f2 f3 f4 a2 a3 a4 a5 a6 a7 a8 a9 a10 a11 a12 a13 h2 => ?_)
      refine br_t (by decide) ?_
      exact aw_put (19 + 7 * n + s) rfl (by omega) h2 (fun f1 f2 f3 f4 a2 a3 a4 a5 a6 a7 a8 a9 a10 a11 a12 a13 h3 => H f1 f2 f3 f4 a2 a3 a4 a5 a6 a7 a8 a9 a10 a11 a12 a13 h3)
  | cons b l =>
    obtain ⟨g1, g2, g3, g4⟩ := hl
    have hd' := List.nodup_cons.mp hd
    have hab : a ≠ b := fun z => hna (z ▸ List.mem_cons_self ..)
    have B7 : nI (100 + 10 * b) + 7 + nI s = nI (107 + 10 * b + s) := aw_e3 (100 + 10 * b) 7 s (107 + 10 * b + s) (by omega)
    refine ⟨upd (upd (upd (upd m (105 + 10 * a + s) (nI b)) (107 + 10 * a + s) (-1)) (107 + 10 * b + s) (nI a)) (19 + 7 * n + s) (nI a), ⟨pk_us, ha, ?_, ?_, g2, ?_, aw_dl_fr g4 ?_ (fun y hy => ?_)⟩, ?_, ?_⟩
    · rw [pk_un (by omega), pk_un (by omega), pk_us]
    · rw [pk_un (by omega), pk_un (by omega), pk_un (by omega), pk_us]
    · rw [pk_un (by omega), pk_us]
    · rw [pk_un (by omega), pk_un (by omega), pk_un (by omega), pk_un (by omega)]
    · have hya : y ≠ a := fun z => hna (z ▸ List.mem_cons_of_mem _ hy)
      have hyb : y ≠ b := fun z => hd'.1 (z ▸ hy)
      constructor
      · rw [pk_un (by omega), pk_un (by omega), pk_un (by omega), pk_un (by omega)]
      · rw [pk_un (by omega), pk_un (by omega), pk_un (by omega), pk_un (by omega)]
    · intro x h1 h2
      have h3 := h2 a (Or.inl rfl)
      have h4 := h2 b (Or.inr (List.mem_cons_self ..))
      rw [pk_un h1, pk_un h4.2, pk_un h3.2, pk_un h3.1]
    · intro S u post hR H
      obtain ⟨f0, f1, f2, f3, f4, a1, a2, a3, a4, a5, a6, a7, a8, a9, a10, a11, a12, a13⟩ := u
      have hR' := hR
      obtain ⟨rfl, rfl, _⟩ := hR'
      unfold wpX_chain
      refine aw_ac a rfl ?_
      refine ⟨pk_in (101 + 10 * a + s) 340 (by omega) A1, aw_na n (by rw [pk_cl (101 + 10 * a + s) A1]; exact e) (nm_r B3 ⟨pk_in (19 + 7 * n + s) 340 (by omega), nm_r (e' := nI b) (by rw [pk_cl (19 + 7 * n + s)]; exact g1) ?_⟩)⟩
      refine aw_put (105 + 10 * a + s) A5 (by omega) hR (fun f1 f2 f3 f4 a2 a3 a4 a5 a6 a7 a8 a9 a10 a11 a12 a13 h1 => ?_)
      refine aw_put (107 + 10 * a + s) A7 (by omega) h1 (fun f1 f2 f3 f4 a2 a3 a4 a5 a6 a7 a8 a9 a10 a11 a12 a13 h2 => ?_)
      refine br_f (nI_pos (by omega)) (aw_ac b rfl ?_)
      refine aw_put (107 + 10 * b + s) B7 (by omega) h2 (fun f1 f2 f3 f4 a2 a3 a4 a5 a6 a7 a8 a9 a10 a11 a12 a13 h3 => ?_)
      exact aw_put (19 + 7 * n + s) rfl (by omega) h3 (fun f1 f2 f3 f4 a2 a3 a4 a5 a6 a7 a8 a9 a10 a11 a12 a13 h4 => H f1 f2 f3 f4 a2 a3 a4 a5 a6 a7 a8 a9 a10 a11 a12 a13 h4)
theorem aw_unchain {m : (Nat → Int32)} {s a n : Nat} {l : List Nat} (hs : s < 2) (hn : n < 12) (e : m (101 + 10 * a + s) = nI n) (hl : aw_dl m s (19 + 7 * n + s) (-1) l) (hd : l.Nodup) (ha : a ∈ l) :
    ∃ m', aw_dl m' s (19 + 7 * n + s) (-1) (l.erase a) ∧ (∀ x, x ≠ 19 + 7 * n + s → (∀ b, b ∈ l → x ≠ 105 + 10 * b + s ∧ x ≠ 107 + 10 * b + s) → m' x = m x) ∧
      ∀ (S : List (Nat → Int32)) (u : St1) (post : St1 → Prop), aw_R S m u → aw_K S m' post → wpX_unchain post u (nI a) (nI s) := by
  have hlt := aw_dl_lt hl
  have ha24 := hlt a ha
  obtain ⟨P, Q, rfl⟩ := List.append_of_mem ha
  have hd2 := List.nodup_append.mp hd
  have haP : a ∉ P := fun z => hd2.2.2 a z a (List.mem_cons_self ..) rfl
  have er : (P ++ a :: Q).erase a = P ++ Q := by rw [List.erase_append_right _ haP, List.erase_cons_head]
  rw [er]
  obtain ⟨b1, b2⟩ := aw_dl_mid hl
  have A1 : nI (100 + 10 * a) + 1 + nI s = nI (101 + 10 * a + s) := aw_e3 (100 + 10 * a) 1 s (101 + 10 * a + s) (by omega)
  have A5 : nI (100 + 10 * a) + 5 + nI s = nI (105 + 10 * a + s) := aw_e3 (100 + 10 * a) 5 s (105 + 10 * a + s) (by omega)
  have A7 : nI (100 + 10 * a) + 7 + nI s = nI (107 + 10 * a + s) := aw_e3 (100 + 10 * a) 7 s (107 + 10 * a + s) (by omega)
  have B3 : nI (16 + 7 * n) + 3 + nI s = nI (19 + 7 * n + s) := aw_e3 (16 + 7 * n) 3 s (19 + 7 * n + s) (by omega)
  have hat : ∀ x, x ≠ 19 + 7 * n + s → (∀ b, b ∈ P ++ a :: Q → x ≠ 105 + 10 * b + s ∧ x ≠ 107 + 10 * b + s) → x ≠ aw_at (fun a => 105 + 10 * a + s) (19 + 7 * n + s) P := by
    intro x h1 h2
    rcases aw_at_cases (f := fun a => 105 + 10 * a + s) P (19 + 7 * n + s) with ⟨_, c2⟩ | ⟨y, hy, c2⟩
    · rw [c2]; exact h1
    · rw [c2]; exact (h2 y (List.mem_append_left _ hy)).1
  have W : ∀ (S : List (Nat → Int32)) (post : St1 → Prop), ∀ (f1 f2 f3 f4 : Int32) (a2 a3 a4 a5 a6 a7 a8 a9 a10 a11 a12 a13 : Nat → Int32), aw_R S m (nI S.length, f1, f2, f3, f4, m, a2, a3, a4, a5, a6, a7, a8, a9, a10, a11, a12, a13) →
      (∀ (f1 f2 f3 f4 : Int32) (a2 a3 a4 a5 a6 a7 a8 a9 a10 a11 a12 a13 : Nat → Int32), aw_R S (upd m (aw_at (fun a => 105 + 10 * a + s) (19 + 7 * n + s) P) (m (105 + 10 * a + s))) (nI S.length, f1, f2, f3, f4, (upd m (aw_at (fun a => 105 + 10 * a + s) (19 + 7 * n + s) P) (m (105 + 10 * a + s))), a2, a3, a4, a5, a6, a7, a8, a9, a10, a11, a12, a13) →
        wX_unchain_76 post (nI s) (m (105 + 10 * a + s)) (aw_lp (-1) P) (nI S.length) f1 f2 f3 f4 (upd m (aw_at (fun a => 105 + 10 * a + s) (19 + 7 * n + s) P) (m (105 + 10 * a + s))) a2 a3 a4 a5 a6 a7 a8 a9 a10 a11 a12 a13) → wpX_unchain post (nI S.length, f1, f2, f3, f4, m, a2, a3, a4, a5, a6, a7, a8, a9, a10, a11, a12, a13) (nI a) (nI s) := by
    intro S post f1 f2 f3 f4 a2 a3 a4 a5 a6 a7 a8 a9 a10 a11 a12 a13 hR H
    unfold wpX_unchain
    refine aw_ac a rfl ?_
    refine ⟨pk_in (105 + 10 * a + s) 340 (by omega) A5, nm_r (e' := m (105 + 10 * a + s)) (by rw [pk_cl (105 + 10 * a + s) A5]) ⟨pk_in (107 + 10 * a + s) 340 (by omega) A7, nm_r (e' := aw_lp (-1) P) (by rw [pk_cl (107 + 10 * a + s) A7]; exact b1) ?_⟩⟩
    rcases aw_lp_cases (s := s) P (19 + 7 * n + s) (-1) with ⟨_, c2, c3⟩ | ⟨x, hx, c2, c3⟩
    · rw [c2, c3] at H
      rw [c3]
      refine br_t (by decide) ⟨pk_in (101 + 10 * a + s) 340 (by omega) A1, aw_na n (by rw [pk_cl (101 + 10 * a + s) A1]; exact e) ?_⟩
      exact aw_put (19 + 7 * n + s) B3 (by omega) hR (fun f1 f2 f3 f4 a2 a3 a4 a5 a6 a7 a8 a9 a10 a11 a12 a13 h1 => H f1 f2 f3 f4 a2 a3 a4 a5 a6 a7 a8 a9 a10 a11 a12 a13 h1)
    · have hx24 := hlt x (List.mem_append_left _ hx)
      rw [c2, c3] at H
      rw [c3]
      refine br_f (nI_pos (by omega)) (aw_ac x rfl ?_)
      exact aw_put (105 + 10 * x + s) (aw_e3 (100 + 10 * x) 5 s (105 + 10 * x + s) (by omega)) (by omega) hR (fun f1 f2 f3 f4 a2 a3 a4 a5 a6 a7 a8 a9 a10 a11 a12 a13 h1 => H f1 f2 f3 f4 a2 a3 a4 a5 a6 a7 a8 a9 a10 a11 a12 a13 h1)
  have hc : ∀ y ∈ P ++ a :: Q, 19 + 7 * n + s ≠ 105 + 10 * y + s ∧ 19 + 7 * n + s ≠ 107 + 10 * y + s := fun y _ => by omega
  cases Q with
  | nil =>
    have hnx : m (105 + 10 * a + s) = -1 := b2
    refine ⟨_, aw_dl_rm (m' := upd m (aw_at (fun a => 105 + 10 * a + s) (19 + 7 * n + s) P) (m (105 + 10 * a + s))) hl hd hc pk_us (fun b Q' z => by cases z) (fun x hx _ => pk_un hx), fun x h1 h2 => pk_un (hat x h1 h2), ?_⟩
    intro S u post hR H
    obtain ⟨f0, f1, f2, f3, f4, a1, a2, a3, a4, a5, a6, a7, a8, a9, a10, a11, a12, a13⟩ := u
    have hR' := hR
    obtain ⟨rfl, rfl, _⟩ := hR'
    refine W S post _ _ _ _ _ _ _ _ _ _ _ _ _ _ _ _ hR (fun f1 f2 f3 f4 a2 a3 a4 a5 a6 a7 a8 a9 a10 a11 a12 a13 h1 => ?_)
    refine br_t (by rw [hnx]; decide) (H f1 f2 f3 f4 a2 a3 a4 a5 a6 a7 a8 a9 a10 a11 a12 a13 h1)
  | cons b Q =>
    obtain ⟨g1, g2, g3, g4⟩ := b2
    have hbm : b ∈ P ++ a :: b :: Q := by simp
    have hne : 107 + 10 * b + s ≠ aw_at (fun a => 105 + 10 * a + s) (19 + 7 * n + s) P := by
      rcases aw_at_cases (f := fun a => 105 + 10 * a + s) P (19 + 7 * n + s) with ⟨_, c2⟩ | ⟨y, hy, c2⟩
      · rw [c2]; omega
      · rw [c2]; show 107 + 10 * b + s ≠ 105 + 10 * y + s; omega
    refine ⟨_, aw_dl_rm (m' := upd (upd m (aw_at (fun a => 105 + 10 * a + s) (19 + 7 * n + s) P) (m (105 + 10 * a + s))) (107 + 10 * b + s) (aw_lp (-1) P)) hl hd hc ?_ (fun b' Q' z => ?_) (fun x hx hx2 => ?_), fun x h1 h2 => ?_, ?_⟩
    · rw [pk_un hne.symm, pk_us]
    · injection z with z1 _
      rw [← z1, pk_us]
    · rw [pk_un (hx2 b Q rfl), pk_un hx]
    · rw [pk_un (h2 b hbm).2, pk_un (hat x h1 h2)]
    · intro S u post hR H
      obtain ⟨f0, f1, f2, f3, f4, a1, a2, a3, a4, a5, a6, a7, a8, a9, a10, a11, a12, a13⟩ := u
      have hR' := hR
      obtain ⟨rfl, rfl, _⟩ := hR'
      refine W S post _ _ _ _ _ _ _ _ _ _ _ _ _ _ _ _ hR (fun f1 f2 f3 f4 a2 a3 a4 a5 a6 a7 a8 a9 a10 a11 a12 a13 h1 => ?_)
      refine br_f (by rw [g1]; exact nI_pos (by omega)) (aw_ac b g1 ?_)
      exact aw_put (107 + 10 * b + s) (aw_e3 (100 + 10 * b) 7 s (107 + 10 * b + s) (by omega)) (by omega) h1 (fun f1 f2 f3 f4 a2 a3 a4 a5 a6 a7 a8 a9 a10 a11 a12 a13 h2 => H f1 f2 f3 f4 a2 a3 a4 a5 a6 a7 a8 a9 a10 a11 a12 a13 h2)
/-! ===== all chains of the used nodes ===== -/
def aw_D (m : (Nat → Int32)) (U : Nat → Prop) (C : Nat → Nat → List Nat) : Prop :=
  ∀ n, U n → ∀ s, s < 2 → aw_dl m s (19 + 7 * n + s) (-1) (C s n) ∧ (C s n).Nodup ∧ ∀ a ∈ C s n, m (101 + 10 * a + s) = nI n
def aw_cs (s n a : Nat) (C : Nat → Nat → List Nat) : Nat → Nat → List Nat := fun s' n' => if s' = s ∧ n' = n then a :: C s' n' else C s' n'
def aw_er (s a : Nat) (C : Nat → Nat → List Nat) : Nat → Nat → List Nat := fun s' n' => if s' = s then (C s' n').erase a else C s' n'
theorem aw_D_fr {m m' : (Nat → Int32)} {U : Nat → Prop} {C : Nat → Nat → List Nat} (h : aw_D m U C) (hf : ∀ n, U n → ∀ s, s < 2 → m' (19 + 7 * n + s) = m (19 + 7 * n + s) ∧ ∀ a ∈ C s n, m' (105 + 10 * a + s) = m (105 + 10 * a + s) ∧ m' (107 + 10 * a + s) = m (107 + 10 * a + s) ∧ m' (101 + 10 * a + s) = m (101 + 10 * a + s)) : aw_D m' U C := by
  intro n hn s hs
  obtain ⟨h1, h2, h3⟩ := h n hn s hs
  obtain ⟨f1, f2⟩ := hf n hn s hs
  exact ⟨aw_dl_fr h1 f1 (fun a ha => ⟨(f2 a ha).1, (f2 a ha).2.1⟩), h2, fun a ha => (f2 a ha).2.2.trans (h3 a ha)⟩
theorem aw_nIne {a b : Nat} (ha : a < 2 ^ 31) (hb : b < 2 ^ 31) (h : a ≠ b) : nI a ≠ nI b := fun e => h ((nI_eq ha hb).mp e)
theorem aw_D_chain {m : (Nat → Int32)} {U : Nat → Prop} {C : Nat → Nat → List Nat} {s a n : Nat} (hU : ∀ n, U n → n < 12) (hD : aw_D m U C) (hs : s < 2) (ha : a < 24) (hn : U n) (e : m (101 + 10 * a + s) = nI n) (hna : a ∉ C s n) :
    ∃ m', aw_D m' U (aw_cs s n a C) ∧ (∀ x, x ≠ 19 + 7 * n + s → (∀ b, b = a ∨ b ∈ C s n → x ≠ 105 + 10 * b + s ∧ x ≠ 107 + 10 * b + s) → m' x = m x) ∧
      ∀ (S : List (Nat → Int32)) (u : St1) (post : St1 → Prop), aw_R S m u → aw_K S m' post → wpX_chain post u (nI a) (nI s) := by
  obtain ⟨g1, g2, g3⟩ := hD n hn s hs
  have hn12 := hU n hn
  obtain ⟨m', k1, k2, k3⟩ := aw_chain hs ha hn12 e g1 g2 hna
  refine ⟨m', ?_, k2, k3⟩
  intro n' hn' s' hs'
  have hn12' := hU n' hn'
  unfold aw_cs
  by_cases c : s' = s ∧ n' = n
  · obtain ⟨rfl, rfl⟩ := c
    rw [if_pos ⟨rfl, rfl⟩]
    refine ⟨k1, List.nodup_cons.mpr ⟨hna, g2⟩, fun b hb => ?_⟩
    rw [k2 _ (by omega) (fun y _ => by omega)]
    rcases List.mem_cons.mp hb with z | z
    · rw [z]; exact e
    · exact g3 b z
  · rw [if_neg c]
    obtain ⟨q1, q2, q3⟩ := hD n' hn' s' hs'
    have hne : ∀ b, b ∈ C s' n' → ∀ y, y = a ∨ y ∈ C s n → s' = s → b ≠ y := by
      intro b hb y hy hss hby
      subst hss
      have hnn : n' ≠ n := fun z => c ⟨rfl, z⟩
      have t1 := q3 b hb
      have t2 : m (101 + 10 * b + s') = nI n := by
        rw [hby]
        rcases hy with z | z
        · rw [z]; exact e
        · exact g3 y z
      rw [t1] at t2
      exact hnn ((nI_eq (by omega) (by omega)).mp t2)
    refine ⟨aw_dl_fr q1 ?_ (fun b hb => ?_), q2, fun b hb => ?_⟩
    · exact k2 _ (by omega) (fun y _ => by omega)
    · constructor
      · exact k2 _ (by omega) (fun y hy => by have := hne b hb y hy; omega)
      · exact k2 _ (by omega) (fun y hy => by have := hne b hb y hy; omega)
    · rw [k2 _ (by omega) (fun y _ => by omega)]
      exact q3 b hb
theorem aw_D_unchain {m : (Nat → Int32)} {U : Nat → Prop} {C : Nat → Nat → List Nat} {s a n : Nat} (hU : ∀ n, U n → n < 12) (hD : aw_D m U C) (hs : s < 2) (hn : U n) (ha : a ∈ C s n) :
    ∃ m', aw_D m' U (aw_er s a C) ∧ (∀ x, x ≠ 19 + 7 * n + s → (∀ b, b ∈ C s n → x ≠ 105 + 10 * b + s ∧ x ≠ 107 + 10 * b + s) → m' x = m x) ∧
      ∀ (S : List (Nat → Int32)) (u : St1) (post : St1 → Prop), aw_R S m u → aw_K S m' post → wpX_unchain post u (nI a) (nI s) := by
  obtain ⟨g1, g2, g3⟩ := hD n hn s hs
  have hn12 := hU n hn
  have e := g3 a ha
  obtain ⟨m', k1, k2, k3⟩ := aw_unchain hs hn12 e g1 g2 ha
  refine ⟨m', ?_, k2, k3⟩
  intro n' hn' s' hs'
  have hn12' := hU n' hn'
  unfold aw_er
  by_cases c : s' = s ∧ n' = n
  · obtain ⟨rfl, rfl⟩ := c
    rw [if_pos rfl]
    refine ⟨k1, g2.erase a, fun b hb => ?_⟩
    rw [k2 _ (by omega) (fun y _ => by omega)]
    exact g3 b (List.mem_of_mem_erase hb)
  · obtain ⟨q1, q2, q3⟩ := hD n' hn' s' hs'
    have hne : ∀ b, b ∈ C s' n' → ∀ y, y ∈ C s n → s' = s → b ≠ y := by
      intro b hb y hy hss hby
      subst hss
      have hnn : n' ≠ n := fun z => c ⟨rfl, z⟩
      have t1 := q3 b hb
      have t2 : m (101 + 10 * b + s') = nI n := by
        rw [hby]
        exact g3 y hy
      rw [t1] at t2
      exact hnn ((nI_eq (by omega) (by omega)).mp t2)
    have he : (if s' = s then (C s' n').erase a else C s' n') = C s' n' := by
      by_cases z : s' = s
      · rw [if_pos z]
        exact List.erase_of_not_mem (fun y => hne a y a ha z rfl)
      · rw [if_neg z]
    rw [he]
    refine ⟨aw_dl_fr q1 ?_ (fun b hb => ?_), q2, fun b hb => ?_⟩
    · exact k2 _ (by omega) (fun y _ => by omega)
    · constructor
      · exact k2 _ (by omega) (fun y hy => by have := hne b hb y hy; omega)
      · exact k2 _ (by omega) (fun y hy => by have := hne b hb y hy; omega)
    · rw [k2 _ (by omega) (fun y _ => by omega)]
      exact q3 b hb
end
section
/-! ===== the row of nodes ===== -/
def aw_lt (m : (Nat → Int32)) (i j : Nat) : Prop := m (18 + 7 * i) < m (18 + 7 * j) ∨ (m (18 + 7 * i) = m (18 + 7 * j) ∧ i < j)
/-- node i stands ahead of the key (v, n) -/
def aw_bl (m : (Nat → Int32)) (v : Int32) (n i : Nat) : Prop := m (18 + 7 * i) < v ∨ (m (18 + 7 * i) = v ∧ i < n)
def aw_row (m : (Nat → Int32)) (RW : List Nat) : Prop := m 2 = nI RW.length ∧ aw_ar nI m 4 RW ∧ RW.Pairwise (aw_lt m) ∧ ∀ n ∈ RW, n < 12
theorem aw_i32lt {x y : Int32} : x < y ↔ x.toInt < y.toInt := Int32.lt_iff_toInt_lt
theorem aw_i32eq {x y : Int32} : x = y ↔ x.toInt = y.toInt := Int32.toInt_inj.symm
theorem aw_lt_irr {m : (Nat → Int32)} {i : Nat} : ¬ aw_lt m i i := by
  rintro (h | h)
  · rw [aw_i32lt] at h; omega
  · omega
theorem aw_bl_mono {m : (Nat → Int32)} {v : Int32} {n i j : Nat} (h : aw_lt m i j) (hb : aw_bl m v n j) : aw_bl m v n i := by
  unfold aw_lt aw_bl at *
  simp only [aw_i32lt, aw_i32eq] at *
  omega
theorem aw_row_nodup {m : (Nat → Int32)} {RW : List Nat} (h : aw_row m RW) : RW.Nodup := h.2.2.1.imp (fun {a b} z e => by subst e; exact aw_lt_irr z)
theorem aw_row_le {m : (Nat → Int32)} {RW : List Nat} (h : aw_row m RW) : RW.length ≤ 12 := aw_pig (aw_row_nodup h) h.2.2.2
theorem aw_row_fr {m m' : (Nat → Int32)} {RW : List Nat} (h : aw_row m RW) (h2 : m' 2 = m 2) (h4 : ∀ k, k < 12 → m' (4 + k) = m (4 + k)) (h18 : ∀ n ∈ RW, m' (18 + 7 * n) = m (18 + 7 * n)) : aw_row m' RW := by
  have hl := aw_row_le h
  obtain ⟨g1, g2, g3, g4⟩ := h
  refine ⟨h2.trans g1, aw_ar_fr g2 (fun i hi => h4 i (by omega)), ?_, g4⟩
  refine List.Pairwise.imp_of_mem ?_ g3
  intro a b ha hb z
  unfold aw_lt at *
  rw [h18 a ha, h18 b hb]
  exact z
theorem aw_bl_split {m : (Nat → Int32)} {v : Int32} {n : Nat} : ∀ {RW : List Nat}, RW.Pairwise (aw_lt m) → ∃ P Q, RW = P ++ Q ∧ (∀ i ∈ P, aw_bl m v n i) ∧ (∀ i ∈ Q, ¬ aw_bl m v n i) := by
  intro RW
  induction RW with
  | nil => intro _; exact ⟨[], [], rfl, by simp, by simp⟩
  | cons x RW ih =>
    intro h
    have h' := List.pairwise_cons.mp h
    by_cases c : aw_bl m v n x
    · obtain ⟨P, Q, e, h1, h2⟩ := ih h'.2
      refine ⟨x :: P, Q, by rw [e]; rfl, fun i hi => ?_, h2⟩
      rcases List.mem_cons.mp hi with z | z
      · rw [z]; exact c
      · exact h1 i z
    · refine ⟨[], x :: RW, rfl, by simp, fun i hi => ?_⟩
      rcases List.mem_cons.mp hi with z | z
      · rw [z]; exact c
      · exact fun y => c (aw_bl_mono (h'.1 i z) y)
theorem aw_shr1 {n : Nat} (h : n < 2 ^ 31) : nI n >>> ((1 : Int32) &&& 31) = nI (n / 2) := pk_shrN (n := n) h ((1 : Int32) &&& 31) 1 (by decide)
theorem aw_place_l {post : Int32 → Prop} {f0 f1 f2 f3 f4 : Int32} {a2 a3 a4 a5 a6 a7 a8 a9 a10 a11 a12 a13 : Nat → Int32} {m : (Nat → Int32)} {v : Int32} {n : Nat} {P Q : List Nat} (hn : n < 2 ^ 31) (hrow : aw_ar nI m 4 (P ++ Q)) (hl : (P ++ Q).length ≤ 12) (h12 : ∀ i ∈ P ++ Q, i < 12) (hP : ∀ i ∈ P, aw_bl m v n i) (hQ : ∀ i ∈ Q, ¬ aw_bl m v n i) (H : post (nI P.length)) :
    ∀ (f lo hi : Nat), lo ≤ P.length → P.length ≤ hi → hi ≤ (P ++ Q).length → hi - lo < f → wX_placeFor_10 post v (nI n) f0 f1 f2 f3 f4 m a2 a3 a4 a5 a6 a7 a8 a9 a10 a11 a12 a13 f (nI lo) (nI hi) := by
  intro f
  induction f with
  | zero => intro lo hi _ _ _ z; exact absurd z (by omega)
  | succ f ih =>
    intro lo hi h1 h2 h3 h4
    refine pk_le hi lo (fun z => ?_) (fun z => ?_)
    · rw [show lo = P.length by omega]; exact H
    · have hmid : (lo + hi) / 2 < (P ++ Q).length := by omega
      have hg := aw_ar_get hrow hmid
      have hx12 : (P ++ Q)[(lo + hi) / 2] < 12 := h12 _ (List.getElem_mem hmid)
      have ea : (4 : Int32) + nI ((lo + hi) / 2) = nI (4 + (lo + hi) / 2) := nI_add 4 ((lo + hi) / 2)
      have hin : ∀ i, i = (P ++ Q)[(lo + hi) / 2] → ((lo + hi) / 2 < P.length → aw_bl m v n i) ∧ (P.length ≤ (lo + hi) / 2 → ¬ aw_bl m v n i) := by
        intro i hi'
        constructor
        · intro z
          rw [List.getElem_append_left z] at hi'
          exact hP i (by rw [hi']; exact List.getElem_mem z)
        · intro z
          rw [List.getElem_append_right z] at hi'
          exact hQ i (by rw [hi']; exact List.getElem_mem _)
      generalize hx : (P ++ Q)[(lo + hi) / 2] = x at *
      have hbx := hin x rfl
      have e18 : nI (16 + 7 * x) + 2 = nI (18 + 7 * x) := aw_e2 (16 + 7 * x) 2 (18 + 7 * x) (by omega)
      refine nm_r (e' := nI ((lo + hi) / 2)) (by rw [nI_add, aw_shr1 (by omega)]) ⟨pk_in (4 + (lo + hi) / 2) 340 (by omega) ea, nm_r (e' := nI x) (by rw [pk_cl (4 + (lo + hi) / 2) ea]; exact hg) (aw_na x rfl ⟨pk_in (18 + 7 * x) 340 (by omega) e18, nm_r (e' := m (18 + 7 * x)) (by rw [pk_cl (18 + 7 * x) e18]) ?_⟩)⟩
      rcases Nat.lt_or_ge ((lo + hi) / 2) P.length with z1 | z1
      · have go : wX_placeFor_10 post v (nI n) f0 f1 f2 f3 f4 m a2 a3 a4 a5 a6 a7 a8 a9 a10 a11 a12 a13 f (nI ((lo + hi) / 2 + 1)) (nI hi) := ih _ _ (by omega) h2 h3 (by omega)
        rcases hbx.1 z1 with b | ⟨b1, b2⟩
        · exact br_t b (nm_r (nI_1 _) go)
        · exact br_f (by rw [b1, aw_i32lt]; omega) (br_t b1 (br_f (nI_ge b2 hn) (nm_r (nI_1 _) go)))
      · have go : wX_placeFor_10 post v (nI n) f0 f1 f2 f3 f4 m a2 a3 a4 a5 a6 a7 a8 a9 a10 a11 a12 a13 f (nI lo) (nI ((lo + hi) / 2)) := ih _ _ h1 z1 (by omega) (by omega)
        have nb := hbx.2 z1
        refine br_f (fun b => nb (Or.inl b)) (br_c (fun b => br_t (nI_le ?_ (by omega)) go) (fun _ => go))
        rcases Nat.lt_or_ge x n with y | y
        · exact absurd (Or.inr ⟨b, y⟩) nb
        · exact y
theorem aw_placeFor {post : Int32 → Prop} {u : St1} {m : (Nat → Int32)} {v x : Int32} {n : Nat} {P Q : List Nat} (hu : aw_m u = m) (hn : n < 2 ^ 31) (hx : x = nI n) (h : aw_row m (P ++ Q)) (hP : ∀ i ∈ P, aw_bl m v n i) (hQ : ∀ i ∈ Q, ¬ aw_bl m v n i) (H : post (nI P.length)) : wpX_placeFor post u v x := by
  obtain ⟨f0, f1, f2, f3, f4, a1, a2, a3, a4, a5, a6, a7, a8, a9, a10, a11, a12, a13⟩ := u
  have hu' : a1 = m := hu
  subst hu' hx
  have hl := aw_row_le h
  exact nm_r h.1 ⟨(P ++ Q).length + 1, aw_place_l hn h.2.1 hl h.2.2.2 hP hQ H _ 0 _ (by omega) (by simp) (by omega) (by omega)⟩
/-! insert -/
def aw_sh (m : (Nat → Int32)) (k c : Nat) : (Nat → Int32) := fun x => if 4 + k < x ∧ x ≤ 4 + c then m (x - 1) else m x
theorem aw_sh_0 (m : (Nat → Int32)) (c : Nat) : aw_sh m c c = m := by
  funext x
  unfold aw_sh
  rw [if_neg (by omega)]
theorem aw_sh_s (m : (Nat → Int32)) {k c : Nat} (h : k < c) : upd (aw_sh m (k + 1) c) (4 + (k + 1)) (aw_sh m (k + 1) c (4 + k)) = aw_sh m k c := by
  funext x
  by_cases e : x = 4 + (k + 1)
  · rw [e, pk_us]
    unfold aw_sh
    rw [if_neg (by omega), if_pos (by omega)]
    exact congrArg m (by omega)
  · rw [pk_un e]
    unfold aw_sh
    by_cases z : 4 + (k + 1) < x ∧ x ≤ 4 + c
    · rw [if_pos z, if_pos (by omega)]
    · rw [if_neg z, if_neg (by omega)]
theorem aw_insert_l {post : St1 → Prop} {S : List (Nat → Int32)} {m : (Nat → Int32)} {n p c : Nat} (hc : c < 12) (H : aw_K S (upd (upd (aw_sh m p c) (4 + p) (nI n)) 2 (upd (aw_sh m p c) (4 + p) (nI n) 2 + 1)) post) :
    ∀ (f k : Nat), p ≤ k → k ≤ c → k - p < f → ∀ (f1 f2 f3 f4 : Int32) (a2 a3 a4 a5 a6 a7 a8 a9 a10 a11 a12 a13 : Nat → Int32), aw_R S (aw_sh m k c) (nI S.length, f1, f2, f3, f4, (aw_sh m k c), a2, a3, a4, a5, a6, a7, a8, a9, a10, a11, a12, a13) → wX_insertInRow_15 post (nI n) (nI p) f (nI k) (nI S.length) f1 f2 f3 f4 (aw_sh m k c) a2 a3 a4 a5 a6 a7 a8 a9 a10 a11 a12 a13 := by
  intro f
  induction f with
  | zero => intro k _ _ z; exact absurd z (by omega)
  | succ f ih =>
    intro k h1 h2 h3 f1 f2 f3 f4 a2 a3 a4 a5 a6 a7 a8 a9 a10 a11 a12 a13 hR
    refine pk_le k p (fun z => ?_) (fun z => ?_)
    · have e : k = p := by omega
      subst e
      refine aw_put (4 + k) (nI_add 4 k) (by omega) hR (fun f1 f2 f3 f4 a2 a3 a4 a5 a6 a7 a8 a9 a10 a11 a12 a13 h4 => ?_)
      exact aw_add 2 rfl (by omega) h4 (fun f1 f2 f3 f4 a2 a3 a4 a5 a6 a7 a8 a9 a10 a11 a12 a13 h5 => H f1 f2 f3 f4 a2 a3 a4 a5 a6 a7 a8 a9 a10 a11 a12 a13 h5)
    · obtain ⟨k, rfl⟩ : ∃ j, k = j + 1 := ⟨k - 1, by omega⟩
      have e1 : (4 : Int32) + nI (k + 1) - 1 = nI (4 + k) := by
        rw [show (4 : Int32) + nI (k + 1) = nI (4 + k + 1) from (nI_add 4 (k + 1)).trans (congrArg nI (by omega)), nI_pred]
      refine ⟨pk_in (4 + k) 340 (by omega) e1, aw_put (4 + (k + 1)) (nI_add 4 (k + 1)) (by omega) hR ?_⟩
      rw [pk_cl (4 + k) e1, aw_sh_s m (by omega)]
      exact fun f1 f2 f3 f4 a2 a3 a4 a5 a6 a7 a8 a9 a10 a11 a12 a13 h4 => nm_r (pk_m1 k) (ih k (by omega) (by omega) (by omega) f1 f2 f3 f4 a2 a3 a4 a5 a6 a7 a8 a9 a10 a11 a12 a13 h4)
theorem aw_insertInRow {m : (Nat → Int32)} {RW : List Nat} {n : Nat} {v : Int32} (h : aw_row m RW) (hn : n < 12) (hnR : n ∉ RW) (hv : m (18 + 7 * n) = v) :
    ∃ m' RW', aw_row m' RW' ∧ (∀ k, k ∈ RW' ↔ k = n ∨ k ∈ RW) ∧ (∀ x, x ≠ 2 → (x < 4 ∨ 16 ≤ x) → m' x = m x) ∧
      ∀ (S : List (Nat → Int32)) (u : St1) (post : St1 → Prop), aw_R S m u → aw_K S m' post → wpX_insertInRow post u (nI n) v := by
  obtain ⟨P, Q, rfl, hP, hQ⟩ := aw_bl_split (v := v) (n := n) h.2.2.1
  have hc : (P ++ Q).length < 12 := aw_pig1 (aw_row_nodup h) h.2.2.2 hn hnR
  have hlen : (P ++ Q).length = P.length + Q.length := List.length_append
  have hfr : ∀ x, x ≠ 2 → (x < 4 ∨ 16 ≤ x) → upd (upd (aw_sh m P.length (P ++ Q).length) (4 + P.length) (nI n)) 2 (upd (aw_sh m P.length (P ++ Q).length) (4 + P.length) (nI n) 2 + 1) x = m x := by
    intro x h2 hx
    rw [pk_un h2, pk_un (by omega)]
    unfold aw_sh
    rw [if_neg (by omega)]
  refine ⟨_, P ++ n :: Q, ⟨?_, ?_, ?_, ?_⟩, ?_, hfr, ?_⟩
  · rw [pk_us, pk_un (by omega)]
    unfold aw_sh
    rw [if_neg (by omega), h.1, nI_1]
    exact congrArg nI (by simp; omega)
  · have g := aw_ar_app.mp h.2.1
    refine aw_ar_app.mpr ⟨aw_ar_fr g.1 (fun i hi => ?_), ?_, aw_ar_fr g.2 (fun i hi => ?_)⟩
    · rw [pk_un (by omega), pk_un (by omega)]
      unfold aw_sh
      rw [if_neg (by omega)]
    · rw [pk_un (by omega), pk_us]
    · rw [pk_un (by omega), pk_un (by omega)]
      unfold aw_sh
      rw [if_pos (by omega)]
      exact congrArg m (by omega)
  · have key : ∀ i j, i < 12 → j < 12 → aw_lt m i j → aw_lt (upd (upd (aw_sh m P.length (P ++ Q).length) (4 + P.length) (nI n)) 2 (upd (aw_sh m P.length (P ++ Q).length) (4 + P.length) (nI n) 2 + 1)) i j := by
      intro i j hi hj z
      unfold aw_lt at *
      rw [hfr _ (by omega) (by omega), hfr _ (by omega) (by omega)]
      exact z
    have hp := List.pairwise_append.mp h.2.2.1
    have h12 := h.2.2.2
    have nP : ∀ i ∈ P, i < 12 := fun i hi => h12 i (List.mem_append_left _ hi)
    have nQ : ∀ i ∈ Q, i < 12 := fun i hi => h12 i (List.mem_append_right _ hi)
    have hPn : ∀ i ∈ P, aw_lt m i n := by
      intro i hi
      have := hP i hi
      unfold aw_bl at this
      unfold aw_lt
      rw [hv]
      exact this
    have hQn : ∀ i ∈ Q, aw_lt m n i := by
      intro i hi
      have h1 := hQ i hi
      have h2 : i ≠ n := fun e => hnR (e ▸ List.mem_append_right _ hi)
      unfold aw_bl at h1
      unfold aw_lt
      rw [hv]
      simp only [aw_i32lt, aw_i32eq] at *
      omega
    refine List.pairwise_append.mpr ⟨List.Pairwise.imp_of_mem (fun {a b} ha hb z => key a b (nP a ha) (nP b hb) z) hp.1, List.pairwise_cons.mpr ⟨fun i hi => key n i hn (nQ i hi) (hQn i hi), List.Pairwise.imp_of_mem (fun {a b} ha hb z => key a b (nQ a ha) (nQ b hb) z) hp.2.1⟩, fun a ha b hb => ?_⟩
    rcases List.mem_cons.mp hb with z | z
    · rw [z]; exact key a n (nP a ha) hn (hPn a ha)
    · exact key a b (nP a ha) (nQ b z) (hp.2.2 a ha b z)
  · intro k hk
    simp only [List.mem_append, List.mem_cons] at hk
    rcases hk with z | z | z
    · exact h.2.2.2 k (List.mem_append_left _ z)
    · rw [z]; exact hn
    · exact h.2.2.2 k (List.mem_append_right _ z)
  · intro k
    simp only [List.mem_append, List.mem_cons]
    constructor
    · rintro (z | z | z)
      · exact Or.inr (Or.inl z)
      · exact Or.inl z
      · exact Or.inr (Or.inr z)
    · rintro (z | z | z)
      · exact Or.inr (Or.inl z)
      · exact Or.inl z
      · exact Or.inr (Or.inr z)
  · intro S u post hR H
    obtain ⟨f0, f1, f2, f3, f4, a1, a2, a3, a4, a5, a6, a7, a8, a9, a10, a11, a12, a13⟩ := u
    have hR' := hR
    obtain ⟨rfl, rfl, _⟩ := hR'
    unfold wpX_insertInRow
    refine aw_placeFor (m := a1) rfl (by omega) rfl h hP hQ ?_
    refine nm_r h.1 ⟨(P ++ Q).length + 1, ?_⟩
    have t := aw_insert_l (n := n) hc H ((P ++ Q).length + 1) (P ++ Q).length (by omega) (by omega) (by omega) f1 f2 f3 f4 a2 a3 a4 a5 a6 a7 a8 a9 a10 a11 a12 a13
    rw [aw_sh_0] at t
    exact t hR
/-! remove -/
def aw_sl (m : (Nat → Int32)) (p k : Nat) : (Nat → Int32) := fun x => if 4 + p ≤ x ∧ x < 4 + k then m (x + 1) else m x
theorem aw_sl_0 (m : (Nat → Int32)) (p : Nat) : aw_sl m p p = m := by
  funext x
  unfold aw_sl
  rw [if_neg (by omega)]
theorem aw_sl_s (m : (Nat → Int32)) {p k : Nat} (h : p ≤ k) : upd (aw_sl m p k) (4 + k) (aw_sl m p k (4 + k + 1)) = aw_sl m p (k + 1) := by
  funext x
  by_cases e : x = 4 + k
  · rw [e, pk_us]
    unfold aw_sl
    rw [if_neg (by omega), if_pos (by omega)]
  · rw [pk_un e]
    unfold aw_sl
    by_cases z : 4 + p ≤ x ∧ x < 4 + k
    · rw [if_pos z, if_pos (by omega)]
    · rw [if_neg z, if_neg (by omega)]
theorem aw_remove_l {post : St1 → Prop} {S : List (Nat → Int32)} {m : (Nat → Int32)} {p c : Nat} (hc : c < 12) (h2 : m 2 = nI c) (H : aw_K S (aw_sl m p c) post) :
    ∀ (f k : Nat), p ≤ k → k ≤ c → c - k < f → ∀ (f1 f2 f3 f4 : Int32) (a2 a3 a4 a5 a6 a7 a8 a9 a10 a11 a12 a13 : Nat → Int32), aw_R S (aw_sl m p k) (nI S.length, f1, f2, f3, f4, (aw_sl m p k), a2, a3, a4, a5, a6, a7, a8, a9, a10, a11, a12, a13) → wX_removeFromRow_25 post f (nI k) (nI S.length) f1 f2 f3 f4 (aw_sl m p k) a2 a3 a4 a5 a6 a7 a8 a9 a10 a11 a12 a13 := by
  intro f
  induction f with
  | zero => intro k _ _ z; exact absurd z (by omega)
  | succ f ih =>
    intro k h1 h3 h4 f1 f2 f3 f4 a2 a3 a4 a5 a6 a7 a8 a9 a10 a11 a12 a13 hR
    have e2 : aw_sl m p k 2 = nI c := by
      unfold aw_sl
      rw [if_neg (by omega)]
      exact h2
    refine pk_le c k (fun z => ?_) (fun z => ?_) e2
    · have e : k = c := by omega
      subst e
      exact H f1 f2 f3 f4 a2 a3 a4 a5 a6 a7 a8 a9 a10 a11 a12 a13 hR
    · have e1 : (4 : Int32) + nI k + 1 = nI (4 + k + 1) := aw_e3 4 k 1 (4 + k + 1) rfl
      refine ⟨pk_in (4 + k + 1) 340 (by omega) e1, aw_put (4 + k) (nI_add 4 k) (by omega) hR ?_⟩
      rw [pk_cl (4 + k + 1) e1, aw_sl_s m h1]
      exact fun f1 f2 f3 f4 a2 a3 a4 a5 a6 a7 a8 a9 a10 a11 a12 a13 h5 => nm_r (nI_1 k) (ih (k + 1) (by omega) (by omega) (by omega) f1 f2 f3 f4 a2 a3 a4 a5 a6 a7 a8 a9 a10 a11 a12 a13 h5)
theorem aw_removeFromRow {m : (Nat → Int32)} {RW : List Nat} {n : Nat} (h : aw_row m RW) (hnR : n ∈ RW) :
    ∃ m' RW', aw_row m' RW' ∧ (∀ k, k ∈ RW' ↔ k ≠ n ∧ k ∈ RW) ∧ (∀ x, x ≠ 2 → (x < 4 ∨ 16 ≤ x) → m' x = m x) ∧
      ∀ (S : List (Nat → Int32)) (u : St1) (post : St1 → Prop), aw_R S m u → aw_K S m' post → wpX_removeFromRow post u (nI n) := by
  have hn : n < 12 := h.2.2.2 n hnR
  have hnd := aw_row_nodup h
  have hle := aw_row_le h
  obtain ⟨P, Q, rfl⟩ := List.append_of_mem hnR
  have hp := List.pairwise_append.mp h.2.2.1
  have hq := List.pairwise_cons.mp hp.2.1
  have hlen : (P ++ n :: Q).length = P.length + Q.length + 1 := by simp; omega
  have hP : ∀ i ∈ P, aw_bl m (m (18 + 7 * n)) n i := fun i hi => hp.2.2 i hi n (List.mem_cons_self ..)
  have hQ : ∀ i ∈ n :: Q, ¬ aw_bl m (m (18 + 7 * n)) n i := by
    intro i hi z
    rcases List.mem_cons.mp hi with e | e
    · rw [e] at z; exact aw_lt_irr z
    · exact aw_lt_irr (aw_bl_mono (hq.1 i e) z : aw_lt m n n)
  have hfr : ∀ x, x ≠ 2 → (x < 4 ∨ 16 ≤ x) → aw_sl (upd m 2 (nI (P.length + Q.length))) P.length (P.length + Q.length) x = m x := by
    intro x h2 hx
    unfold aw_sl
    rw [if_neg (by omega), pk_un h2]
  have hnd' := List.nodup_append.mp hnd
  have hndq := List.nodup_cons.mp hnd'.2.1
  refine ⟨aw_sl (upd m 2 (nI (P.length + Q.length))) P.length (P.length + Q.length), P ++ Q, ⟨?_, ?_, ?_, ?_⟩, ?_, hfr, ?_⟩
  · unfold aw_sl
    rw [if_neg (by omega), pk_us, List.length_append]
  · have g := aw_ar_app.mp h.2.1
    refine aw_ar_app.mpr ⟨aw_ar_fr g.1 (fun i hi => ?_), aw_ar_fr g.2.2 (fun i hi => ?_)⟩
    · unfold aw_sl
      rw [if_neg (by omega), pk_un (by omega)]
    · unfold aw_sl
      rw [if_pos (by omega), pk_un (by omega)]
      exact congrArg m (by omega)
  · have key : ∀ i j, i < 12 → j < 12 → aw_lt m i j → aw_lt (aw_sl (upd m 2 (nI (P.length + Q.length))) P.length (P.length + Q.length)) i j := by
      intro i j hi hj z
      unfold aw_lt at *
      rw [hfr _ (by omega) (by omega), hfr _ (by omega) (by omega)]
      exact z
    have h12 := h.2.2.2
    have nP : ∀ i ∈ P, i < 12 := fun i hi => h12 i (List.mem_append_left _ hi)
    have nQ : ∀ i ∈ Q, i < 12 := fun i hi => h12 i (List.mem_append_right _ (List.mem_cons_of_mem _ hi))
    exact List.pairwise_append.mpr ⟨List.Pairwise.imp_of_mem (fun {a b} ha hb z => key a b (nP a ha) (nP b hb) z) hp.1, List.Pairwise.imp_of_mem (fun {a b} ha hb z => key a b (nQ a ha) (nQ b hb) z) hq.2, fun a ha b hb => key a b (nP a ha) (nQ b hb) (hp.2.2 a ha b (List.mem_cons_of_mem _ hb))⟩
  · intro k hk
    refine h.2.2.2 k ?_
    simp only [List.mem_append, List.mem_cons] at hk ⊢
    rcases hk with z | z
    · exact Or.inl z
    · exact Or.inr (Or.inr z)
  · intro k
    simp only [List.mem_append, List.mem_cons]
    constructor
    · rintro (z | z)
      · exact ⟨fun e => hnd'.2.2 k z n (List.mem_cons_self ..) e, Or.inl z⟩
      · exact ⟨fun e => hndq.1 (e ▸ z), Or.inr (Or.inr z)⟩
    · rintro ⟨e, z | z | z⟩
      · exact Or.inl z
      · exact absurd z e
      · exact Or.inr z
  · intro S u post hR H
    obtain ⟨f0, f1, f2, f3, f4, a1, a2, a3, a4, a5, a6, a7, a8, a9, a10, a11, a12, a13⟩ := u
    have hR' := hR
    obtain ⟨rfl, rfl, _⟩ := hR'
    have e18 : nI (16 + 7 * n) + 2 = nI (18 + 7 * n) := aw_e2 (16 + 7 * n) 2 (18 + 7 * n) (by omega)
    unfold wpX_removeFromRow
    refine aw_na n rfl ?_
    refine ⟨pk_in (18 + 7 * n) 340 (by omega) e18, ?_⟩
    rw [pk_cl (18 + 7 * n) e18]
    refine aw_placeFor (m := a1) rfl (by omega) rfl h hP hQ ?_
    refine aw_add 2 rfl (by omega) hR ?_
    have ec : a1 2 + (-1) = nI (P.length + Q.length) := by rw [h.1, hlen, pk_m1]
    rw [ec]
    refine (fun f1 f2 f3 f4 a2 a3 a4 a5 a6 a7 a8 a9 a10 a11 a12 a13 h5 => ⟨P.length + Q.length + 1, ?_⟩)
    have t := aw_remove_l (p := P.length) (c := P.length + Q.length) (by omega) pk_us H (P.length + Q.length + 1) P.length (by omega) (by omega) (by omega) f1 f2 f3 f4 a2 a3 a4 a5 a6 a7 a8 a9 a10 a11 a12 a13
    rw [aw_sl_0] at t
    exact t h5
end
section
/-! ===== what holds of the cells ===== -/
def aw_U (FN : List Nat) (n : Nat) : Prop := n < 12 ∧ n ∉ FN
def aw_A (m : (Nat → Int32)) (FN : List Nat) (C : Nat → Nat → List Nat) (a : Nat) : Prop :=
  (∀ s, s < 2 → ∃ n, aw_U FN n ∧ m (101 + 10 * a + s) = nI n ∧ a ∈ C s n) ∧ (∃ y, y < 4 ∧ m (103 + 10 * a) = nI y) ∧ ∃ w, w < 100 ∧ m (104 + 10 * a) = nI w
def aw_J (m : (Nat → Int32)) (FN FA : List Nat) (C : Nat → Nat → List Nat) : Prop :=
  (aw_ch m (fun n => 16 + 7 * n + 5) 12 0 FN ∧ FN.Pairwise (· < ·)) ∧
  (aw_ch m (fun a => 100 + 10 * a + 5) 24 1 FA ∧ FA.Pairwise (· < ·)) ∧
  (∀ n, n < 12 → m (16 + 7 * n) = if n ∈ FN then 0 else 1) ∧
  (∀ a, a < 24 → m (100 + 10 * a) = if a ∈ FA then 0 else 1) ∧
  m 3 = nI (24 - FA.length) ∧
  (∀ a, a < 24 → a ∉ FA → aw_A m FN C a) ∧
  aw_D m (aw_U FN) C ∧
  (∀ n, aw_U FN n → ∀ s, s < 2 → ∀ a ∈ C s n, a ∉ FA) ∧
  (∀ n, aw_U FN n → m (22 + 7 * n) = nI ((C 0 n).length + (C 1 n).length)) ∧
  ∀ n, aw_U FN n → ∃ b, b < 8 ∧ m (17 + 7 * n) = nI b
def aw_V (m : (Nat → Int32)) : Prop := ∃ FN FA C RW, aw_J m FN FA C ∧ aw_row m RW ∧ ∀ n, n ∈ RW ↔ aw_U FN n
theorem aw_J_fr {m m' : (Nat → Int32)} {FN FA : List Nat} {C : Nat → Nat → List Nat} (h : aw_J m FN FA C) (hf : ∀ x, (x = 0 ∨ x = 1 ∨ x = 3 ∨ (16 ≤ x ∧ ∀ n, n < 12 → x ≠ 18 + 7 * n)) → m' x = m x) : aw_J m' FN FA C := by
  obtain ⟨⟨h1, h1'⟩, ⟨h2, h2'⟩, h3, h4, h5, h6, h7, h8, h9, h10⟩ := h
  have G : ∀ x, 100 ≤ x → m' x = m x := fun x hx => hf x (Or.inr (Or.inr (Or.inr ⟨by omega, fun n hn => by omega⟩)))
  have N : ∀ n k, n < 12 → k < 7 → k ≠ 2 → m' (16 + 7 * n + k) = m (16 + 7 * n + k) := fun n k hn hk hk2 => hf _ (Or.inr (Or.inr (Or.inr ⟨by omega, fun n' hn' => by omega⟩)))
  refine ⟨⟨aw_ch_fr h1 (hf 0 (by simp)) (fun a ha => N a 5 (aw_ch_lt h1 a ha) (by omega) (by omega)), h1'⟩, ⟨aw_ch_fr h2 (hf 1 (by simp)) (fun a ha => G _ (by omega)), h2'⟩, ?_, ?_, ?_, ?_, ?_, h8, ?_, ?_⟩
  · intro n hn
    have := N n 0 hn (by omega) (by omega)
    exact (show m' (16 + 7 * n) = m (16 + 7 * n) from this).trans (h3 n hn)
  · intro a ha
    rw [G _ (by omega)]; exact h4 a ha
  · rw [hf 3 (by simp)]; exact h5
  · intro a ha hb
    obtain ⟨t1, ⟨y, t2, t3⟩, w, t4, t5⟩ := h6 a ha hb
    refine ⟨fun s hs => ?_, ⟨y, t2, by rw [G _ (by omega)]; exact t3⟩, w, t4, by rw [G _ (by omega)]; exact t5⟩
    obtain ⟨n, q1, q2, q3⟩ := t1 s hs
    exact ⟨n, q1, by rw [G _ (by omega)]; exact q2, q3⟩
  · refine aw_D_fr h7 (fun n hn s hs => ⟨?_, fun a ha => ⟨G _ (by omega), G _ (by omega), G _ (by omega)⟩⟩)
    have := N n (3 + s) hn.1 (by omega) (by omega)
    rw [show 19 + 7 * n + s = 16 + 7 * n + (3 + s) by omega]
    exact this
  · intro n hn
    have := N n 6 hn.1 (by omega) (by omega)
    rw [show 22 + 7 * n = 16 + 7 * n + 6 by omega, this, show 16 + 7 * n + 6 = 22 + 7 * n by omega]
    exact h9 n hn
  · intro n hn
    obtain ⟨b, q1, q2⟩ := h10 n hn
    have := N n 1 hn.1 (by omega) (by omega)
    exact ⟨b, q1, by rw [show 17 + 7 * n = 16 + 7 * n + 1 by omega, this, show 16 + 7 * n + 1 = 17 + 7 * n by omega]; exact q2⟩
theorem aw_J_wt {m : (Nat → Int32)} {FN FA : List Nat} {C : Nat → Nat → List Nat} {a w : Nat} (h : aw_J m FN FA C) (ha : a < 24) (hw : w < 100) : aw_J (upd m (104 + 10 * a) (nI w)) FN FA C := by
  obtain ⟨⟨h1, h1'⟩, ⟨h2, h2'⟩, h3, h4, h5, h6, h7, h8, h9, h10⟩ := h
  refine ⟨⟨aw_ch_fr h1 (pk_un (by omega)) (fun b hb => pk_un (by have := aw_ch_lt h1 b hb; omega)), h1'⟩, ⟨aw_ch_fr h2 (pk_un (by omega)) (fun b hb => pk_un (by omega)), h2'⟩, ?_, ?_, ?_, ?_, ?_, h8, ?_, ?_⟩
  · intro n hn
    rw [pk_un (by omega)]; exact h3 n hn
  · intro b hb
    rw [pk_un (by omega)]; exact h4 b hb
  · rw [pk_un (by omega)]; exact h5
  · intro b hb hbF
    obtain ⟨t1, ⟨y, t2, t3⟩, w', t4, t5⟩ := h6 b hb hbF
    refine ⟨fun s hs => ?_, ⟨y, t2, by rw [pk_un (by omega)]; exact t3⟩, ?_⟩
    · obtain ⟨n, q1, q2, q3⟩ := t1 s hs
      exact ⟨n, q1, by rw [pk_un (by omega)]; exact q2, q3⟩
    · by_cases e : b = a
      · rw [e]; exact ⟨w, hw, pk_us⟩
      · exact ⟨w', t4, by rw [pk_un (by omega)]; exact t5⟩
  · refine aw_D_fr h7 (fun n hn s hs => ⟨pk_un (by have := hn.1; omega), fun b hb => ⟨pk_un (by omega), pk_un (by omega), pk_un (by omega)⟩⟩)
  · intro n hn
    rw [pk_un (by have := hn.1; omega)]; exact h9 n hn
  · intro n hn
    obtain ⟨b, q1, q2⟩ := h10 n hn
    exact ⟨b, q1, by rw [pk_un (by have := hn.1; omega)]; exact q2⟩
theorem aw_J_lb {m : (Nat → Int32)} {FN FA : List Nat} {C : Nat → Nat → List Nat} {n b : Nat} (h : aw_J m FN FA C) (hn : n < 12) (hb : b < 8) : aw_J (upd m (17 + 7 * n) (nI b)) FN FA C := by
  obtain ⟨⟨h1, h1'⟩, ⟨h2, h2'⟩, h3, h4, h5, h6, h7, h8, h9, h10⟩ := h
  refine ⟨⟨aw_ch_fr h1 (pk_un (by omega)) (fun b hb => pk_un (by have := aw_ch_lt h1 b hb; omega)), h1'⟩, ⟨aw_ch_fr h2 (pk_un (by omega)) (fun b hb => pk_un (by omega)), h2'⟩, ?_, ?_, ?_, ?_, ?_, h8, ?_, ?_⟩
  · intro n hn
    rw [pk_un (by omega)]; exact h3 n hn
  · intro b hb
    rw [pk_un (by omega)]; exact h4 b hb
  · rw [pk_un (by omega)]; exact h5
  · intro b hb hbF
    obtain ⟨t1, ⟨y, t2, t3⟩, w', t4, t5⟩ := h6 b hb hbF
    refine ⟨fun s hs => ?_, ⟨y, t2, by rw [pk_un (by omega)]; exact t3⟩, w', t4, by rw [pk_un (by omega)]; exact t5⟩
    obtain ⟨n, q1, q2, q3⟩ := t1 s hs
    exact ⟨n, q1, by rw [pk_un (by omega)]; exact q2, q3⟩
  · refine aw_D_fr h7 (fun n hn s hs => ⟨pk_un (by omega), fun b hb => ⟨pk_un (by omega), pk_un (by omega), pk_un (by omega)⟩⟩)
  · intro n hn
    rw [pk_un (by omega)]; exact h9 n hn
  · intro k hk
    by_cases e : k = n
    · rw [e]; exact ⟨b, hb, pk_us⟩
    · obtain ⟨b', q1, q2⟩ := h10 k hk
      exact ⟨b', q1, by rw [pk_un (by omega)]; exact q2⟩
theorem aw_J_node {m m' : (Nat → Int32)} {FN FA : List Nat} {C : Nat → Nat → List Nat} {n b : Nat} (h : aw_J m (n :: FN) FA C) (h0 : m' 0 = m (16 + 7 * n + 5)) (h16 : m' (16 + 7 * n) = 1) (h17 : m' (17 + 7 * n) = nI b) (hb : b < 8) (h19 : m' (19 + 7 * n) = -1) (h20 : m' (20 + 7 * n) = -1) (h22 : m' (22 + 7 * n) = 0)
    (hf : ∀ x, x ≠ 0 → (x < 16 + 7 * n ∨ 22 + 7 * n < x ∨ x = 21 + 7 * n) → m' x = m x) : aw_J m' FN FA (fun s k => if k = n then [] else C s k) := by
  obtain ⟨⟨h1, h1'⟩, ⟨h2, h2'⟩, h3, h4, h5, h6, h7, h8, h9, h10⟩ := h
  have hn : n < 12 := h1.2.1
  have hp := List.pairwise_cons.mp h1'
  have hnF : n ∉ FN := fun z => by have := hp.1 n z; omega
  have hU : ∀ k, k ≠ n → (aw_U (n :: FN) k ↔ aw_U FN k) := by
    intro k hk
    unfold aw_U
    rw [List.mem_cons]
    exact ⟨fun z => ⟨z.1, fun y => z.2 (Or.inr y)⟩, fun z => ⟨z.1, fun y => y.elim hk z.2⟩⟩
  refine ⟨⟨aw_ch_fr h1.2.2 h0 (fun k hk => ?_), hp.2⟩, ⟨aw_ch_fr h2 (hf 1 (by omega) (by omega)) (fun a _ => hf _ (by omega) (by omega)), h2'⟩, ?_, ?_, ?_, ?_, ?_, ?_, ?_, ?_⟩
  · have : k ≠ n := fun e => hnF (e ▸ hk)
    exact hf (16 + 7 * k + 5) (by omega) (by omega)
  · intro k hk
    by_cases e : k = n
    · rw [e, if_neg hnF]; exact h16
    · rw [hf _ (by omega) (by omega), h3 k hk]
      simp [e]
  · intro a ha
    rw [hf _ (by omega) (by omega)]; exact h4 a ha
  · rw [hf _ (by omega) (by omega)]; exact h5
  · intro a ha haF
    obtain ⟨t1, ⟨y, t2, t3⟩, w, t4, t5⟩ := h6 a ha haF
    refine ⟨fun s hs => ?_, ⟨y, t2, by rw [hf _ (by omega) (by omega)]; exact t3⟩, w, t4, by rw [hf _ (by omega) (by omega)]; exact t5⟩
    obtain ⟨k, q1, q2, q3⟩ := t1 s hs
    have hk : k ≠ n := fun e => q1.2 (e ▸ List.mem_cons_self ..)
    refine ⟨k, (hU k hk).mp q1, by rw [hf _ (by omega) (by omega)]; exact q2, ?_⟩
    show a ∈ (if k = n then [] else C s k)
    rw [if_neg hk]; exact q3
  · intro k hk s hs
    show aw_dl m' s (19 + 7 * k + s) (-1) (if k = n then [] else C s k) ∧ (if k = n then [] else C s k).Nodup ∧ ∀ a ∈ (if k = n then [] else C s k), m' (101 + 10 * a + s) = nI k
    by_cases e : k = n
    · rw [if_pos e, e]
      refine ⟨?_, List.nodup_nil, fun a ha => by cases ha⟩
      show m' (19 + 7 * n + s) = -1
      rcases Nat.lt_or_ge s 1 with z | z
      · rw [show 19 + 7 * n + s = 19 + 7 * n by omega]; exact h19
      · rw [show 19 + 7 * n + s = 20 + 7 * n by omega]; exact h20
    · rw [if_neg e]
      have hk12 := hk.1
      obtain ⟨q1, q2, q3⟩ := h7 k ((hU k e).mpr hk) s hs
      exact ⟨aw_dl_fr q1 (hf _ (by omega) (by omega)) (fun a _ => ⟨hf _ (by omega) (by omega), hf _ (by omega) (by omega)⟩), q2, fun a ha => (hf _ (by omega) (by omega)).trans (q3 a ha)⟩
  · intro k hk s hs a ha
    have ha' : a ∈ (if k = n then [] else C s k) := ha
    by_cases e : k = n
    · rw [if_pos e] at ha'; cases ha'
    · rw [if_neg e] at ha'
      exact h8 k ((hU k e).mpr hk) s hs a ha'
  · intro k hk
    show m' (22 + 7 * k) = nI ((if k = n then [] else C 0 k).length + (if k = n then [] else C 1 k).length)
    by_cases e : k = n
    · rw [if_pos e, if_pos e, e, h22]; rfl
    · rw [if_neg e, if_neg e, hf _ (by omega) (by have := hk.1; omega)]
      exact h9 k ((hU k e).mpr hk)
  · intro k hk
    by_cases e : k = n
    · rw [e]; exact ⟨b, hb, h17⟩
    · rw [hf _ (by omega) (by have := hk.1; omega)]
      exact h10 k ((hU k e).mpr hk)
theorem aw_J_drop {m m' : (Nat → Int32)} {FN F' FA : List Nat} {C : Nat → Nat → List Nat} {n : Nat} (h : aw_J m FN FA C) (hn : aw_U FN n) (c0 : ∀ s, s < 2 → C s n = []) (hF : aw_ch m' (fun n => 16 + 7 * n + 5) 12 0 F') (hF' : F'.Pairwise (· < ·)) (hmem : ∀ x, x ∈ F' ↔ x ∈ FN ∨ x = n) (h16 : m' (16 + 7 * n) = 0)
    (hf : ∀ x, x ≠ 0 → x ≠ 16 + 7 * n → (∀ k, x ≠ 16 + 7 * k + 5 ∨ 12 ≤ k) → m' x = m x) : aw_J m' F' FA C := by
  obtain ⟨⟨h1, h1'⟩, ⟨h2, h2'⟩, h3, h4, h5, h6, h7, h8, h9, h10⟩ := h
  have hn12 := hn.1
  have hU : ∀ k, aw_U F' k ↔ aw_U FN k ∧ k ≠ n := by
    intro k
    unfold aw_U
    rw [hmem k]
    exact ⟨fun z => ⟨⟨z.1, fun y => z.2 (Or.inl y)⟩, fun y => z.2 (Or.inr y)⟩, fun z => ⟨z.1.1, fun y => y.elim z.1.2 z.2⟩⟩
  have G : ∀ x, 100 ≤ x → m' x = m x := fun x hx => hf x (by omega) (by omega) (fun k => by omega)
  refine ⟨⟨hF, hF'⟩, ⟨aw_ch_fr h2 (hf 1 (by omega) (by omega) (fun k => by omega)) (fun a _ => G _ (by omega)), h2'⟩, ?_, ?_, ?_, ?_, ?_, ?_, ?_, ?_⟩
  · intro k hk
    by_cases e : k = n
    · rw [e, if_pos ((hmem n).mpr (Or.inr rfl))]; exact h16
    · rw [hf _ (by omega) (by omega) (fun k => by omega), h3 k hk]
      simp [hmem k, e]
  · intro a ha
    rw [G _ (by omega)]; exact h4 a ha
  · rw [hf 3 (by omega) (by omega) (fun k => by omega)]; exact h5
  · intro a ha haF
    obtain ⟨t1, ⟨y, t2, t3⟩, w, t4, t5⟩ := h6 a ha haF
    refine ⟨fun s hs => ?_, ⟨y, t2, by rw [G _ (by omega)]; exact t3⟩, w, t4, by rw [G _ (by omega)]; exact t5⟩
    obtain ⟨k, q1, q2, q3⟩ := t1 s hs
    have hk : k ≠ n := fun e => by
      rw [e, c0 s hs] at q3
      cases q3
    exact ⟨k, (hU k).mpr ⟨q1, hk⟩, by rw [G _ (by omega)]; exact q2, q3⟩
  · intro k hk s hs
    have hk' := (hU k).mp hk
    have hk12 := hk.1
    have hkn := hk'.2
    obtain ⟨q1, q2, q3⟩ := h7 k hk'.1 s hs
    exact ⟨aw_dl_fr q1 (hf _ (by omega) (by omega) (fun k => by omega)) (fun a _ => ⟨G _ (by omega), G _ (by omega)⟩), q2, fun a ha => (G _ (by omega)).trans (q3 a ha)⟩
  · intro k hk
    exact h8 k ((hU k).mp hk).1
  · intro k hk
    have hk' := (hU k).mp hk
    have hk12 := hk.1
    have hkn := hk'.2
    rw [hf _ (by omega) (by omega) (fun k => by omega)]
    exact h9 k hk'.1
  · intro k hk
    have hk' := (hU k).mp hk
    have hk12 := hk.1
    have hkn := hk'.2
    rw [hf _ (by omega) (by omega) (fun k => by omega)]
    exact h10 k hk'.1
/-- the facts on m and m' that an added arrow's, and a cut arrow's, invariant rest on: what stays -/
def aw_st (m m' : (Nat → Int32)) (a : Nat) : Prop :=
  m' 0 = m 0 ∧ (∀ n, n < 12 → m' (16 + 7 * n) = m (16 + 7 * n) ∧ m' (17 + 7 * n) = m (17 + 7 * n) ∧ m' (16 + 7 * n + 5) = m (16 + 7 * n + 5)) ∧
  (∀ b, b < 24 → b ≠ a → m' (100 + 10 * b) = m (100 + 10 * b) ∧ (∀ s, s < 2 → m' (101 + 10 * b + s) = m (101 + 10 * b + s)) ∧ m' (103 + 10 * b) = m (103 + 10 * b) ∧ m' (104 + 10 * b) = m (104 + 10 * b))
theorem aw_J_arrow {m m' : (Nat → Int32)} {FN FA : List Nat} {C : Nat → Nat → List Nat} {a f t y w : Nat} (h : aw_J m FN (a :: FA) C) (hst : aw_st m m' a) (hfu : aw_U FN f) (htu : aw_U FN t) (hy : y < 4) (hw : w < 100)
    (h1a : m' 1 = m (100 + 10 * a + 5)) (hFA : ∀ b ∈ FA, m' (100 + 10 * b + 5) = m (100 + 10 * b + 5)) (hv0 : m' (100 + 10 * a) = 1) (hv1 : m' (101 + 10 * a) = nI f) (hv2 : m' (101 + 10 * a + 1) = nI t) (hv3 : m' (103 + 10 * a) = nI y) (hv4 : m' (104 + 10 * a) = nI w)
    (h3' : m' 3 = m 3 + 1) (hD : aw_D m' (aw_U FN) (aw_cs 1 t a (aw_cs 0 f a C))) (hH : ∀ n, aw_U FN n → m' (22 + 7 * n) = m (22 + 7 * n) + (if n = f then 1 else 0) + (if n = t then 1 else 0)) :
    aw_J m' FN FA (aw_cs 1 t a (aw_cs 0 f a C)) := by
  obtain ⟨⟨h1, h1'⟩, ⟨h2, h2'⟩, h3, h4, h5, h6, h7, h8, h9, h10⟩ := h
  obtain ⟨s0, sN, sA⟩ := hst
  have ha : a < 24 := h2.2.1
  have hp := List.pairwise_cons.mp h2'
  have haF : a ∉ FA := fun z => by have := hp.1 a z; omega
  have hlen : FA.length < 24 := by
    have := aw_pig (aw_sorted_nodup h2') (aw_ch_lt h2)
    rw [List.length_cons] at this
    omega
  have E0 : ∀ n, aw_cs 1 t a (aw_cs 0 f a C) 0 n = if n = f then a :: C 0 n else C 0 n := by
    intro n
    unfold aw_cs
    simp
  have E1 : ∀ n, aw_cs 1 t a (aw_cs 0 f a C) 1 n = if n = t then a :: C 1 n else C 1 n := by
    intro n
    unfold aw_cs
    simp
  refine ⟨⟨aw_ch_fr h1 s0 (fun n hn => (sN n (aw_ch_lt h1 n hn)).2.2), h1'⟩, ⟨aw_ch_fr h2.2.2 h1a hFA, hp.2⟩, ?_, ?_, ?_, ?_, hD, ?_, ?_, ?_⟩
  · intro n hn
    rw [(sN n hn).1]; exact h3 n hn
  · intro b hb
    by_cases e : b = a
    · rw [e, if_neg haF]; exact hv0
    · rw [(sA b hb e).1, h4 b hb]
      simp [e]
  · rw [h3', h5, nI_1, List.length_cons]
    exact congrArg nI (by omega)
  · intro b hb hbF
    by_cases e : b = a
    · subst e
      refine ⟨fun s hs => ?_, ⟨y, hy, hv3⟩, w, hw, hv4⟩
      rcases Nat.lt_or_ge s 1 with z | z
      · obtain rfl : s = 0 := by omega
        exact ⟨f, hfu, hv1, by rw [E0, if_pos rfl]; exact List.mem_cons_self ..⟩
      · obtain rfl : s = 1 := by omega
        exact ⟨t, htu, hv2, by rw [E1, if_pos rfl]; exact List.mem_cons_self ..⟩
    · obtain ⟨q0, q1, q2, q3⟩ := sA b hb e
      obtain ⟨t1, ⟨y', t2, t3⟩, w', t4, t5⟩ := h6 b hb (fun z => (List.mem_cons.mp z).elim e hbF)
      refine ⟨fun s hs => ?_, ⟨y', t2, q2.trans t3⟩, w', t4, q3.trans t5⟩
      obtain ⟨n, r1, r2, r3⟩ := t1 s hs
      refine ⟨n, r1, (q1 s hs).trans r2, ?_⟩
      rcases Nat.lt_or_ge s 1 with z | z
      · obtain rfl : s = 0 := by omega
        rw [E0]
        by_cases e2 : n = f
        · rw [if_pos e2]; exact List.mem_cons_of_mem _ r3
        · rw [if_neg e2]; exact r3
      · obtain rfl : s = 1 := by omega
        rw [E1]
        by_cases e2 : n = t
        · rw [if_pos e2]; exact List.mem_cons_of_mem _ r3
        · rw [if_neg e2]; exact r3
  · intro n hn s hs b hb
    have old : b ∈ C s n → b ∉ FA := fun z y => h8 n hn s hs b z (List.mem_cons_of_mem _ y)
    rcases Nat.lt_or_ge s 1 with z | z
    · obtain rfl : s = 0 := by omega
      rw [E0] at hb
      by_cases e2 : n = f
      · rw [if_pos e2] at hb
        rcases List.mem_cons.mp hb with q | q
        · rw [q]; exact haF
        · exact old q
      · rw [if_neg e2] at hb; exact old hb
    · obtain rfl : s = 1 := by omega
      rw [E1] at hb
      by_cases e2 : n = t
      · rw [if_pos e2] at hb
        rcases List.mem_cons.mp hb with q | q
        · rw [q]; exact haF
        · exact old q
      · rw [if_neg e2] at hb; exact old hb
  · intro n hn
    rw [hH n hn, h9 n hn, E0, E1]
    have e1 : ∀ (c : Prop) [Decidable c], (if c then (1 : Int32) else 0) = nI (if c then 1 else 0) := fun c _ => by
      by_cases z : c
      · rw [if_pos z, if_pos z]; rfl
      · rw [if_neg z, if_neg z]; rfl
    rw [e1, e1, nI_add, nI_add]
    refine congrArg nI ?_
    by_cases z1 : n = f
    · by_cases z2 : n = t
      · simp only [if_pos z1, if_pos z2, List.length_cons]; omega
      · simp only [if_pos z1, if_neg z2, List.length_cons]; omega
    · by_cases z2 : n = t
      · simp only [if_neg z1, if_pos z2, List.length_cons]; omega
      · simp only [if_neg z1, if_neg z2]; omega
  · intro n hn
    rw [(sN n hn.1).2.1]; exact h10 n hn
theorem aw_J_cut {m m' : (Nat → Int32)} {FN FA F' : List Nat} {C : Nat → Nat → List Nat} {a f t : Nat} (h : aw_J m FN FA C) (hst : aw_st m m' a) (ha : a < 24) (haF : a ∉ FA) (hfu : aw_U FN f) (htu : aw_U FN t) (haf : a ∈ C 0 f) (hat : a ∈ C 1 t)
    (hF : aw_ch m' (fun a => 100 + 10 * a + 5) 24 1 F') (hF' : F'.Pairwise (· < ·)) (hmem : ∀ x, x ∈ F' ↔ x ∈ FA ∨ x = a) (hlen : F'.length = FA.length + 1) (hv0 : m' (100 + 10 * a) = 0)
    (h3' : m' 3 = m 3 + (-1)) (hD : aw_D m' (aw_U FN) (aw_er 1 a (aw_er 0 a C))) (hH : ∀ n, aw_U FN n → m' (22 + 7 * n) = m (22 + 7 * n) + (if n = f then -1 else 0) + (if n = t then -1 else 0)) :
    aw_J m' FN F' (aw_er 1 a (aw_er 0 a C)) := by
  obtain ⟨⟨h1, h1'⟩, ⟨h2, h2'⟩, h3, h4, h5, h6, h7, h8, h9, h10⟩ := h
  obtain ⟨s0, sN, sA⟩ := hst
  have hlen2 : F'.length ≤ 24 := aw_pig (aw_sorted_nodup hF') (aw_ch_lt hF)
  have E : ∀ s n, s < 2 → aw_er 1 a (aw_er 0 a C) s n = (C s n).erase a := by
    intro s n hs
    unfold aw_er
    rcases Nat.lt_or_ge s 1 with z | z
    · obtain rfl : s = 0 := by omega
      simp
    · obtain rfl : s = 1 := by omega
      simp
  have L : ∀ s n k, s < 2 → aw_U FN n → aw_U FN k → a ∈ C s k → ((C s n).erase a).length + (if n = k then 1 else 0) = (C s n).length := by
    intro s n k hs hn hk hak
    by_cases e : n = k
    · subst e
      rw [if_pos rfl, List.length_erase_of_mem hak]
      have : 0 < (C s n).length := List.length_pos_of_mem hak
      omega
    · rw [if_neg e, List.erase_of_not_mem]
      · rfl
      · intro z
        have q1 := (h7 n hn s hs).2.2 a z
        have q2 := (h7 k hk s hs).2.2 a hak
        rw [q1] at q2
        have := hn.1
        have := hk.1
        exact e ((nI_eq (by omega) (by omega)).mp q2)
  refine ⟨⟨aw_ch_fr h1 s0 (fun n hn => (sN n (aw_ch_lt h1 n hn)).2.2), h1'⟩, ⟨hF, hF'⟩, ?_, ?_, ?_, ?_, hD, ?_, ?_, ?_⟩
  · intro n hn
    rw [(sN n hn).1]; exact h3 n hn
  · intro b hb
    by_cases e : b = a
    · rw [e, if_pos ((hmem a).mpr (Or.inr rfl))]; exact hv0
    · rw [(sA b hb e).1, h4 b hb]
      simp [hmem b, e]
  · rw [h3', h5]
    obtain ⟨k, hk⟩ : ∃ k, 24 - FA.length = k + 1 := ⟨23 - FA.length, by omega⟩
    rw [hk, pk_m1]
    exact congrArg nI (by omega)
  · intro b hb hbF
    have e : b ≠ a := fun z => hbF ((hmem b).mpr (Or.inr z))
    obtain ⟨q0, q1, q2, q3⟩ := sA b hb e
    obtain ⟨t1, ⟨y', t2, t3⟩, w', t4, t5⟩ := h6 b hb (fun z => hbF ((hmem b).mpr (Or.inl z)))
    refine ⟨fun s hs => ?_, ⟨y', t2, q2.trans t3⟩, w', t4, q3.trans t5⟩
    obtain ⟨n, r1, r2, r3⟩ := t1 s hs
    exact ⟨n, r1, (q1 s hs).trans r2, by rw [E s n hs]; exact (List.mem_erase_of_ne e).mpr r3⟩
  · intro n hn s hs b hb
    rw [E s n hs] at hb
    have q := ((h7 n hn s hs).2.1.mem_erase_iff).mp hb
    intro z
    rcases (hmem b).mp z with y | y
    · exact h8 n hn s hs b q.2 y
    · exact q.1 y
  · intro n hn
    rw [hH n hn, h9 n hn, E 0 n (by omega), E 1 n (by omega)]
    have l0 := L 0 n f (by omega) hn hfu haf
    have l1 := L 1 n t (by omega) hn htu hat
    have e1 : ∀ (c : Prop) [Decidable c] (k : Nat), nI (k + (if c then 1 else 0)) + (if c then (-1 : Int32) else 0) = nI k := fun c _ k => by
      by_cases z : c
      · rw [if_pos z, if_pos z]; exact pk_m1 k
      · rw [if_neg z, if_neg z, Nat.add_zero]; exact Int32.add_zero _
    rw [← l0, ← l1]
    rw [show ((C 0 n).erase a).length + (if n = f then 1 else 0) + (((C 1 n).erase a).length + (if n = t then 1 else 0)) = (((C 0 n).erase a).length + ((C 1 n).erase a).length + (if n = t then 1 else 0)) + (if n = f then 1 else 0) by omega, e1, e1]
  · intro n hn
    rw [(sN n hn.1).2.1]; exact h10 n hn
end
section
/-! ===== isNode, isArrow, areEnds, isType ===== -/
theorem aw_isNode {post : Int32 → Prop} {u : St1} {m : (Nat → Int32)} {x : Int32} (n : Nat) (hx : x = nI n) (hn : n < 12) (hu : aw_m u = m) (H1 : m (16 + 7 * n) = 1 → post 1) (H0 : ¬ m (16 + 7 * n) = 1 → post 0) : wpX_isNode post u x := by
  obtain ⟨f0, f1, f2, f3, f4, a1, a2, a3, a4, a5, a6, a7, a8, a9, a10, a11, a12, a13⟩ := u
  have hu' : a1 = m := hu
  subst hu' hx
  unfold wpX_isNode
  refine br_f (nI_pos (by omega)) (br_f (nI_ge (b := 12) hn (by decide)) (aw_na n rfl ⟨pk_in (16 + 7 * n) 340 (by omega), ?_⟩))
  rw [pk_cl (16 + 7 * n)]
  exact br_c H1 H0
theorem aw_isArrow {post : Int32 → Prop} {u : St1} {m : (Nat → Int32)} {x : Int32} (n : Nat) (hx : x = nI n) (hn : n < 24) (hu : aw_m u = m) (H1 : m (100 + 10 * n) = 1 → post 1) (H0 : ¬ m (100 + 10 * n) = 1 → post 0) : wpX_isArrow post u x := by
  obtain ⟨f0, f1, f2, f3, f4, a1, a2, a3, a4, a5, a6, a7, a8, a9, a10, a11, a12, a13⟩ := u
  have hu' : a1 = m := hu
  subst hu' hx
  unfold wpX_isArrow
  refine br_f (nI_pos (by omega)) (br_f (nI_ge (b := 24) hn (by decide)) (aw_ac n rfl ⟨pk_in (100 + 10 * n) 340 (by omega), ?_⟩))
  rw [pk_cl (100 + 10 * n)]
  exact br_c H1 H0
theorem aw_isNodeU {post : Int32 → Prop} {u : St1} {m : (Nat → Int32)} {FN FA : List Nat} {C : Nat → Nat → List Nat} {x : Int32} (n : Nat) (hx : x = nI n) (hn : n < 12) (hu : aw_m u = m) (hJ : aw_J m FN FA C) (H1 : aw_U FN n → post 1) (H0 : n ∈ FN → post 0) : wpX_isNode post u x := by
  have e := hJ.2.2.1 n hn
  by_cases c : n ∈ FN
  · rw [if_pos c] at e
    exact aw_isNode n hx hn hu (fun z => absurd (e.symm.trans z) (by decide)) (fun _ => H0 c)
  · rw [if_neg c] at e
    exact aw_isNode n hx hn hu (fun _ => H1 ⟨hn, c⟩) (fun z => absurd e z)
theorem aw_isArrowU {post : Int32 → Prop} {u : St1} {m : (Nat → Int32)} {FN FA : List Nat} {C : Nat → Nat → List Nat} {x : Int32} (n : Nat) (hx : x = nI n) (hn : n < 24) (hu : aw_m u = m) (hJ : aw_J m FN FA C) (H1 : n ∉ FA → post 1) (H0 : n ∈ FA → post 0) : wpX_isArrow post u x := by
  have e := hJ.2.2.2.1 n hn
  by_cases c : n ∈ FA
  · rw [if_pos c] at e
    exact aw_isArrow n hx hn hu (fun z => absurd (e.symm.trans z) (by decide)) (fun _ => H0 c)
  · rw [if_neg c] at e
    exact aw_isArrow n hx hn hu (fun _ => H1 c) (fun z => absurd e z)
theorem aw_areEnds {post : Int32 → Prop} {u : St1} {m : (Nat → Int32)} {FN FA : List Nat} {C : Nat → Nat → List Nat} {x : Int32} (e : Nat) (hx : x = nI e) (he : e < 144) (hu : aw_m u = m) (hJ : aw_J m FN FA C) (H1 : aw_U FN (e / 12) → aw_U FN (e % 12) → post 1) (H0 : ¬ (aw_U FN (e / 12) ∧ aw_U FN (e % 12)) → post 0) : wpX_areEnds post u x := by
  obtain ⟨f0, f1, f2, f3, f4, a1, a2, a3, a4, a5, a6, a7, a8, a9, a10, a11, a12, a13⟩ := u
  have hu' : a1 = m := hu
  subst hu' hx
  have hd : nI e / 12 = nI (e / 12) := pk_div (a := e) (d := 12) (by omega) (by omega) (by omega)
  have hr : nI e - nI e / 12 * 12 = nI (e % 12) := pk_rem (a := e) (d := 12) (by omega) (by omega) (by omega)
  unfold wpX_areEnds
  refine br_f (nI_pos (by omega)) (br_f (nI_ge (b := 144) he (by decide)) ⟨by decide, ?_⟩)
  refine aw_isNodeU (e / 12) hd (by omega) rfl hJ (fun h1 => ?_) (fun h1 => br_t rfl (H0 (fun z => z.1.2 h1)))
  refine br_f (by decide) ⟨by decide, ?_⟩
  exact aw_isNodeU (e % 12) hr (by omega) rfl hJ (fun h2 => br_f (by decide) (H1 h1 h2)) (fun h2 => br_t rfl (H0 (fun z => z.2.2 h2)))
/-! ===== node ===== -/
theorem aw_node {m : (Nat → Int32)} {lb : Nat} {v : Int32} (h : aw_V m) (hlb : lb < 8) : ∃ m', aw_V m' ∧ ∀ (S : List (Nat → Int32)) (u : St1) (post : Int32 → St1 → Prop), aw_R S m u → (∀ r, aw_K S m' (post r)) → wpX_node post u (nI lb) v := by
  obtain ⟨FN, FA, C, RW, hJ, hR, hU⟩ := h
  cases FN with
  | nil =>
    refine ⟨m, ⟨[], FA, C, RW, hJ, hR, hU⟩, ?_⟩
    intro S u post hRu H
    have hm : m 0 = -1 := hJ.1.1
    have K := aw_Ke (H (-3)) hRu
    obtain ⟨f0, f1, f2, f3, f4, a1, a2, a3, a4, a5, a6, a7, a8, a9, a10, a11, a12, a13⟩ := u
    obtain ⟨rfl, rfl, _⟩ := hRu
    unfold wpX_node
    exact br_f (nI_pos (by omega)) (br_t (nI_le (b := 7) (by omega) (by decide)) (nm_r hm (br_f (by decide) K)))
  | cons n FN =>
    have hn : n < 12 := hJ.1.1.2.1
    have hm0 : m 0 = nI n := hJ.1.1.1
    have hnR : n ∉ RW := fun z => ((hU n).mp z).2 (List.mem_cons_self ..)
    have e5 : nI (16 + 7 * n) + 5 = nI (16 + 7 * n + 5) := nI_add _ 5
    generalize hm1 : upd (upd (upd (upd (upd (upd (upd m 0 (m (16 + 7 * n + 5))) (16 + 7 * n) 1) (17 + 7 * n) (nI lb)) (18 + 7 * n) v) (19 + 7 * n) (-1)) (20 + 7 * n) (-1)) (22 + 7 * n) 0 = m1
    have hJ1 : aw_J m1 FN FA (fun s k => if k = n then [] else C s k) := by
      subst hm1
      refine aw_J_node hJ (b := lb) ?_ ?_ ?_ hlb ?_ ?_ ?_ (fun x hx hx2 => ?_)
      · rw [pk_un (by omega), pk_un (by omega), pk_un (by omega), pk_un (by omega), pk_un (by omega), pk_un (by omega), pk_us]
      · rw [pk_un (by omega), pk_un (by omega), pk_un (by omega), pk_un (by omega), pk_un (by omega), pk_us]
      · rw [pk_un (by omega), pk_un (by omega), pk_un (by omega), pk_un (by omega), pk_us]
      · rw [pk_un (by omega), pk_un (by omega), pk_us]
      · rw [pk_un (by omega), pk_us]
      · rw [pk_us]
      · rw [pk_un (by omega), pk_un (by omega), pk_un (by omega), pk_un (by omega), pk_un (by omega), pk_un (by omega), pk_un (by omega)]
    have hR1 : aw_row m1 RW := by
      subst hm1
      refine aw_row_fr hR ?_ (fun k hk => ?_) (fun k hk => ?_)
      · rw [pk_un (by omega), pk_un (by omega), pk_un (by omega), pk_un (by omega), pk_un (by omega), pk_un (by omega), pk_un (by omega)]
      · rw [pk_un (by omega), pk_un (by omega), pk_un (by omega), pk_un (by omega), pk_un (by omega), pk_un (by omega), pk_un (by omega)]
      · have : k ≠ n := fun e => hnR (e ▸ hk)
        rw [pk_un (by omega), pk_un (by omega), pk_un (by omega), pk_un (by omega), pk_un (by omega), pk_un (by omega), pk_un (by omega)]
    have hv1 : m1 (18 + 7 * n) = v := by
      subst hm1
      rw [pk_un (by omega), pk_un (by omega), pk_un (by omega), pk_us]
    obtain ⟨m2, RW2, g1, g2, g3, g4⟩ := aw_insertInRow hR1 hn hnR hv1
    refine ⟨m2, ⟨FN, FA, _, RW2, aw_J_fr hJ1 (fun x hx => g3 x (by omega) (by omega)), g1, fun k => ?_⟩, ?_⟩
    · rw [g2 k, hU k]
      unfold aw_U
      have hp := List.pairwise_cons.mp hJ.1.2
      have hnF : n ∉ FN := fun z => by have := hp.1 n z; omega
      rw [List.mem_cons]
      constructor
      · rintro (z | z)
        · rw [z]; exact ⟨hn, hnF⟩
        · exact ⟨z.1, fun y => z.2 (Or.inr y)⟩
      · intro z
        by_cases e : k = n
        · exact Or.inl e
        · exact Or.inr ⟨z.1, fun y => y.elim e z.2⟩
    · intro S u post hRu H
      obtain ⟨f0, f1, f2, f3, f4, a1, a2, a3, a4, a5, a6, a7, a8, a9, a10, a11, a12, a13⟩ := u
      have hRu' := hRu
      obtain ⟨rfl, rfl, _⟩ := hRu'
      unfold wpX_node
      refine br_f (nI_pos (by omega)) (br_t (nI_le (b := 7) (by omega) (by decide)) (nm_r hm0 (br_t (nI_pos' (by omega)) (aw_na n rfl ⟨pk_in (16 + 7 * n + 5) 340 (by omega) e5, ?_⟩))))
      rw [pk_cl (16 + 7 * n + 5) e5]
      refine aw_put 0 rfl (by omega) hRu (fun f1 f2 f3 f4 a2 a3 a4 a5 a6 a7 a8 a9 a10 a11 a12 a13 k1 => ?_)
      refine aw_put (16 + 7 * n) (nI_add _ 0) (by omega) k1 (fun f1 f2 f3 f4 a2 a3 a4 a5 a6 a7 a8 a9 a10 a11 a12 a13 k2 => ?_)
      refine aw_put (17 + 7 * n) (aw_e2 (16 + 7 * n) 1 _ (by omega)) (by omega) k2 (fun f1 f2 f3 f4 a2 a3 a4 a5 a6 a7 a8 a9 a10 a11 a12 a13 k3 => ?_)
      refine aw_put (18 + 7 * n) (aw_e2 (16 + 7 * n) 2 _ (by omega)) (by omega) k3 (fun f1 f2 f3 f4 a2 a3 a4 a5 a6 a7 a8 a9 a10 a11 a12 a13 k4 => ?_)
      refine aw_put (19 + 7 * n) (aw_e2 (16 + 7 * n) 3 _ (by omega)) (by omega) k4 (fun f1 f2 f3 f4 a2 a3 a4 a5 a6 a7 a8 a9 a10 a11 a12 a13 k5 => ?_)
      refine aw_put (20 + 7 * n) (aw_e3 (16 + 7 * n) 3 1 _ (by omega)) (by omega) k5 (fun f1 f2 f3 f4 a2 a3 a4 a5 a6 a7 a8 a9 a10 a11 a12 a13 k6 => ?_)
      refine aw_put (22 + 7 * n) (aw_e2 (16 + 7 * n) 6 _ (by omega)) (by omega) k6 ?_
      rw [hm1]
      exact fun f1 f2 f3 f4 a2 a3 a4 a5 a6 a7 a8 a9 a10 a11 a12 a13 k7 => g4 S _ _ k7 (fun f1 f2 f3 f4 a2 a3 a4 a5 a6 a7 a8 a9 a10 a11 a12 a13 k8 => H _ f1 f2 f3 f4 a2 a3 a4 a5 a6 a7 a8 a9 a10 a11 a12 a13 k8)
/-! ===== setWeight, setNode ===== -/
theorem aw_setWeight {m : (Nat → Int32)} {a w : Nat} (h : aw_V m) (ha : a < 24) (hw : w < 100) : ∃ m', aw_V m' ∧ ∀ (S : List (Nat → Int32)) (u : St1) (post : Int32 → St1 → Prop), aw_R S m u → (∀ r, aw_K S m' (post r)) → wpX_setWeight post u (nI a) (nI w) := by
  obtain ⟨FN, FA, C, RW, hJ, hR, hU⟩ := h
  by_cases c : a ∈ FA
  · refine ⟨m, ⟨FN, FA, C, RW, hJ, hR, hU⟩, ?_⟩
    intro S u post hRu H
    have K := aw_Ke (H (-1)) hRu
    obtain ⟨f0, f1, f2, f3, f4, a1, a2, a3, a4, a5, a6, a7, a8, a9, a10, a11, a12, a13⟩ := u
    have hu := aw_Rm hRu
    unfold wpX_setWeight
    exact aw_isArrowU a rfl ha hu hJ (fun z => absurd c z) (fun _ => br_t rfl K)
  · refine ⟨upd m (104 + 10 * a) (nI w), ⟨FN, FA, C, RW, aw_J_wt hJ ha hw, aw_row_fr hR (pk_un (by omega)) (fun k hk => pk_un (by omega)) (fun k hk => pk_un (by have := hR.2.2.2 k hk; omega)), hU⟩, ?_⟩
    intro S u post hRu H
    have hu := aw_Rm hRu
    obtain ⟨f0, f1, f2, f3, f4, a1, a2, a3, a4, a5, a6, a7, a8, a9, a10, a11, a12, a13⟩ := u
    have hRu' := hRu
    obtain ⟨rfl, rfl, _⟩ := hRu'
    have e4 : nI (100 + 10 * a) + 4 = nI (104 + 10 * a) := aw_e2 (100 + 10 * a) 4 _ (by omega)
    unfold wpX_setWeight
    refine aw_isArrowU a rfl ha hu hJ (fun _ => ?_) (fun z => absurd z c)
    refine br_f (by decide) (br_f (nI_pos (by omega)) (br_t (nI_le (b := 99) (by omega) (by decide)) (aw_ac a rfl ⟨pk_in (104 + 10 * a) 340 (by omega) e4, nm_e (aw_ac a rfl ?_)⟩)))
    exact aw_put (104 + 10 * a) e4 (by omega) hRu (fun f1 f2 f3 f4 a2 a3 a4 a5 a6 a7 a8 a9 a10 a11 a12 a13 k1 => H _ f1 f2 f3 f4 a2 a3 a4 a5 a6 a7 a8 a9 a10 a11 a12 a13 k1)
theorem aw_setNode {m : (Nat → Int32)} {n lb : Nat} {v : Int32} (h : aw_V m) (hn : n < 12) (hlb : lb < 8) : ∃ m', aw_V m' ∧ ∀ (S : List (Nat → Int32)) (u : St1) (post : Int32 → St1 → Prop), aw_R S m u → (∀ r, aw_K S m' (post r)) → wpX_setNode post u (nI n) (nI lb) v := by
  obtain ⟨FN, FA, C, RW, hJ, hR, hU⟩ := h
  by_cases c : n ∈ FN
  · refine ⟨m, ⟨FN, FA, C, RW, hJ, hR, hU⟩, ?_⟩
    intro S u post hRu H
    have K := aw_Ke (H (-1)) hRu
    obtain ⟨f0, f1, f2, f3, f4, a1, a2, a3, a4, a5, a6, a7, a8, a9, a10, a11, a12, a13⟩ := u
    have hu := aw_Rm hRu
    unfold wpX_setNode
    exact aw_isNodeU n rfl hn hu hJ (fun z => absurd c z.2) (fun _ => br_t rfl K)
  · have hnR : n ∈ RW := (hU n).mpr ⟨hn, c⟩
    have e1 : nI (16 + 7 * n) + 1 = nI (17 + 7 * n) := aw_e2 (16 + 7 * n) 1 _ (by omega)
    have e2 : nI (16 + 7 * n) + 2 = nI (18 + 7 * n) := aw_e2 (16 + 7 * n) 2 _ (by omega)
    have hJ1 : aw_J (upd m (17 + 7 * n) (nI lb)) FN FA C := aw_J_lb hJ hn hlb
    have hR1 : aw_row (upd m (17 + 7 * n) (nI lb)) RW := aw_row_fr hR (pk_un (by omega)) (fun k hk => pk_un (by omega)) (fun k hk => pk_un (by omega))
    have hv1 : upd m (17 + 7 * n) (nI lb) (18 + 7 * n) = m (18 + 7 * n) := pk_un (by omega)
    generalize hm1 : upd m (17 + 7 * n) (nI lb) = m1 at *
    have W : ∀ (S : List (Nat → Int32)) (post : Int32 → St1 → Prop), ∀ (f1 f2 f3 f4 : Int32) (a2 a3 a4 a5 a6 a7 a8 a9 a10 a11 a12 a13 : Nat → Int32), aw_R S m (nI S.length, f1, f2, f3, f4, m, a2, a3, a4, a5, a6, a7, a8, a9, a10, a11, a12, a13) → (∀ r, ∀ (f1 f2 f3 f4 : Int32) (a2 a3 a4 a5 a6 a7 a8 a9 a10 a11 a12 a13 : Nat → Int32), aw_R S m1 (nI S.length, f1, f2, f3, f4, m1, a2, a3, a4, a5, a6, a7, a8, a9, a10, a11, a12, a13) → vp_in (nI (16 + 7 * n) + 2) 340 ∧ ((m1 (nI (16 + 7 * n) + 2).toNatClampNeg = v → post r (nI S.length, f1, f2, f3, f4, m1, a2, a3, a4, a5, a6, a7, a8, a9, a10, a11, a12, a13)) ∧ (¬ m1 (nI (16 + 7 * n) + 2).toNatClampNeg = v → wpX_removeFromRow (fun u => match u with | (f0, f1, f2, f3, f4, a1, a2, a3, a4, a5, a6, a7, a8, a9, a10, a11, a12, a13) => wpX_put (fun u => match u with | (f0, f1, f2, f3, f4, a1, a2, a3, a4, a5, a6, a7, a8, a9, a10, a11, a12, a13) => wpX_insertInRow (fun u => match u with | (f0, f1, f2, f3, f4, a1, a2, a3, a4, a5, a6, a7, a8, a9, a10, a11, a12, a13) => post r (f0, f1, f2, f3, f4, a1, a2, a3, a4, a5, a6, a7, a8, a9, a10, a11, a12, a13)) (f0, f1, f2, f3, f4, a1, a2, a3, a4, a5, a6, a7, a8, a9, a10, a11, a12, a13) (nI n) v) (f0, f1, f2, f3, f4, a1, a2, a3, a4, a5, a6, a7, a8, a9, a10, a11, a12, a13) (nI (16 + 7 * n) + 2) v) (nI S.length, f1, f2, f3, f4, m1, a2, a3, a4, a5, a6, a7, a8, a9, a10, a11, a12, a13) (nI n)))) → wpX_setNode post (nI S.length, f1, f2, f3, f4, m, a2, a3, a4, a5, a6, a7, a8, a9, a10, a11, a12, a13) (nI n) (nI lb) v := by
      intro S post f1 f2 f3 f4 a2 a3 a4 a5 a6 a7 a8 a9 a10 a11 a12 a13 hRu H
      unfold wpX_setNode
      refine aw_isNodeU n rfl hn rfl hJ (fun _ => ?_) (fun z => absurd z c)
      refine br_f (by decide) (br_f (nI_pos (by omega)) (br_t (nI_le (b := 7) (by omega) (by decide)) (aw_na n rfl ⟨pk_in (17 + 7 * n) 340 (by omega) e1, nm_e ?_⟩)))
      refine aw_put (17 + 7 * n) e1 (by omega) hRu ?_
      rw [hm1]
      exact fun f1 f2 f3 f4 a2 a3 a4 a5 a6 a7 a8 a9 a10 a11 a12 a13 k1 => H _ f1 f2 f3 f4 a2 a3 a4 a5 a6 a7 a8 a9 a10 a11 a12 a13 k1
    by_cases cv : m (18 + 7 * n) = v
    · refine ⟨m1, ⟨FN, FA, C, RW, hJ1, hR1, hU⟩, ?_⟩
      intro S u post hRu H
      obtain ⟨f0, f1, f2, f3, f4, a1, a2, a3, a4, a5, a6, a7, a8, a9, a10, a11, a12, a13⟩ := u
      have hRu' := hRu
      obtain ⟨rfl, rfl, _⟩ := hRu'
      refine W S post _ _ _ _ _ _ _ _ _ _ _ _ _ _ _ _ hRu (fun r => fun f1 f2 f3 f4 a2 a3 a4 a5 a6 a7 a8 a9 a10 a11 a12 a13 k1 => ⟨pk_in (18 + 7 * n) 340 (by omega) e2, br_t ?_ (H r f1 f2 f3 f4 a2 a3 a4 a5 a6 a7 a8 a9 a10 a11 a12 a13 k1)⟩)
      rw [pk_cl (18 + 7 * n) e2, hv1]
      exact cv
    · obtain ⟨m2, RW2, g1, g2, g3, g4⟩ := aw_removeFromRow hR1 hnR
      have hnR2 : n ∉ RW2 := fun z => ((g2 n).mp z).1 rfl
      have hR3 : aw_row (upd m2 (18 + 7 * n) v) RW2 := aw_row_fr g1 (pk_un (by omega)) (fun k hk => pk_un (by omega)) (fun k hk => pk_un (by have : k ≠ n := (fun e => hnR2 (e ▸ hk)); omega))
      obtain ⟨m4, RW4, q1, q2, q3, q4⟩ := aw_insertInRow hR3 hn hnR2 pk_us
      refine ⟨m4, ⟨FN, FA, C, RW4, aw_J_fr hJ1 (fun x hx => ?_), q1, fun k => ?_⟩, ?_⟩
      · rw [q3 x (by omega) (by omega), pk_un ?_, g3 x (by omega) (by omega)]
        rcases hx with z | z | z | z
        · omega
        · omega
        · omega
        · exact z.2 n hn
      · rw [q2 k, g2 k, ← hU k]
        constructor
        · rintro (z | z)
          · rw [z]; exact hnR
          · exact z.2
        · intro z
          by_cases e : k = n
          · exact Or.inl e
          · exact Or.inr ⟨e, z⟩
      · intro S u post hRu H
        obtain ⟨f0, f1, f2, f3, f4, a1, a2, a3, a4, a5, a6, a7, a8, a9, a10, a11, a12, a13⟩ := u
        have hRu' := hRu
        obtain ⟨rfl, rfl, _⟩ := hRu'
        refine W S post _ _ _ _ _ _ _ _ _ _ _ _ _ _ _ _ hRu (fun r => fun f1 f2 f3 f4 a2 a3 a4 a5 a6 a7 a8 a9 a10 a11 a12 a13 k1 => ⟨pk_in (18 + 7 * n) 340 (by omega) e2, br_f ?_ (g4 S _ _ k1 (fun f1 f2 f3 f4 a2 a3 a4 a5 a6 a7 a8 a9 a10 a11 a12 a13 k2 => ?_))⟩)
        · rw [pk_cl (18 + 7 * n) e2, hv1]
          exact cv
        · refine aw_put (18 + 7 * n) e2 (by omega) k2 (fun f1 f2 f3 f4 a2 a3 a4 a5 a6 a7 a8 a9 a10 a11 a12 a13 k3 => ?_)
          exact q4 S _ _ k3 (fun f1 f2 f3 f4 a2 a3 a4 a5 a6 a7 a8 a9 a10 a11 a12 a13 k4 => H r f1 f2 f3 f4 a2 a3 a4 a5 a6 a7 a8 a9 a10 a11 a12 a13 k4)
end
section
/-! ===== arrow ===== -/
theorem aw_hU {FN : List Nat} : ∀ n, aw_U FN n → n < 12 := fun _ h => h.1
theorem aw_arrow {m : (Nat → Int32)} {e y w : Nat} (h : aw_V m) (he : e < 144) (hy : y < 4) (hw : w < 100) : ∃ m', aw_V m' ∧ ∀ (S : List (Nat → Int32)) (u : St1) (post : Int32 → St1 → Prop), aw_R S m u → (∀ r, aw_K S m' (post r)) → wpX_arrow post u (nI e) (nI y) (nI w) := by
  obtain ⟨FN, FA, C, RW, hJ, hR, hU⟩ := h
  have hdv : nI e / 12 = nI (e / 12) := pk_div (a := e) (d := 12) (by omega) (by omega) (by omega)
  have hrm : nI e - nI e / 12 * 12 = nI (e % 12) := pk_rem (a := e) (d := 12) (by omega) (by omega) (by omega)
  by_cases cU : aw_U FN (e / 12) ∧ aw_U FN (e % 12)
  rotate_left
  · refine ⟨m, ⟨FN, FA, C, RW, hJ, hR, hU⟩, ?_⟩
    intro S u post hRu H
    have K := aw_Ke (H (-1)) hRu
    have hu := aw_Rm hRu
    obtain ⟨f0, f1, f2, f3, f4, a1, a2, a3, a4, a5, a6, a7, a8, a9, a10, a11, a12, a13⟩ := u
    unfold wpX_arrow
    exact aw_areEnds e rfl he hu hJ (fun z1 z2 => absurd ⟨z1, z2⟩ cU) (fun _ => br_t rfl K)
  obtain ⟨hfu, htu⟩ := cU
  generalize hf : e / 12 = f at *
  generalize ht : e % 12 = t at *
  have hf12 := hfu.1
  have ht12 := htu.1
  cases FA with
  | nil =>
    refine ⟨m, ⟨FN, [], C, RW, hJ, hR, hU⟩, ?_⟩
    intro S u post hRu H
    have hm : m 1 = -1 := hJ.2.1.1
    have K := aw_Ke (H (-3)) hRu
    obtain ⟨f0, f1, f2, f3, f4, a1, a2, a3, a4, a5, a6, a7, a8, a9, a10, a11, a12, a13⟩ := u
    obtain ⟨rfl, rfl, _⟩ := hRu
    unfold wpX_arrow
    refine aw_areEnds e rfl he rfl hJ (fun z1 z2 => ?_) (fun z => absurd (by rw [hf, ht]; exact ⟨hfu, htu⟩) z)
    exact br_f (by decide) (br_f (nI_pos (by omega)) (br_f (nI_nlt (a := 3) (b := y) (by omega) (by decide)) (br_f (nI_pos (by omega)) (br_t (nI_le (b := 99) (by omega) (by decide)) (nm_r hm (br_f (by decide) K))))))
  | cons a FA =>
    have ha : a < 24 := hJ.2.1.1.2.1
    have hm1a : m 1 = nI a := hJ.2.1.1.1
    have hpF := List.pairwise_cons.mp hJ.2.1.2
    have haF : a ∉ FA := fun z => by have := hpF.1 a z; omega
    have hD := hJ.2.2.2.2.2.2.1
    have h8 := hJ.2.2.2.2.2.2.2.1
    have haC : ∀ s n, s < 2 → aw_U FN n → a ∉ C s n := fun s n hs hn z => h8 n hn s hs a z (List.mem_cons_self ..)
    have hbF : ∀ s n b, s < 2 → aw_U FN n → b ∈ C s n → b ∉ FA := fun s n b hs hn z q => h8 n hn s hs b z (List.mem_cons_of_mem _ q)
    generalize hm1 : upd (upd (upd (upd (upd (upd m 1 (m (100 + 10 * a + 5))) (100 + 10 * a) 1) (101 + 10 * a) (nI f)) (102 + 10 * a) (nI t)) (103 + 10 * a) (nI y)) (104 + 10 * a) (nI w) = m1
    have F1 : ∀ x, x ≠ 1 → (x < 100 + 10 * a ∨ 104 + 10 * a < x) → m1 x = m x := by
      intro x h1 h2
      subst hm1
      rw [pk_un (by omega), pk_un (by omega), pk_un (by omega), pk_un (by omega), pk_un (by omega), pk_un (by omega)]
    have v1 : m1 1 = m (100 + 10 * a + 5) := by
      subst hm1
      rw [pk_un (by omega), pk_un (by omega), pk_un (by omega), pk_un (by omega), pk_un (by omega), pk_us]
    have v100 : m1 (100 + 10 * a) = 1 := by
      subst hm1
      rw [pk_un (by omega), pk_un (by omega), pk_un (by omega), pk_un (by omega), pk_us]
    have v101 : m1 (101 + 10 * a) = nI f := by
      subst hm1
      rw [pk_un (by omega), pk_un (by omega), pk_un (by omega), pk_us]
    have v102 : m1 (102 + 10 * a) = nI t := by
      subst hm1
      rw [pk_un (by omega), pk_un (by omega), pk_us]
    have v103 : m1 (103 + 10 * a) = nI y := by
      subst hm1
      rw [pk_un (by omega), pk_us]
    have v104 : m1 (104 + 10 * a) = nI w := by
      subst hm1
      rw [pk_us]
    have hD1 : aw_D m1 (aw_U FN) C := aw_D_fr hD (fun n hn s hs => ⟨F1 _ (by omega) (by have := hn.1; omega), fun b hb => by
      have hba : b ≠ a := fun z => haC s n hs hn (z ▸ hb)
      exact ⟨F1 _ (by omega) (by omega), F1 _ (by omega) (by omega), F1 _ (by omega) (by omega)⟩⟩)
    obtain ⟨m2, hD2, F2, W2⟩ := aw_D_chain (s := 0) (a := a) (n := f) aw_hU hD1 (by omega) ha hfu v101 (haC 0 f (by omega) hfu)
    have v102' : m2 (101 + 10 * a + 1) = nI t := by
      rw [F2 _ (by omega) (fun b _ => by omega), show 101 + 10 * a + 1 = 102 + 10 * a by omega]
      exact v102
    have hna1 : a ∉ aw_cs 0 f a C 1 t := by
      unfold aw_cs
      rw [if_neg (by omega)]
      exact haC 1 t (by omega) htu
    obtain ⟨m3, hD3, F3, W3⟩ := aw_D_chain (s := 1) (a := a) (n := t) aw_hU hD2 (by omega) ha htu v102' hna1
    have F13 : ∀ x, (∀ b, x ≠ 105 + 10 * b ∧ x ≠ 106 + 10 * b ∧ x ≠ 107 + 10 * b ∧ x ≠ 108 + 10 * b) → x ≠ 19 + 7 * f → x ≠ 20 + 7 * t → m3 x = m1 x := by
      intro x h1 h2 h3
      rw [F3 x (by omega) (fun b _ => by have := h1 b; omega), F2 x (by omega) (fun b _ => by have := h1 b; omega)]
    have F5 : ∀ b, b ∈ FA → m3 (100 + 10 * b + 5) = m1 (100 + 10 * b + 5) := by
      intro b hb
      have hb24 := aw_ch_lt hJ.2.1.1 b (List.mem_cons_of_mem _ hb)
      rw [F3 _ (by omega) (fun b _ => by omega), F2 _ (by omega) (fun b' hb' => ?_)]
      have : b' ≠ b := by
        rcases hb' with z | z
        · rw [z]; exact fun q => haF (q ▸ hb)
        · exact fun q => hbF 0 f b' (by omega) hfu z (q ▸ hb)
      omega
    generalize hm4 : upd m3 (22 + 7 * f) (m3 (22 + 7 * f) + 1) = m4
    generalize hm5 : upd m4 (22 + 7 * t) (m4 (22 + 7 * t) + 1) = m5
    generalize hm6 : upd m5 3 (m5 3 + 1) = m6
    have F6 : ∀ x, x ≠ 3 → x ≠ 22 + 7 * f → x ≠ 22 + 7 * t → m6 x = m3 x := by
      intro x h1 h2 h3
      subst hm6 hm5 hm4
      rw [pk_un h1, pk_un h3, pk_un h2]
    have F6' : ∀ x, x ≠ 3 → x ≠ 22 + 7 * f → x ≠ 22 + 7 * t → (∀ b, x ≠ 105 + 10 * b ∧ x ≠ 106 + 10 * b ∧ x ≠ 107 + 10 * b ∧ x ≠ 108 + 10 * b) → x ≠ 19 + 7 * f → x ≠ 20 + 7 * t → m6 x = m1 x := fun x h1 h2 h3 h4 h5 h6 => (F6 x h1 h2 h3).trans (F13 x h4 h5 h6)
    have hJ6 : aw_J m6 FN FA (aw_cs 1 t a (aw_cs 0 f a C)) := by
      refine aw_J_arrow (y := y) (w := w) hJ ⟨?_, fun n hn => ⟨?_, ?_, ?_⟩, fun b hb hba => ⟨?_, fun s hs => ?_, ?_, ?_⟩⟩ hfu htu hy hw ?_ (fun b hb => ?_) ?_ ?_ ?_ ?_ ?_ ?_ (aw_D_fr hD3 (fun n hn s hs => ⟨?_, fun b hb => ⟨?_, ?_, ?_⟩⟩)) (fun n hn => ?_)
      · rw [F6' _ (by omega) (by omega) (by omega) (fun b => by omega) (by omega) (by omega), F1 _ (by omega) (by omega)]
      · rw [F6' _ (by omega) (by omega) (by omega) (fun b => by omega) (by omega) (by omega), F1 _ (by omega) (by omega)]
      · rw [F6' _ (by omega) (by omega) (by omega) (fun b => by omega) (by omega) (by omega), F1 _ (by omega) (by omega)]
      · rw [F6' _ (by omega) (by omega) (by omega) (fun b => by omega) (by omega) (by omega), F1 _ (by omega) (by omega)]
      · rw [F6' _ (by omega) (by omega) (by omega) (fun b => by omega) (by omega) (by omega), F1 _ (by omega) (by omega)]
      · rw [F6' _ (by omega) (by omega) (by omega) (fun b => by omega) (by omega) (by omega), F1 _ (by omega) (by omega)]
      · rw [F6' _ (by omega) (by omega) (by omega) (fun b => by omega) (by omega) (by omega), F1 _ (by omega) (by omega)]
      · rw [F6' _ (by omega) (by omega) (by omega) (fun b => by omega) (by omega) (by omega), F1 _ (by omega) (by omega)]
      · rw [F6' _ (by omega) (by omega) (by omega) (fun b => by omega) (by omega) (by omega)]; exact v1
      · have hb24 := aw_ch_lt hJ.2.1.1 b (List.mem_cons_of_mem _ hb)
        have hba : b ≠ a := fun z => haF (z ▸ hb)
        rw [F6 _ (by omega) (by omega) (by omega), F5 b hb, F1 _ (by omega) (by omega)]
      · rw [F6' _ (by omega) (by omega) (by omega) (fun b => by omega) (by omega) (by omega)]; exact v100
      · rw [F6' _ (by omega) (by omega) (by omega) (fun b => by omega) (by omega) (by omega)]; exact v101
      · rw [F6' _ (by omega) (by omega) (by omega) (fun b => by omega) (by omega) (by omega), show 101 + 10 * a + 1 = 102 + 10 * a by omega]; exact v102
      · rw [F6' _ (by omega) (by omega) (by omega) (fun b => by omega) (by omega) (by omega)]; exact v103
      · rw [F6' _ (by omega) (by omega) (by omega) (fun b => by omega) (by omega) (by omega)]; exact v104
      · have q : m5 3 = m 3 := by
          subst hm5 hm4
          rw [pk_un (by omega), pk_un (by omega), F13 _ (fun b => by omega) (by omega) (by omega), F1 _ (by omega) (by omega)]
        rw [← hm6, pk_us, q]
      · exact F6 _ (by omega) (by have := hn.1; omega) (by have := hn.1; omega)
      · exact F6 _ (by omega) (by omega) (by omega)
      · exact F6 _ (by omega) (by omega) (by omega)
      · exact F6 _ (by omega) (by omega) (by omega)
      · have hn12 := hn.1
        have q3 : m3 (22 + 7 * n) = m (22 + 7 * n) := by
          rw [F13 _ (fun b => by omega) (by omega) (by omega), F1 _ (by omega) (by omega)]
        have q4 : m4 (22 + 7 * n) = m (22 + 7 * n) + (if n = f then 1 else 0) := by
          subst hm4
          by_cases z : n = f
          · rw [if_pos z, ← z, pk_us, q3]
          · rw [if_neg z, pk_un (by omega), q3, Int32.add_zero]
        subst hm6
        rw [pk_un (by omega)]
        subst hm5
        by_cases z : n = t
        · rw [if_pos z, ← z, pk_us, q4]
        · rw [if_neg z, pk_un (by omega), q4, Int32.add_zero]
    refine ⟨m6, ⟨FN, FA, _, RW, hJ6, aw_row_fr hR ?_ (fun k hk => ?_) (fun k hk => ?_), hU⟩, ?_⟩
    · rw [F6' _ (by omega) (by omega) (by omega) (fun b => by omega) (by omega) (by omega), F1 _ (by omega) (by omega)]
    · rw [F6' _ (by omega) (by omega) (by omega) (fun b => by omega) (by omega) (by omega), F1 _ (by omega) (by omega)]
    · have hk12 := hR.2.2.2 k hk
      rw [F6' _ (by omega) (by omega) (by omega) (fun b => by omega) (by omega) (by omega), F1 _ (by omega) (by omega)]
    · intro S u post hRu H
      obtain ⟨f0, f1, f2, f3, f4, a1, a2, a3, a4, a5, a6, a7, a8, a9, a10, a11, a12, a13⟩ := u
      have hRu' := hRu
      obtain ⟨rfl, rfl, _⟩ := hRu'
      have e5 : nI (100 + 10 * a) + 5 = nI (100 + 10 * a + 5) := nI_add _ 5
      unfold wpX_arrow
      refine aw_areEnds e rfl he rfl hJ (fun _ _ => ?_) (fun z => absurd (by rw [hf, ht]; exact ⟨hfu, htu⟩) z)
      refine br_f (by decide) (br_f (nI_pos (by omega)) (br_f (nI_nlt (a := 3) (b := y) (by omega) (by decide)) (br_f (nI_pos (by omega)) (br_t (nI_le (b := 99) (by omega) (by decide)) (nm_r hm1a (br_t (nI_pos' (by omega)) (aw_ac a rfl ⟨pk_in (100 + 10 * a + 5) 340 (by omega) e5, ?_⟩)))))))
      rw [pk_cl (100 + 10 * a + 5) e5]
      refine aw_put 1 rfl (by omega) hRu (fun f1 f2 f3 f4 a2 a3 a4 a5 a6 a7 a8 a9 a10 a11 a12 a13 k1 => ?_)
      refine aw_put (100 + 10 * a) (nI_add _ 0) (by omega) k1 (fun f1 f2 f3 f4 a2 a3 a4 a5 a6 a7 a8 a9 a10 a11 a12 a13 k2 => ?_)
      refine ⟨by decide, aw_put (101 + 10 * a) (aw_e2 (100 + 10 * a) 1 _ (by omega)) (by omega) k2 ?_⟩
      rw [hdv]
      refine (fun f1 f2 f3 f4 a2 a3 a4 a5 a6 a7 a8 a9 a10 a11 a12 a13 k3 => ?_)
      refine ⟨by decide, aw_put (102 + 10 * a) (aw_e3 (100 + 10 * a) 1 1 _ (by omega)) (by omega) k3 ?_⟩
      rw [hdv] at hrm
      rw [hrm]
      refine (fun f1 f2 f3 f4 a2 a3 a4 a5 a6 a7 a8 a9 a10 a11 a12 a13 k4 => ?_)
      refine aw_put (103 + 10 * a) (aw_e2 (100 + 10 * a) 3 _ (by omega)) (by omega) k4 (fun f1 f2 f3 f4 a2 a3 a4 a5 a6 a7 a8 a9 a10 a11 a12 a13 k5 => ?_)
      refine aw_put (104 + 10 * a) (aw_e2 (100 + 10 * a) 4 _ (by omega)) (by omega) k5 ?_
      rw [hm1]
      refine (fun f1 f2 f3 f4 a2 a3 a4 a5 a6 a7 a8 a9 a10 a11 a12 a13 k6 => ?_)
      refine W2 S _ _ k6 (fun f1 f2 f3 f4 a2 a3 a4 a5 a6 a7 a8 a9 a10 a11 a12 a13 k7 => ?_)
      refine W3 S _ _ k7 (fun f1 f2 f3 f4 a2 a3 a4 a5 a6 a7 a8 a9 a10 a11 a12 a13 k8 => ?_)
      refine ⟨by decide, aw_na f rfl (aw_add (22 + 7 * f) (aw_e2 (16 + 7 * f) 6 _ (by omega)) (by omega) k8 ?_)⟩
      rw [hm4]
      refine (fun f1 f2 f3 f4 a2 a3 a4 a5 a6 a7 a8 a9 a10 a11 a12 a13 k9 => ?_)
      refine ⟨by decide, aw_na t rfl (aw_add (22 + 7 * t) (aw_e2 (16 + 7 * t) 6 _ (by omega)) (by omega) k9 ?_)⟩
      rw [hm5]
      refine (fun f1 f2 f3 f4 a2 a3 a4 a5 a6 a7 a8 a9 a10 a11 a12 a13 k10 => ?_)
      refine aw_add 3 rfl (by omega) k10 ?_
      rw [hm6]
      exact fun f1 f2 f3 f4 a2 a3 a4 a5 a6 a7 a8 a9 a10 a11 a12 a13 k11 => H _ f1 f2 f3 f4 a2 a3 a4 a5 a6 a7 a8 a9 a10 a11 a12 a13 k11
end
section
/-! ===== cutArrow, cut ===== -/
theorem aw_cutArrow {m : (Nat → Int32)} {FN FA : List Nat} {C : Nat → Nat → List Nat} {a : Nat} (hJ : aw_J m FN FA C) (ha : a < 24) (haF : a ∉ FA) :
    ∃ m' F', aw_J m' FN F' (aw_er 1 a (aw_er 0 a C)) ∧ (∀ x, x = 2 ∨ (4 ≤ x ∧ x < 16) ∨ (∃ n, n < 12 ∧ x = 18 + 7 * n) → m' x = m x) ∧
      ∀ (S : List (Nat → Int32)) (u : St1) (post : St1 → Prop), aw_R S m u → aw_K S m' post → wpX_cutArrow post u (nI a) := by
  have hA := hJ.2.2.2.2.2.1 a ha haF
  have hD := hJ.2.2.2.2.2.2.1
  have h8 := hJ.2.2.2.2.2.2.2.1
  obtain ⟨f, hfu, q1, q2⟩ := hA.1 0 (by omega)
  obtain ⟨t, htu, r1, r2⟩ := hA.1 1 (by omega)
  have hf12 := hfu.1
  have ht12 := htu.1
  obtain ⟨m1, hD1, F1, W1⟩ := aw_D_unchain (s := 0) aw_hU hD (by omega) hfu q2
  have r2' : a ∈ aw_er 0 a C 1 t := by
    unfold aw_er
    rw [if_neg (by omega)]
    exact r2
  obtain ⟨m2, hD2, F2, W2⟩ := aw_D_unchain (s := 1) aw_hU hD1 (by omega) htu r2'
  have F12 : ∀ x, (∀ b, x ≠ 105 + 10 * b ∧ x ≠ 106 + 10 * b ∧ x ≠ 107 + 10 * b ∧ x ≠ 108 + 10 * b) → x ≠ 19 + 7 * f → x ≠ 20 + 7 * t → m2 x = m x := by
    intro x h1 h2 h3
    rw [F2 x (by omega) (fun b _ => by have := h1 b; omega), F1 x (by omega) (fun b _ => by have := h1 b; omega)]
  have F5 : ∀ b, b ∈ FA → m2 (100 + 10 * b + 5) = m (100 + 10 * b + 5) := by
    intro b hb
    rw [F2 _ (by omega) (fun b _ => by omega), F1 _ (by omega) (fun b' hb' => ?_)]
    have : b' ≠ b := fun q => h8 f hfu 0 (by omega) b' hb' (q ▸ hb)
    omega
  generalize hm3 : upd m2 (22 + 7 * f) (m2 (22 + 7 * f) + (-1)) = m3
  generalize hm4 : upd m3 (22 + 7 * t) (m3 (22 + 7 * t) + (-1)) = m4
  generalize hm5 : upd m4 (100 + 10 * a) 0 = m5
  have G5 : ∀ x, x ≠ 22 + 7 * f → x ≠ 22 + 7 * t → x ≠ 100 + 10 * a → m5 x = m2 x := by
    intro x h1 h2 h3
    subst hm5 hm4 hm3
    rw [pk_un h3, pk_un h2, pk_un h1]
  have hch5 : aw_ch m5 (fun a => 100 + 10 * a + 5) 24 1 FA := by
    refine aw_ch_fr hJ.2.1.1 ?_ (fun b hb => ?_)
    · rw [G5 _ (by omega) (by omega) (by omega), F12 _ (fun b => by omega) (by omega) (by omega)]
    · show m5 (100 + 10 * b + 5) = m (100 + 10 * b + 5)
      rw [G5 _ (by omega) (by omega) (by omega), F5 b hb]
  obtain ⟨m6, F', g1, g2, g3, g4, g5, g6⟩ := aw_give (m := m5) (F := FA) 100 10 5 24 1 a (fun b hb => by omega) ha (by omega) (by omega) (by omega) (fun b => by omega) hch5 hJ.2.1.2 haF
  generalize hm7 : upd m6 3 (m6 3 + (-1)) = m7
  have G7 : ∀ x, x ≠ 1 → x ≠ 3 → (∀ b, b ∈ FA ∨ b = a → x ≠ 100 + 10 * b + 5) → m7 x = m5 x := by
    intro x h1 h2 h3
    subst hm7
    rw [pk_un h2, g5 x h1 h3]
  have G7' : ∀ x, x ≠ 1 → x ≠ 3 → x ≠ 22 + 7 * f → x ≠ 22 + 7 * t → x ≠ 100 + 10 * a → (∀ b, x ≠ 105 + 10 * b ∧ x ≠ 106 + 10 * b ∧ x ≠ 107 + 10 * b ∧ x ≠ 108 + 10 * b) → x ≠ 19 + 7 * f → x ≠ 20 + 7 * t → m7 x = m x := by
    intro x h1 h2 h3 h4 h5 h6 h7 h8
    rw [G7 x h1 h2 (fun b _ => by have := h6 b; omega), G5 x h3 h4 h5, F12 x h6 h7 h8]
  have E : ∀ s n b, s < 2 → aw_U FN n → b ∈ aw_er 1 a (aw_er 0 a C) s n → b ∉ FA ∧ b ≠ a := by
    intro s n b hs hn hb
    have e : aw_er 1 a (aw_er 0 a C) s n = (C s n).erase a := by
      unfold aw_er
      rcases Nat.lt_or_ge s 1 with z | z
      · obtain rfl : s = 0 := by omega
        simp
      · obtain rfl : s = 1 := by omega
        simp
    rw [e] at hb
    have q := ((hD n hn s hs).2.1.mem_erase_iff).mp hb
    exact ⟨h8 n hn s hs b q.2, q.1⟩
  have hJ7 : aw_J m7 FN F' (aw_er 1 a (aw_er 0 a C)) := by
    refine aw_J_cut hJ ⟨?_, fun n hn => ⟨?_, ?_, ?_⟩, fun b hb hba => ⟨?_, fun s hs => ?_, ?_, ?_⟩⟩ ha haF hfu htu q2 r2 (aw_ch_fr g1 ?_ (fun b hb => ?_)) g2 g3 g4 ?_ ?_ (aw_D_fr hD2 (fun n hn s hs => ⟨?_, fun b hb => ?_⟩)) (fun n hn => ?_)
    · exact G7' _ (by omega) (by omega) (by omega) (by omega) (by omega) (fun b => by omega) (by omega) (by omega)
    · exact G7' _ (by omega) (by omega) (by omega) (by omega) (by omega) (fun b => by omega) (by omega) (by omega)
    · exact G7' _ (by omega) (by omega) (by omega) (by omega) (by omega) (fun b => by omega) (by omega) (by omega)
    · exact G7' _ (by omega) (by omega) (by omega) (by omega) (by omega) (fun b => by omega) (by omega) (by omega)
    · exact G7' _ (by omega) (by omega) (by omega) (by omega) (by omega) (fun b => by omega) (by omega) (by omega)
    · exact G7' _ (by omega) (by omega) (by omega) (by omega) (by omega) (fun b => by omega) (by omega) (by omega)
    · exact G7' _ (by omega) (by omega) (by omega) (by omega) (by omega) (fun b => by omega) (by omega) (by omega)
    · exact G7' _ (by omega) (by omega) (by omega) (by omega) (by omega) (fun b => by omega) (by omega) (by omega)
    · rw [← hm7]; exact pk_un (by omega)
    · rw [← hm7]; exact pk_un (by omega)
    · rw [G7 _ (by omega) (by omega) (fun b _ => by omega), ← hm5, pk_us]
    · have q : m6 3 = m 3 := by
        rw [g5 3 (by omega) (fun b _ => by omega), G5 _ (by omega) (by omega) (by omega), F12 _ (fun b => by omega) (by omega) (by omega)]
      rw [← hm7, pk_us, q]
    · have hn12 := hn.1
      rw [G7 _ (by omega) (by omega) (fun b _ => by omega), G5 _ (by omega) (by omega) (by omega)]
    · obtain ⟨z1, z2⟩ := E s n b hs hn hb
      refine ⟨?_, ?_, ?_⟩
      · rw [G7 _ (by omega) (by omega) (fun b' hb' => by
          have : b ≠ b' := by
            rcases hb' with z | z
            · exact fun q => z1 (q ▸ z)
            · rw [z]; exact z2
          omega), G5 _ (by omega) (by omega) (by omega)]
      · rw [G7 _ (by omega) (by omega) (fun b' _ => by omega), G5 _ (by omega) (by omega) (by omega)]
      · rw [G7 _ (by omega) (by omega) (fun b' _ => by omega), G5 _ (by omega) (by omega) (by omega)]
    · have hn12 := hn.1
      have z2 : m2 (22 + 7 * n) = m (22 + 7 * n) := F12 _ (fun b => by omega) (by omega) (by omega)
      have z3 : m3 (22 + 7 * n) = m (22 + 7 * n) + (if n = f then -1 else 0) := by
        subst hm3
        by_cases z : n = f
        · rw [if_pos z, ← z, pk_us, z2]
        · rw [if_neg z, pk_un (by omega), z2, Int32.add_zero]
      rw [G7 _ (by omega) (by omega) (fun b' _ => by omega), ← hm5, pk_un (by omega), ← hm4]
      by_cases z : n = t
      · rw [if_pos z, ← z, pk_us, z3]
      · rw [if_neg z, pk_un (by omega), z3, Int32.add_zero]
  refine ⟨m7, F', hJ7, fun x hx => ?_, ?_⟩
  · have hx' : x = 2 ∨ (4 ≤ x ∧ x < 16) ∨ (16 ≤ x ∧ x < 100 ∧ x % 7 = 4) := by
      rcases hx with z | z | ⟨n, z1, z2⟩
      · exact Or.inl z
      · exact Or.inr (Or.inl z)
      · exact Or.inr (Or.inr (by omega))
    exact G7' _ (by omega) (by omega) (by omega) (by omega) (by omega) (fun b => by omega) (by omega) (by omega)
  · intro S u post hRu H
    obtain ⟨f0, f1, f2, f3, f4, a1, a2, a3, a4, a5, a6, a7, a8, a9, a10, a11, a12, a13⟩ := u
    have hRu' := hRu
    obtain ⟨rfl, rfl, _⟩ := hRu'
    have e1 : nI (100 + 10 * a) + 1 = nI (101 + 10 * a) := aw_e2 (100 + 10 * a) 1 _ (by omega)
    have e2 : nI (100 + 10 * a) + 1 + 1 = nI (101 + 10 * a + 1) := aw_e3 (100 + 10 * a) 1 1 _ (by omega)
    have x1 : m2 (101 + 10 * a) = nI f := by
      rw [F12 _ (fun b => by omega) (by omega) (by omega)]
      exact q1
    have x2 : m3 (101 + 10 * a + 1) = nI t := by
      rw [← hm3, pk_un (by omega), F12 _ (fun b => by omega) (by omega) (by omega)]
      exact r1
    unfold wpX_cutArrow
    refine aw_ac a rfl ?_
    refine W1 S _ _ hRu (fun f1 f2 f3 f4 a2 a3 a4 a5 a6 a7 a8 a9 a10 a11 a12 a13 k1 => ?_)
    refine W2 S _ _ k1 (fun f1 f2 f3 f4 a2 a3 a4 a5 a6 a7 a8 a9 a10 a11 a12 a13 k2 => ?_)
    refine ⟨pk_in (101 + 10 * a) 340 (by omega) e1, aw_na f (by rw [pk_cl (101 + 10 * a) e1]; exact x1) (aw_add (22 + 7 * f) (aw_e2 (16 + 7 * f) 6 _ (by omega)) (by omega) k2 ?_)⟩
    rw [hm3]
    refine (fun f1 f2 f3 f4 a2 a3 a4 a5 a6 a7 a8 a9 a10 a11 a12 a13 k3 => ?_)
    refine ⟨pk_in (101 + 10 * a + 1) 340 (by omega) e2, aw_na t (by rw [pk_cl (101 + 10 * a + 1) e2]; exact x2) (aw_add (22 + 7 * t) (aw_e2 (16 + 7 * t) 6 _ (by omega)) (by omega) k3 ?_)⟩
    rw [hm4]
    refine (fun f1 f2 f3 f4 a2 a3 a4 a5 a6 a7 a8 a9 a10 a11 a12 a13 k4 => ?_)
    refine aw_put (100 + 10 * a) (nI_add _ 0) (by omega) k4 ?_
    rw [hm5]
    refine (fun f1 f2 f3 f4 a2 a3 a4 a5 a6 a7 a8 a9 a10 a11 a12 a13 k5 => ?_)
    refine g6 S _ _ k5 (fun f1 f2 f3 f4 a2 a3 a4 a5 a6 a7 a8 a9 a10 a11 a12 a13 k6 => ?_)
    refine aw_add 3 rfl (by omega) k6 ?_
    rw [hm7]
    exact fun f1 f2 f3 f4 a2 a3 a4 a5 a6 a7 a8 a9 a10 a11 a12 a13 k7 => H f1 f2 f3 f4 a2 a3 a4 a5 a6 a7 a8 a9 a10 a11 a12 a13 k7
theorem aw_cut {m : (Nat → Int32)} {a : Nat} (h : aw_V m) (ha : a < 24) : ∃ m', aw_V m' ∧ ∀ (S : List (Nat → Int32)) (u : St1) (post : Int32 → St1 → Prop), aw_R S m u → (∀ r, aw_K S m' (post r)) → wpX_cut post u (nI a) := by
  obtain ⟨FN, FA, C, RW, hJ, hR, hU⟩ := h
  by_cases c : a ∈ FA
  · refine ⟨m, ⟨FN, FA, C, RW, hJ, hR, hU⟩, ?_⟩
    intro S u post hRu H
    have K := aw_Ke (H (-1)) hRu
    have hu := aw_Rm hRu
    obtain ⟨f0, f1, f2, f3, f4, a1, a2, a3, a4, a5, a6, a7, a8, a9, a10, a11, a12, a13⟩ := u
    unfold wpX_cut
    exact aw_isArrowU a rfl ha hu hJ (fun z => absurd c z) (fun _ => br_t rfl K)
  · obtain ⟨m', F', g1, g2, g3⟩ := aw_cutArrow hJ ha c
    refine ⟨m', ⟨FN, F', _, RW, g1, aw_row_fr hR (g2 _ (Or.inl rfl)) (fun k hk => g2 _ (Or.inr (Or.inl (by omega)))) (fun k hk => g2 _ (Or.inr (Or.inr ⟨k, hR.2.2.2 k hk, rfl⟩))), hU⟩, ?_⟩
    intro S u post hRu H
    obtain ⟨f0, f1, f2, f3, f4, a1, a2, a3, a4, a5, a6, a7, a8, a9, a10, a11, a12, a13⟩ := u
    have hRu' := hRu
    obtain ⟨rfl, rfl, _⟩ := hRu'
    unfold wpX_cut
    refine aw_isArrowU a rfl ha rfl hJ (fun _ => br_f (by decide) ?_) (fun z => absurd z c)
    exact g3 S _ _ hRu (fun f1 f2 f3 f4 a2 a3 a4 a5 a6 a7 a8 a9 a10 a11 a12 a13 k1 => H _ f1 f2 f3 f4 a2 a3 a4 a5 a6 a7 a8 a9 a10 a11 a12 a13 k1)
/-! ===== drop ===== -/
theorem aw_er_eq {C : Nat → Nat → List Nat} {a s n : Nat} (hs : s < 2) : aw_er 1 a (aw_er 0 a C) s n = (C s n).erase a := by
  unfold aw_er
  rcases Nat.lt_or_ge s 1 with z | z
  · obtain rfl : s = 0 := by omega
    simp
  · obtain rfl : s = 1 := by omega
    simp
theorem aw_drop_46 {FN : List Nat} {n s : Nat} (hn : aw_U FN n) (hs : s < 2) : ∀ (k : Nat) (m : (Nat → Int32)) (FA : List Nat) (C : Nat → Nat → List Nat), aw_J m FN FA C → (C s n).length = k →
    ∃ m' F' C', aw_J m' FN F' C' ∧ C' s n = [] ∧ (∀ s' n', s' < 2 → C s' n' = [] → C' s' n' = []) ∧ (∀ x, x = 2 ∨ (4 ≤ x ∧ x < 16) ∨ (∃ n, n < 12 ∧ x = 18 + 7 * n) → m' x = m x) ∧
      ∀ (S : List (Nat → Int32)) (post : Int32 → St1 → Prop) (J40 : Int32 → Int32 → Int32 → Int32 → Int32 → Int32 → Int32 → (Nat → Int32) → (Nat → Int32) → (Nat → Int32) → (Nat → Int32) → (Nat → Int32) → (Nat → Int32) → (Nat → Int32) → (Nat → Int32) → (Nat → Int32) → (Nat → Int32) → (Nat → Int32) → (Nat → Int32) → (Nat → Int32) → Prop) (x1 x4 : Int32) (f : Nat), k < f →
        (∀ (x4' : Int32), ∀ (f1 f2 f3 f4 : Int32) (a2 a3 a4 a5 a6 a7 a8 a9 a10 a11 a12 a13 : Nat → Int32), aw_R S m' (nI S.length, f1, f2, f3, f4, m', a2, a3, a4, a5, a6, a7, a8, a9, a10, a11, a12, a13) → J40 x4' (nI (s + 1)) (nI S.length) f1 f2 f3 f4 m' a2 a3 a4 a5 a6 a7 a8 a9 a10 a11 a12 a13) → ∀ (f1 f2 f3 f4 : Int32) (a2 a3 a4 a5 a6 a7 a8 a9 a10 a11 a12 a13 : Nat → Int32), aw_R S m (nI S.length, f1, f2, f3, f4, m, a2, a3, a4, a5, a6, a7, a8, a9, a10, a11, a12, a13) → wX_drop_46 post J40 x1 (nI (16 + 7 * n)) (nI s) f x4 (nI S.length) f1 f2 f3 f4 m a2 a3 a4 a5 a6 a7 a8 a9 a10 a11 a12 a13 := by
  have hn12 := hn.1
  have ad : nI (16 + 7 * n) + 3 + nI s = nI (19 + 7 * n + s) := aw_e3 (16 + 7 * n) 3 s _ (by omega)
  intro k
  induction k with
  | zero =>
    intro m FA C hJ hk
    have hc : C s n = [] := List.eq_nil_of_length_eq_zero hk
    refine ⟨m, FA, C, hJ, hc, fun s' n' _ h => h, fun _ _ => rfl, ?_⟩
    intro S post J40 x1 x4 f hf H f1 f2 f3 f4 a2 a3 a4 a5 a6 a7 a8 a9 a10 a11 a12 a13 hR
    cases f with
    | zero => exact absurd hf (by omega)
    | succ f =>
      have hd := (hJ.2.2.2.2.2.2.1 n hn s hs).1
      rw [hc] at hd
      have hd' : m (19 + 7 * n + s) = -1 := hd
      exact ⟨pk_in (19 + 7 * n + s) 340 (by omega) ad, br_t (by rw [pk_cl (19 + 7 * n + s) ad, hd']; decide) (nm_r (nI_1 s) (H x4 f1 f2 f3 f4 a2 a3 a4 a5 a6 a7 a8 a9 a10 a11 a12 a13 hR))⟩
  | succ k ih =>
    intro m FA C hJ hk
    cases hc : C s n with
    | nil => rw [hc] at hk; exact absurd hk (by simp)
    | cons a l =>
      have hD := hJ.2.2.2.2.2.2.1 n hn s hs
      have hmem : a ∈ C s n := by rw [hc]; exact List.mem_cons_self ..
      have haF := hJ.2.2.2.2.2.2.2.1 n hn s hs a hmem
      have ha : a < 24 := aw_dl_lt hD.1 a hmem
      have hm : m (19 + 7 * n + s) = nI a := by
        have := hD.1
        rw [hc] at this
        exact this.1
      obtain ⟨m1, F1, g1, g2, g3⟩ := aw_cutArrow hJ ha haF
      have hl : (aw_er 1 a (aw_er 0 a C) s n).length = k := by
        rw [aw_er_eq hs, List.length_erase_of_mem hmem, hk]; rfl
      obtain ⟨m', F', C', i1, i2, i3, i4, i5⟩ := ih m1 F1 _ g1 hl
      refine ⟨m', F', C', i1, i2, fun s' n' hs' h => i3 s' n' hs' (by rw [aw_er_eq hs', h]; rfl), fun x hx => (i4 x hx).trans (g2 x hx), ?_⟩
      intro S post J40 x1 x4 f hf H f1 f2 f3 f4 a2 a3 a4 a5 a6 a7 a8 a9 a10 a11 a12 a13 hR
      cases f with
      | zero => exact absurd hf (by omega)
      | succ f =>
        refine ⟨pk_in (19 + 7 * n + s) 340 (by omega) ad, br_f (by rw [pk_cl (19 + 7 * n + s) ad, hm]; exact nI_pos (by omega)) ⟨pk_in (19 + 7 * n + s) 340 (by omega) ad, ?_⟩⟩
        rw [pk_cl (19 + 7 * n + s) ad, hm]
        refine g3 S _ _ hR (fun f1 f2 f3 f4 a2 a3 a4 a5 a6 a7 a8 a9 a10 a11 a12 a13 k1 => ?_)
        exact nm_e (i5 S post J40 x1 _ f (by omega) H f1 f2 f3 f4 a2 a3 a4 a5 a6 a7 a8 a9 a10 a11 a12 a13 k1)
theorem aw_dropAll {m : (Nat → Int32)} {FN FA RW : List Nat} {C : Nat → Nat → List Nat} {n : Nat} (hJ : aw_J m FN FA C) (hR : aw_row m RW) (hU : ∀ n, n ∈ RW ↔ aw_U FN n) (hn : aw_U FN n) :
    ∃ m', aw_V m' ∧ ∀ (S : List (Nat → Int32)) (post : Int32 → St1 → Prop), (∀ r, aw_K S m' (post r)) → ∀ (f1 f2 f3 f4 : Int32) (a2 a3 a4 a5 a6 a7 a8 a9 a10 a11 a12 a13 : Nat → Int32), aw_R S m (nI S.length, f1, f2, f3, f4, m, a2, a3, a4, a5, a6, a7, a8, a9, a10, a11, a12, a13) → ∃ fu, wX_drop_40 post (nI n) (nI (16 + 7 * n)) fu 0 0 (nI S.length) f1 f2 f3 f4 m a2 a3 a4 a5 a6 a7 a8 a9 a10 a11 a12 a13 := by
  have hn12 := hn.1
  obtain ⟨mA, FA1, CA, p1, p2, p3, p4, p5⟩ := aw_drop_46 hn (by omega : 0 < 2) _ m FA C hJ rfl
  obtain ⟨mB, FA2, CB, b1, b2, b3, b4, b5⟩ := aw_drop_46 hn (by omega : 1 < 2) _ mA FA1 CA p1 rfl
  have c0 : ∀ s, s < 2 → CB s n = [] := by
    intro s hs
    rcases Nat.lt_or_ge s 1 with z | z
    · obtain rfl : s = 0 := by omega
      exact b3 0 n (by omega) p2
    · obtain rfl : s = 1 := by omega
      exact b2
  have hRB : aw_row mB RW := by
    have hf : ∀ x, x = 2 ∨ (4 ≤ x ∧ x < 16) ∨ (∃ n, n < 12 ∧ x = 18 + 7 * n) → mB x = m x := fun x hx => (b4 x hx).trans (p4 x hx)
    exact aw_row_fr hR (hf _ (Or.inl rfl)) (fun k hk => hf _ (Or.inr (Or.inl (by omega)))) (fun k hk => hf _ (Or.inr (Or.inr ⟨k, hR.2.2.2 k hk, rfl⟩)))
  obtain ⟨mC, RC, g1, g2, g3, g4⟩ := aw_removeFromRow hRB ((hU n).mpr hn)
  have hJC : aw_J mC FN FA2 CB := aw_J_fr b1 (fun x hx => g3 x (by omega) (by omega))
  generalize hmD : upd mC (16 + 7 * n) 0 = mD
  have hchD : aw_ch mD (fun n => 16 + 7 * n + 5) 12 0 FN := by
    subst hmD
    exact aw_ch_fr hJC.1.1 (pk_un (by omega)) (fun k hk => pk_un (by omega))
  obtain ⟨mE, F', q1, q2, q3, q4, q5, q6⟩ := aw_give (m := mD) (F := FN) 16 7 5 12 0 n (fun b hb => by omega) hn12 (by omega) (by omega) (by omega) (fun b => by omega) hchD hJC.1.2 hn.2
  have fE : ∀ x, x ≠ 0 → x ≠ 16 + 7 * n → (∀ k, x ≠ 16 + 7 * k + 5 ∨ 12 ≤ k) → mE x = mC x := by
    intro x h1 h2 h3
    rw [q5 x h1 (fun b hb => ?_), ← hmD, pk_un h2]
    have hb12 : b < 12 := by
      rcases hb with z | z
      · exact aw_ch_lt hJC.1.1 b z
      · omega
    have := h3 b
    omega
  have hJE : aw_J mE F' FA2 CB := by
    refine aw_J_drop hJC hn c0 q1 q2 q3 ?_ fE
    rw [q5 _ (by omega) (fun b _ => by omega), ← hmD, pk_us]
  have hRE : aw_row mE RC := aw_row_fr g1 (fE _ (by omega) (by omega) (fun k => by omega)) (fun k hk => fE _ (by omega) (by omega) (fun k => by omega)) (fun k hk => fE _ (by omega) (by omega) (fun k => by omega))
  refine ⟨mE, ⟨F', FA2, CB, RC, hJE, hRE, fun k => ?_⟩, ?_⟩
  · rw [g2 k, hU k]
    unfold aw_U
    rw [q3 k]
    exact ⟨fun z => ⟨z.2.1, fun y => y.elim z.2.2 z.1⟩, fun z => ⟨fun y => z.2 (Or.inr y), z.1, fun y => z.2 (Or.inl y)⟩⟩
  · intro S post H f1 f2 f3 f4 a2 a3 a4 a5 a6 a7 a8 a9 a10 a11 a12 a13 hR0
    refine ⟨3, br_f (by decide) ⟨(C 0 n).length + 1, ?_⟩⟩
    refine p5 S post _ _ _ _ (by omega) (fun x4 => fun f1 f2 f3 f4 a2 a3 a4 a5 a6 a7 a8 a9 a10 a11 a12 a13 k1 => ?_) f1 f2 f3 f4 a2 a3 a4 a5 a6 a7 a8 a9 a10 a11 a12 a13 hR0
    refine br_f (by decide) ⟨(CA 1 n).length + 1, ?_⟩
    refine b5 S post _ _ _ _ (by omega) (fun x4 => fun f1 f2 f3 f4 a2 a3 a4 a5 a6 a7 a8 a9 a10 a11 a12 a13 k2 => ?_) f1 f2 f3 f4 a2 a3 a4 a5 a6 a7 a8 a9 a10 a11 a12 a13 k1
    refine br_t (by decide) ?_
    refine g4 S _ _ k2 (fun f1 f2 f3 f4 a2 a3 a4 a5 a6 a7 a8 a9 a10 a11 a12 a13 k3 => ?_)
    refine aw_put (16 + 7 * n) (nI_add _ 0) (by omega) k3 ?_
    rw [hmD]
    refine (fun f1 f2 f3 f4 a2 a3 a4 a5 a6 a7 a8 a9 a10 a11 a12 a13 k4 => ?_)
    exact q6 S _ _ k4 (fun f1 f2 f3 f4 a2 a3 a4 a5 a6 a7 a8 a9 a10 a11 a12 a13 k5 => H _ f1 f2 f3 f4 a2 a3 a4 a5 a6 a7 a8 a9 a10 a11 a12 a13 k5)
theorem aw_drop {m : (Nat → Int32)} {n : Nat} {b : Int32} (h : aw_V m) (hn : n < 12) : ∃ m', aw_V m' ∧ ∀ (S : List (Nat → Int32)) (u : St1) (post : Int32 → St1 → Prop), aw_R S m u → (∀ r, aw_K S m' (post r)) → wpX_drop post u (nI n) b := by
  have h' := h
  obtain ⟨FN, FA, C, RW, hJ, hR, hU⟩ := h'
  have e6 : nI (16 + 7 * n) + 6 = nI (22 + 7 * n) := aw_e2 (16 + 7 * n) 6 _ (by omega)
  by_cases c : n ∈ FN
  · refine ⟨m, h, ?_⟩
    intro S u post hRu H
    have K := aw_Ke (H (-1)) hRu
    have hu := aw_Rm hRu
    obtain ⟨f0, f1, f2, f3, f4, a1, a2, a3, a4, a5, a6, a7, a8, a9, a10, a11, a12, a13⟩ := u
    unfold wpX_drop
    exact aw_isNodeU n rfl hn hu hJ (fun z => absurd c z.2) (fun _ => br_t rfl K)
  · by_cases c2 : b = 0 ∧ ¬ m (22 + 7 * n) ≤ 0
    · refine ⟨m, h, ?_⟩
      intro S u post hRu H
      have K := aw_Ke (H (-4)) hRu
      have hu := aw_Rm hRu
      obtain ⟨f0, f1, f2, f3, f4, a1, a2, a3, a4, a5, a6, a7, a8, a9, a10, a11, a12, a13⟩ := u
      have hu' : a1 = m := hu
      subst hu'
      unfold wpX_drop
      refine aw_isNodeU n rfl hn rfl hJ (fun _ => br_f (by decide) (aw_na n rfl (br_t c2.1 ⟨pk_in (22 + 7 * n) 340 (by omega) e6, br_f ?_ K⟩))) (fun z => absurd z c)
      rw [pk_cl (22 + 7 * n) e6]
      exact c2.2
    · obtain ⟨m', g1, g2⟩ := aw_dropAll hJ hR hU ⟨hn, c⟩
      refine ⟨m', g1, ?_⟩
      intro S u post hRu H
      obtain ⟨f0, f1, f2, f3, f4, a1, a2, a3, a4, a5, a6, a7, a8, a9, a10, a11, a12, a13⟩ := u
      have hRu' := hRu
      obtain ⟨rfl, rfl, _⟩ := hRu'
      have go := g2 S post H f1 f2 f3 f4 a2 a3 a4 a5 a6 a7 a8 a9 a10 a11 a12 a13 hRu
      unfold wpX_drop
      refine aw_isNodeU n rfl hn rfl hJ (fun _ => br_f (by decide) (aw_na n rfl (br_c (fun z => ⟨pk_in (22 + 7 * n) 340 (by omega) e6, br_t ?_ go⟩) (fun _ => go)))) (fun z => absurd z c)
      rw [pk_cl (22 + 7 * n) e6]
      exact Classical.byContradiction (fun y => c2 ⟨z, y⟩)
end
section
/-! ===== change, run ===== -/
theorem aw_change {m : (Nat → Int32)} {x : Int32} (h : aw_V m) : ∃ m', aw_V m' ∧ ∀ (S : List (Nat → Int32)) (u : St1) (post : Int32 → St1 → Prop), aw_R S m u → (∀ r, aw_K S m' (post r)) → wpL_change post u x := by
  obtain ⟨k, hk, ek⟩ := pk_andE x (m := 15) 4 (by decide)
  obtain ⟨n0, hn0, en0⟩ := pk_andE (x >>> ((4 : Int32) &&& 31)) (m := 255) 8 (by decide)
  obtain ⟨m0, hm0, em0⟩ := pk_andE (x >>> ((12 : Int32) &&& 31)) (m := 255) 8 (by decide)
  obtain ⟨w0, hw0, ew0⟩ := pk_andE (x >>> ((20 : Int32) &&& 31)) (m := 255) 8 (by decide)
  obtain ⟨l0, hl0, el0⟩ := pk_andE (x >>> ((4 : Int32) &&& 31)) (m := 7) 3 (by decide)
  obtain ⟨l1, hl1, el1⟩ := pk_andE (x >>> ((12 : Int32) &&& 31)) (m := 7) 3 (by decide)
  obtain ⟨y0, hy0, ey0⟩ := pk_andE (x >>> ((28 : Int32) &&& 31)) (m := 3) 2 (by decide)
  have e3 : ((x >>> ((4 : Int32) &&& 31)) &&& 255) - ((x >>> ((4 : Int32) &&& 31)) &&& 255) / 6 * 6 = nI (n0 % 6) := by
    rw [en0]; exact pk_rem (a := n0) (d := 6) (by omega) (by omega) (by omega)
  have e4 : ((x >>> ((12 : Int32) &&& 31)) &&& 255) - ((x >>> ((12 : Int32) &&& 31)) &&& 255) / 6 * 6 = nI (m0 % 6) := by
    rw [em0]; exact pk_rem (a := m0) (d := 6) (by omega) (by omega) (by omega)
  have e5 : ((x >>> ((20 : Int32) &&& 31)) &&& 255) - ((x >>> ((20 : Int32) &&& 31)) &&& 255) / 100 * 100 = nI (w0 % 100) := by
    rw [ew0]; exact pk_rem (a := w0) (d := 100) (by omega) (by omega) (by omega)
  by_cases c1 : k < 3
  · obtain ⟨m', g1, g2⟩ := aw_node (lb := l0) (v := (x >>> ((7 : Int32) &&& 31)) &&& 3) h (by omega)
    refine ⟨m', g1, fun S u post hR H => ?_⟩
    obtain ⟨f0, f1, f2, f3, f4, a1, a2, a3, a4, a5, a6, a7, a8, a9, a10, a11, a12, a13⟩ := u
    unfold wpL_change
    refine nm_r ek ⟨by decide, nm_r e3 ⟨by decide, nm_r e4 ⟨by decide, nm_r e5 ?_⟩⟩⟩
    refine pk_le 3 k (fun z => absurd z (by omega)) (fun _ => ?_)
    rw [el0]
    exact g2 S _ _ hR (fun r => fun f1 f2 f3 f4 a2 a3 a4 a5 a6 a7 a8 a9 a10 a11 a12 a13 k1 => H r f1 f2 f3 f4 a2 a3 a4 a5 a6 a7 a8 a9 a10 a11 a12 a13 k1)
  by_cases c2 : k < 9
  · have ee : 12 * nI (n0 % 6) + nI (m0 % 6) = nI (12 * (n0 % 6) + m0 % 6) := by
      show nI 12 * nI (n0 % 6) + nI (m0 % 6) = _
      rw [pk_mul, nI_add]
    obtain ⟨m', g1, g2⟩ := aw_arrow (e := 12 * (n0 % 6) + m0 % 6) (y := y0) (w := w0 % 100) h (by omega) (by omega) (by omega)
    refine ⟨m', g1, fun S u post hR H => ?_⟩
    obtain ⟨f0, f1, f2, f3, f4, a1, a2, a3, a4, a5, a6, a7, a8, a9, a10, a11, a12, a13⟩ := u
    unfold wpL_change
    refine nm_r ek ⟨by decide, nm_r e3 ⟨by decide, nm_r e4 ⟨by decide, nm_r e5 ?_⟩⟩⟩
    refine pk_le 3 k (fun _ => pk_le 9 k (fun z => absurd z (by omega)) (fun _ => ?_)) (fun z => absurd z (by omega))
    rw [ey0, ee]
    exact g2 S _ _ hR (fun r => fun f1 f2 f3 f4 a2 a3 a4 a5 a6 a7 a8 a9 a10 a11 a12 a13 k1 => H r f1 f2 f3 f4 a2 a3 a4 a5 a6 a7 a8 a9 a10 a11 a12 a13 k1)
  by_cases c3 : k = 9
  · obtain ⟨m', g1, g2⟩ := aw_setNode (n := n0 % 6) (lb := l1) (v := (x >>> ((15 : Int32) &&& 31)) &&& 3) h (by omega) (by omega)
    refine ⟨m', g1, fun S u post hR H => ?_⟩
    obtain ⟨f0, f1, f2, f3, f4, a1, a2, a3, a4, a5, a6, a7, a8, a9, a10, a11, a12, a13⟩ := u
    unfold wpL_change
    refine nm_r ek ⟨by decide, nm_r e3 ⟨by decide, nm_r e4 ⟨by decide, nm_r e5 ?_⟩⟩⟩
    refine pk_le 3 k (fun _ => pk_le 9 k (fun _ => pk_eq k 9 (fun _ => ?_) (fun z => absurd c3 z)) (fun z => absurd z (by omega))) (fun z => absurd z (by omega))
    rw [el1]
    exact g2 S _ _ hR (fun r => fun f1 f2 f3 f4 a2 a3 a4 a5 a6 a7 a8 a9 a10 a11 a12 a13 k1 => H r f1 f2 f3 f4 a2 a3 a4 a5 a6 a7 a8 a9 a10 a11 a12 a13 k1)
  by_cases c4 : k = 10
  · obtain ⟨m', g1, g2⟩ := aw_setWeight (a := l0) (w := w0 % 100) h (by omega) (by omega)
    refine ⟨m', g1, fun S u post hR H => ?_⟩
    obtain ⟨f0, f1, f2, f3, f4, a1, a2, a3, a4, a5, a6, a7, a8, a9, a10, a11, a12, a13⟩ := u
    unfold wpL_change
    refine nm_r ek ⟨by decide, nm_r e3 ⟨by decide, nm_r e4 ⟨by decide, nm_r e5 ?_⟩⟩⟩
    refine pk_le 3 k (fun _ => pk_le 9 k (fun _ => pk_eq k 9 (fun z => absurd z c3) (fun _ => pk_eq k 10 (fun _ => ?_) (fun z => absurd c4 z))) (fun z => absurd z (by omega))) (fun z => absurd z (by omega))
    rw [el0]
    exact g2 S _ _ hR (fun r => fun f1 f2 f3 f4 a2 a3 a4 a5 a6 a7 a8 a9 a10 a11 a12 a13 k1 => H r f1 f2 f3 f4 a2 a3 a4 a5 a6 a7 a8 a9 a10 a11 a12 a13 k1)
  by_cases c5 : k < 13
  · obtain ⟨m', g1, g2⟩ := aw_cut (a := l0) h (by omega)
    refine ⟨m', g1, fun S u post hR H => ?_⟩
    obtain ⟨f0, f1, f2, f3, f4, a1, a2, a3, a4, a5, a6, a7, a8, a9, a10, a11, a12, a13⟩ := u
    unfold wpL_change
    refine nm_r ek ⟨by decide, nm_r e3 ⟨by decide, nm_r e4 ⟨by decide, nm_r e5 ?_⟩⟩⟩
    refine pk_le 3 k (fun _ => pk_le 9 k (fun _ => pk_eq k 9 (fun z => absurd z c3) (fun _ => pk_eq k 10 (fun z => absurd z c4) (fun _ => pk_le 13 k (fun z => absurd z (by omega)) (fun _ => ?_)))) (fun z => absurd z (by omega))) (fun z => absurd z (by omega))
    rw [el0]
    exact g2 S _ _ hR (fun r => fun f1 f2 f3 f4 a2 a3 a4 a5 a6 a7 a8 a9 a10 a11 a12 a13 k1 => H r f1 f2 f3 f4 a2 a3 a4 a5 a6 a7 a8 a9 a10 a11 a12 a13 k1)
  by_cases c6 : k < 15
  · by_cases c7 : (x >>> ((12 : Int32) &&& 31)) &&& 1 = 0
    · obtain ⟨m', g1, g2⟩ := aw_drop (n := n0 % 6) (b := 1) h (by omega)
      refine ⟨m', g1, fun S u post hR H => ?_⟩
      obtain ⟨f0, f1, f2, f3, f4, a1, a2, a3, a4, a5, a6, a7, a8, a9, a10, a11, a12, a13⟩ := u
      unfold wpL_change
      refine nm_r ek ⟨by decide, nm_r e3 ⟨by decide, nm_r e4 ⟨by decide, nm_r e5 ?_⟩⟩⟩
      refine pk_le 3 k (fun _ => pk_le 9 k (fun _ => pk_eq k 9 (fun z => absurd z c3) (fun _ => pk_eq k 10 (fun z => absurd z c4) (fun _ => pk_le 13 k (fun _ => pk_le 15 k (fun z => absurd z (by omega)) (fun _ => br_t c7 ?_)) (fun z => absurd z (by omega))))) (fun z => absurd z (by omega))) (fun z => absurd z (by omega))
      exact g2 S _ _ hR (fun r => fun f1 f2 f3 f4 a2 a3 a4 a5 a6 a7 a8 a9 a10 a11 a12 a13 k1 => H r f1 f2 f3 f4 a2 a3 a4 a5 a6 a7 a8 a9 a10 a11 a12 a13 k1)
    · obtain ⟨m', g1, g2⟩ := aw_drop (n := n0 % 6) (b := 0) h (by omega)
      refine ⟨m', g1, fun S u post hR H => ?_⟩
      obtain ⟨f0, f1, f2, f3, f4, a1, a2, a3, a4, a5, a6, a7, a8, a9, a10, a11, a12, a13⟩ := u
      unfold wpL_change
      refine nm_r ek ⟨by decide, nm_r e3 ⟨by decide, nm_r e4 ⟨by decide, nm_r e5 ?_⟩⟩⟩
      refine pk_le 3 k (fun _ => pk_le 9 k (fun _ => pk_eq k 9 (fun z => absurd z c3) (fun _ => pk_eq k 10 (fun z => absurd z c4) (fun _ => pk_le 13 k (fun _ => pk_le 15 k (fun z => absurd z (by omega)) (fun _ => br_f c7 ?_)) (fun z => absurd z (by omega))))) (fun z => absurd z (by omega))) (fun z => absurd z (by omega))
      exact g2 S _ _ hR (fun r => fun f1 f2 f3 f4 a2 a3 a4 a5 a6 a7 a8 a9 a10 a11 a12 a13 k1 => H r f1 f2 f3 f4 a2 a3 a4 a5 a6 a7 a8 a9 a10 a11 a12 a13 k1)
  · obtain ⟨m', g1, g2⟩ := aw_setNode (n := m0 % 6) (lb := 7) (v := 1) h (by omega) (by omega)
    refine ⟨m', g1, fun S u post hR H => ?_⟩
    obtain ⟨f0, f1, f2, f3, f4, a1, a2, a3, a4, a5, a6, a7, a8, a9, a10, a11, a12, a13⟩ := u
    unfold wpL_change
    refine nm_r ek ⟨by decide, nm_r e3 ⟨by decide, nm_r e4 ⟨by decide, nm_r e5 ?_⟩⟩⟩
    refine pk_le 3 k (fun _ => pk_le 9 k (fun _ => pk_eq k 9 (fun z => absurd z c3) (fun _ => pk_eq k 10 (fun z => absurd z c4) (fun _ => pk_le 13 k (fun _ => pk_le 15 k (fun _ => ?_) (fun z => absurd z (by omega))) (fun z => absurd z (by omega))))) (fun z => absurd z (by omega))) (fun z => absurd z (by omega))
    exact g2 S _ _ hR (fun r => fun f1 f2 f3 f4 a2 a3 a4 a5 a6 a7 a8 a9 a10 a11 a12 a13 k1 => H r f1 f2 f3 f4 a2 a3 a4 a5 a6 a7 a8 a9 a10 a11 a12 a13 k1)
def aw_cv (xs : (Nat → Int32)) (L k : Nat) : Int32 := if L ≤ k then 47 * nI k + 13 else xs k
theorem aw_cell {post : Int32 → Prop} {L : Nat} {xs : (Nat → Int32)} {u : St2} {x : Int32} (k : Nat) (hx : x = nI k) (hL : L ≤ 260) (hk : k < 2 ^ 31) (H : post (aw_cv xs L k)) : wpL_cell post L xs u x := by
  subst hx
  unfold aw_cv at H
  unfold wpL_cell
  refine pk_le L k (fun z => ?_) (fun z => ⟨pk_in k L z rfl (by omega), ?_⟩)
  · rw [if_pos z] at H; exact H
  · rw [if_neg (by omega)] at H
    rw [pk_cl k]
    exact H
theorem aw_run_126 {L : Nat} {xs : (Nat → Int32)} {S0 : List (Nat → Int32)} {m : (Nat → Int32)} {post : Int32 → St1 → Prop} (H : ∀ r, aw_K S0 m (post r)) : ∀ (T : List (Nat → Int32)) (f : Nat), T.length < f → ∀ (f1 f2 f3 f4 : Int32) (a2 a3 a4 a5 a6 a7 a8 a9 a10 a11 a12 a13 : Nat → Int32), aw_R (T ++ S0) m (nI (T ++ S0).length, f1, f2, f3, f4, m, a2, a3, a4, a5, a6, a7, a8, a9, a10, a11, a12, a13) → wL_run_126 post L xs f (nI T.length) (nI (T ++ S0).length) f1 f2 f3 f4 m a2 a3 a4 a5 a6 a7 a8 a9 a10 a11 a12 a13 := by
  intro T
  induction T with
  | nil =>
    intro f hf f1 f2 f3 f4 a2 a3 a4 a5 a6 a7 a8 a9 a10 a11 a12 a13 hR
    cases f with
    | zero => exact absurd hf (by omega)
    | succ f => exact br_t (by decide) (H _ f1 f2 f3 f4 a2 a3 a4 a5 a6 a7 a8 a9 a10 a11 a12 a13 hR)
  | cons s T ih =>
    intro f hf f1 f2 f3 f4 a2 a3 a4 a5 a6 a7 a8 a9 a10 a11 a12 a13 hR
    cases f with
    | zero => exact absurd hf (by omega)
    | succ f =>
      have h4 : ((s :: T) ++ S0).length ≤ 4 := hR.2.2.1
      rw [List.length_append, List.length_cons] at h4
      refine br_f (nI_nle (by simp) (by simp; omega)) ?_
      refine aw_end hR (fun f1 f2 f3 f4 a2 a3 a4 a5 a6 a7 a8 a9 a10 a11 a12 a13 k1 => ?_)
      exact nm_r (pk_m1 T.length) (ih f (by rw [List.length_cons] at hf; omega) f1 f2 f3 f4 a2 a3 a4 a5 a6 a7 a8 a9 a10 a11 a12 a13 k1)
theorem aw_run_l {L : Nat} {xs : (Nat → Int32)} (hL : L ≤ 260) {e : Nat} (he : e < 1000) : ∀ (d k : Nat) (T : List (Nat → Int32)) (m : (Nat → Int32)), k + d = e → aw_V m → (∀ s ∈ T, aw_V s) → T.length ≤ 2 →
    ∃ m', aw_V m' ∧ ∀ (S0 : List (Nat → Int32)) (post : Int32 → St1 → Prop) (f : Nat), d < f → S0.length ≤ 2 → (∀ r, aw_K S0 m' (post r)) → ∀ (f1 f2 f3 f4 : Int32) (a2 a3 a4 a5 a6 a7 a8 a9 a10 a11 a12 a13 : Nat → Int32), aw_R (T ++ S0) m (nI (T ++ S0).length, f1, f2, f3, f4, m, a2, a3, a4, a5, a6, a7, a8, a9, a10, a11, a12, a13) → wL_run_6 post L xs (nI e) f (nI T.length) (nI k) (nI (T ++ S0).length) f1 f2 f3 f4 m a2 a3 a4 a5 a6 a7 a8 a9 a10 a11 a12 a13 := by
  intro d
  induction d with
  | zero =>
    intro k T m hk hV hT hT2
    refine ⟨m, hV, ?_⟩
    intro S0 post f hf hS H f1 f2 f3 f4 a2 a3 a4 a5 a6 a7 a8 a9 a10 a11 a12 a13 hR
    cases f with
    | zero => exact absurd hf (by omega)
    | succ f =>
      exact pk_le e k (fun _ => ⟨T.length + 1, aw_run_126 H T _ (by omega) f1 f2 f3 f4 a2 a3 a4 a5 a6 a7 a8 a9 a10 a11 a12 a13 hR⟩) (fun z => absurd z (by omega))
  | succ d ih =>
    intro k T m hk hV hT hT2
    generalize hc : aw_cv xs L k = c
    obtain ⟨mc, hVc, Wc⟩ := aw_change (x := c) hV
    obtain ⟨mC, hVC, WC⟩ := ih (k + 1) T mc (by omega) hVc hT hT2
    have K113 : ∀ (S0 : List (Nat → Int32)) (post : Int32 → St1 → Prop) (f : Nat), d < f → S0.length ≤ 2 → (∀ r, aw_K S0 mC (post r)) → ∀ (f1 f2 f3 f4 : Int32) (a2 a3 a4 a5 a6 a7 a8 a9 a10 a11 a12 a13 : Nat → Int32), aw_R (T ++ S0) m (nI (T ++ S0).length, f1, f2, f3, f4, m, a2, a3, a4, a5, a6, a7, a8, a9, a10, a11, a12, a13) → wL_run_113 post L xs (wL_run_6 post L xs (nI e) f) (nI e) (nI T.length) (nI k) c (nI (T ++ S0).length) f1 f2 f3 f4 m a2 a3 a4 a5 a6 a7 a8 a9 a10 a11 a12 a13 := by
      intro S0 post f hf hS H f1 f2 f3 f4 a2 a3 a4 a5 a6 a7 a8 a9 a10 a11 a12 a13 hR
      refine Wc (T ++ S0) _ _ hR (fun r => fun f1 f2 f3 f4 a2 a3 a4 a5 a6 a7 a8 a9 a10 a11 a12 a13 k1 => nm_r (nI_1 k) ?_)
      exact WC S0 post f hf hS H f1 f2 f3 f4 a2 a3 a4 a5 a6 a7 a8 a9 a10 a11 a12 a13 k1
    by_cases c1 : (c >>> ((30 : Int32) &&& 31)) &&& 3 = 1
    · by_cases c2 : T.length < 2
      · obtain ⟨m', h1, h2⟩ := ih (k + 1) (m :: T) m (by omega) hV (fun s hs => by
          rcases List.mem_cons.mp hs with z | z
          · rw [z]; exact hV
          · exact hT s z) (by rw [List.length_cons]; omega)
        refine ⟨m', h1, ?_⟩
        intro S0 post f hf hS H f1 f2 f3 f4 a2 a3 a4 a5 a6 a7 a8 a9 a10 a11 a12 a13 hR
        cases f with
        | zero => exact absurd hf (by omega)
        | succ f =>
          have hlen : (T ++ S0).length = T.length + S0.length := List.length_append
          refine pk_le e k (fun z => absurd z (by omega)) (fun _ => aw_cell k rfl hL (by omega) ?_)
          rw [hc]
          refine nm_r c1 (br_t rfl (pk_le 2 T.length (fun z => absurd z (by omega)) (fun _ => ?_)))
          refine aw_begin hR (by omega) (fun f1 f2 f3 f4 a2 a3 a4 a5 a6 a7 a8 a9 a10 a11 a12 a13 k1 => ?_)
          refine br_f (nI_nle (by omega) (by omega)) (nm_r (nI_1 T.length) (nm_r (nI_1 k) ?_))
          exact h2 S0 post f (by omega) hS H f1 f2 f3 f4 a2 a3 a4 a5 a6 a7 a8 a9 a10 a11 a12 a13 k1
      · refine ⟨mC, hVC, ?_⟩
        intro S0 post f hf hS H f1 f2 f3 f4 a2 a3 a4 a5 a6 a7 a8 a9 a10 a11 a12 a13 hR
        cases f with
        | zero => exact absurd hf (by omega)
        | succ f =>
          refine pk_le e k (fun z => absurd z (by omega)) (fun _ => aw_cell k rfl hL (by omega) ?_)
          rw [hc]
          refine nm_r c1 (br_t rfl (pk_le 2 T.length (fun _ => br_f (by decide) ?_) (fun z => absurd z (by omega))))
          exact K113 S0 post f (by omega) hS H f1 f2 f3 f4 a2 a3 a4 a5 a6 a7 a8 a9 a10 a11 a12 a13 hR
    · by_cases c3 : (c >>> ((30 : Int32) &&& 31)) &&& 3 = 2 ∧ T ≠ []
      · cases T with
        | nil => exact absurd rfl c3.2
        | cons s T =>
          rw [List.length_cons] at hT2
          by_cases c4 : c &&& 268435456 = 0
          · obtain ⟨m', h1, h2⟩ := ih (k + 1) T m (by omega) hV (fun s hs => hT s (List.mem_cons_of_mem _ hs)) (by omega)
            refine ⟨m', h1, ?_⟩
            intro S0 post f hf hS H f1 f2 f3 f4 a2 a3 a4 a5 a6 a7 a8 a9 a10 a11 a12 a13 hR
            cases f with
            | zero => exact absurd hf (by omega)
            | succ f =>
              have hlen : (T ++ S0).length = T.length + S0.length := List.length_append
              refine pk_le e k (fun z => absurd z (by omega)) (fun _ => aw_cell k rfl hL (by omega) ?_)
              rw [hc]
              refine nm_e (br_f c1 (br_t c3.1 (br_f (nI_nle (by simp) (by simp; omega)) (br_t c4 ?_))))
              refine aw_end hR (fun f1 f2 f3 f4 a2 a3 a4 a5 a6 a7 a8 a9 a10 a11 a12 a13 k1 => ?_)
              refine br_t (nI_pos' (n := (T ++ S0).length) (by omega)) (nm_r (nI_pred T.length) (nm_r (nI_1 k) ?_))
              exact h2 S0 post f (by omega) hS H f1 f2 f3 f4 a2 a3 a4 a5 a6 a7 a8 a9 a10 a11 a12 a13 k1
          · obtain ⟨m', h1, h2⟩ := ih (k + 1) T s (by omega) (hT s (List.mem_cons_self ..)) (fun s hs => hT s (List.mem_cons_of_mem _ hs)) (by omega)
            refine ⟨m', h1, ?_⟩
            intro S0 post f hf hS H f1 f2 f3 f4 a2 a3 a4 a5 a6 a7 a8 a9 a10 a11 a12 a13 hR
            cases f with
            | zero => exact absurd hf (by omega)
            | succ f =>
              have hlen : (T ++ S0).length = T.length + S0.length := List.length_append
              refine pk_le e k (fun z => absurd z (by omega)) (fun _ => aw_cell k rfl hL (by omega) ?_)
              rw [hc]
              refine nm_e (br_f c1 (br_t c3.1 (br_f (nI_nle (by simp) (by simp; omega)) (br_f c4 ?_))))
              refine aw_undo hR (fun f1 f2 f3 f4 a2 a3 a4 a5 a6 a7 a8 a9 a10 a11 a12 a13 k1 => ?_)
              refine br_t (nI_pos' (n := (T ++ S0).length) (by omega)) (nm_r (nI_pred T.length) (nm_r (nI_1 k) ?_))
              exact h2 S0 post f (by omega) hS H f1 f2 f3 f4 a2 a3 a4 a5 a6 a7 a8 a9 a10 a11 a12 a13 k1
      · refine ⟨mC, hVC, ?_⟩
        intro S0 post f hf hS H f1 f2 f3 f4 a2 a3 a4 a5 a6 a7 a8 a9 a10 a11 a12 a13 hR
        cases f with
        | zero => exact absurd hf (by omega)
        | succ f =>
          have go := K113 S0 post f (by omega) hS H f1 f2 f3 f4 a2 a3 a4 a5 a6 a7 a8 a9 a10 a11 a12 a13 hR
          refine pk_le e k (fun z => absurd z (by omega)) (fun _ => aw_cell k rfl hL (by omega) ?_)
          rw [hc]
          refine nm_e (br_f c1 (br_c (fun z => br_t ?_ go) (fun _ => go)))
          have : T = [] := Classical.byContradiction (fun y => c3 ⟨z, y⟩)
          rw [this]
          decide
theorem aw_run {L : Nat} {xs : (Nat → Int32)} {m : (Nat → Int32)} (hL : L ≤ 260) (h : aw_V m) (k e : Nat) (hk : k ≤ e) (he : e < 1000) : ∃ m', aw_V m' ∧ ∀ (S : List (Nat → Int32)) (u : St1) (post : Int32 → St1 → Prop), S.length ≤ 2 → aw_R S m u → (∀ r, aw_K S m' (post r)) → wpL_run post L xs u (nI k) (nI e) := by
  obtain ⟨m', h1, h2⟩ := aw_run_l (xs := xs) hL he (e - k) k [] m (by omega) h (by simp) (by simp)
  refine ⟨m', h1, ?_⟩
  intro S u post hS hR H
  obtain ⟨f0, f1, f2, f3, f4, a1, a2, a3, a4, a5, a6, a7, a8, a9, a10, a11, a12, a13⟩ := u
  have hR' := hR
  obtain ⟨rfl, rfl, _⟩ := hR'
  exact ⟨e - k + 1, h2 S post _ (by omega) hS H f1 f2 f3 f4 a2 a3 a4 a5 a6 a7 a8 a9 a10 a11 a12 a13 hR⟩
end
section
/-! ===== Int32 by its bits (of the kit's BITS rows) ===== -/
def aw_bt (x : Int32) (i : Nat) : Bool := x.toBitVec.getLsbD i
theorem aw_b_ext {x y : Int32} (h : ∀ i, i < 32 → aw_bt x i = aw_bt y i) : x = y := Int32.toBitVec_inj.mp (BitVec.eq_of_getLsbD_eq (fun i hi => h i hi))
theorem aw_b_or (x y : Int32) (i : Nat) : aw_bt (x ||| y) i = (aw_bt x i || aw_bt y i) := by unfold aw_bt; rw [Int32.toBitVec_or, BitVec.getLsbD_or]
theorem aw_b_and (x y : Int32) (i : Nat) : aw_bt (x &&& y) i = (aw_bt x i && aw_bt y i) := by unfold aw_bt; rw [Int32.toBitVec_and, BitVec.getLsbD_and]
theorem aw_b_0 (i : Nat) : aw_bt 0 i = false := BitVec.getLsbD_zero
theorem aw_b_1 : ∀ i, i < 32 → aw_bt 1 i = decide (i = 0) := by decide +kernel
theorem aw_s_l : ∀ n, n < 32 → ((nI n &&& 31).toBitVec.smod 32).toNat = n := by decide +kernel
theorem aw_b_shl (n : Nat) (hn : n < 32) (x : Int32) {i : Nat} (hi : i < 32) : aw_bt (x <<< (nI n &&& 31)) i = (decide (n ≤ i) && aw_bt x (i - n)) := by
  unfold aw_bt
  rw [Int32.toBitVec_shiftLeft]
  show (x.toBitVec <<< ((nI n &&& 31).toBitVec.smod 32).toNat).getLsbD i = _
  rw [aw_s_l n hn, BitVec.getLsbD_shiftLeft]
  rcases Nat.lt_or_ge i n with h | h
  · simp [h, Nat.not_le.mpr h]
  · simp [hi, h, Nat.not_lt.mpr h]
theorem aw_b_sshr (n : Nat) (hn : n < 32) (x : Int32) {i : Nat} (hi : i < 32) : aw_bt (x >>> (nI n &&& 31)) i = if n + i < 32 then aw_bt x (n + i) else aw_bt x 31 := by
  unfold aw_bt
  rw [Int32.toBitVec_shiftRight]
  show (x.toBitVec.sshiftRight ((nI n &&& 31).toBitVec.smod 32).toNat).getLsbD i = _
  rw [aw_s_l n hn, BitVec.getLsbD_sshiftRight, BitVec.msb_eq_getLsbD_last]
  simp [hi]
theorem aw_bit (x : Int32) {i : Nat} (hi : i < 32) : (x >>> (nI i &&& 31)) &&& 1 = nI (if aw_bt x i then 1 else 0) := by
  apply aw_b_ext
  intro j hj
  rw [aw_b_and, aw_b_sshr i hi x hj, aw_b_1 j hj]
  by_cases e : j = 0
  · subst e
    rw [if_pos (by omega), Nat.add_zero]
    cases aw_bt x i with
    | true => exact (aw_b_1 0 (by omega)).symm
    | false => exact (aw_b_0 0).symm
  · rw [decide_eq_false e, Bool.and_false]
    cases aw_bt x i with
    | true => exact ((aw_b_1 j hj).trans (decide_eq_false e)).symm
    | false => exact (aw_b_0 j).symm
theorem aw_one (a : Nat) (ha : a < 32) {i : Nat} (hi : i < 32) : aw_bt ((1 : Int32) <<< (nI a &&& 31)) i = decide (i = a) := by
  rw [aw_b_shl a ha 1 hi, aw_b_1 _ (by omega)]
  by_cases e : i = a
  · subst e; simp
  · rw [decide_eq_false e]
    by_cases z : a ≤ i
    · rw [decide_eq_false (show ¬ i - a = 0 by omega), Bool.and_false]
    · rw [decide_eq_false z, Bool.false_and]
/-! ===== sums ===== -/
def aw_sm (f : Nat → Nat) : Nat → Nat
  | 0 => 0
  | n + 1 => aw_sm f n + f n
theorem aw_sm_congr {f g : Nat → Nat} : ∀ {n : Nat}, (∀ i, i < n → f i = g i) → aw_sm f n = aw_sm g n := by
  intro n
  induction n with
  | zero => intro _; rfl
  | succ n ih =>
    intro h
    show aw_sm f n + f n = aw_sm g n + g n
    rw [ih (fun i hi => h i (by omega)), h n (by omega)]
theorem aw_sm_add (f g : Nat → Nat) : ∀ n, aw_sm (fun i => f i + g i) n = aw_sm f n + aw_sm g n := by
  intro n
  induction n with
  | zero => rfl
  | succ n ih =>
    show aw_sm (fun i => f i + g i) n + (f n + g n) = aw_sm f n + f n + (aw_sm g n + g n)
    rw [ih]; omega
theorem aw_sm_0 (n : Nat) : aw_sm (fun _ => 0) n = 0 := by
  induction n with
  | zero => rfl
  | succ n ih => show aw_sm (fun _ => 0) n + 0 = 0; rw [ih]
theorem aw_sm_comm (g : Nat → Nat → Nat) (N : Nat) : ∀ n, aw_sm (fun i => aw_sm (g i) N) n = aw_sm (fun j => aw_sm (fun i => g i j) n) N := by
  intro n
  induction n with
  | zero => exact (aw_sm_0 N).symm
  | succ n ih =>
    show aw_sm (fun i => aw_sm (g i) N) n + aw_sm (g n) N = aw_sm (fun j => aw_sm (fun i => g i j) n + g n j) N
    rw [ih, aw_sm_add]
theorem aw_sm_one (k c : Nat) : ∀ n, aw_sm (fun i => if i = k then c else 0) n = if k < n then c else 0 := by
  intro n
  induction n with
  | zero => rw [if_neg (by omega)]; rfl
  | succ n ih =>
    show aw_sm (fun i => if i = k then c else 0) n + (if n = k then c else 0) = _
    rw [ih]
    by_cases z : n = k
    · rw [if_pos z, if_neg (by omega), if_pos (by omega)]; omega
    · rw [if_neg z]
      by_cases y : k < n
      · rw [if_pos y, if_pos (by omega)]; omega
      · rw [if_neg y, if_neg (by omega)]
theorem aw_sm_le {f : Nat → Nat} {c : Nat} : ∀ {n : Nat}, (∀ i, i < n → f i ≤ c) → aw_sm f n ≤ c * n := by
  intro n
  induction n with
  | zero => intro _; exact Nat.le_refl _
  | succ n ih =>
    intro h
    have h1 := ih (fun i hi => h i (by omega))
    have h2 := h n (by omega)
    show aw_sm f n + f n ≤ c * (n + 1)
    rw [Nat.mul_succ]
    omega
theorem aw_len_sm {N : Nat} : ∀ {l : List Nat}, l.Nodup → (∀ x ∈ l, x < N) → l.length = aw_sm (fun i => if i ∈ l then 1 else 0) N := by
  intro l
  induction l with
  | nil => intro _ _; simp [aw_sm_0]
  | cons a l ih =>
    intro h hl
    have h' := List.nodup_cons.mp h
    have e : aw_sm (fun i => if i ∈ a :: l then 1 else 0) N = aw_sm (fun i => (if i ∈ l then 1 else 0) + (if i = a then 1 else 0)) N := by
      refine aw_sm_congr (fun i _ => ?_)
      by_cases z : i = a
      · subst z
        rw [if_pos (List.mem_cons_self ..), if_neg h'.1, if_pos rfl]
      · rw [if_neg z]
        by_cases y : i ∈ l
        · rw [if_pos (List.mem_cons_of_mem _ y), if_pos y]
        · rw [if_neg (fun q => (List.mem_cons.mp q).elim z y), if_neg y]
    rw [e, aw_sm_add, ← ih h'.2 (fun x hx => hl x (List.mem_cons_of_mem _ hx)), aw_sm_one, if_pos (hl a (List.mem_cons_self ..)), List.length_cons]
/-! ===== ones ===== -/
def aw_on (x : Int32) : Nat := aw_sm (fun i => if aw_bt x i then 1 else 0) 24
theorem aw_ones_l {post : Int32 → Prop} {x : Int32} (H : post (nI (aw_on x))) : ∀ (d i f : Nat), i + d = 24 → d < f → wX_ones_4 post x f (nI (aw_sm (fun i => if aw_bt x i then 1 else 0) i)) (nI i) := by
  intro d
  induction d with
  | zero =>
    intro i f h1 h2
    cases f with
    | zero => exact absurd h2 (by omega)
    | succ f =>
      have e : i = 24 := by omega
      subst e
      exact br_t (by decide) H
  | succ d ih =>
    intro i f h1 h2
    cases f with
    | zero => exact absurd h2 (by omega)
    | succ f =>
      refine br_f (nI_ge (b := 24) (by omega) (by decide)) (nm_r (e' := nI (aw_sm (fun i => if aw_bt x i then 1 else 0) (i + 1))) ?_ (nm_r (nI_1 i) (ih (i + 1) f (by omega) (by omega))))
      rw [aw_bit x (by omega), nI_add]
      rfl
theorem aw_ones {post : Int32 → Prop} {x : Int32} {u : St2} (H : post (nI (aw_on x))) : wpX_ones post u x := ⟨25, aw_ones_l H 24 0 25 (by omega) (by omega)⟩
/-! ===== isType, isOf, along ===== -/
theorem aw_isType {post : Int32 → Prop} {u : St2} {x : Int32} (t : Nat) (hx : x = nI t) (ht : t ≤ 4) (H : post 1) : wpX_isType post u x := by
  subst hx
  exact br_f (nI_pos (by omega)) (br_f (nI_nlt (a := 4) (b := t) ht (by decide)) H)
def aw_T (m : (Nat → Int32)) (a t : Nat) : Prop := t = 4 ∨ m (103 + 10 * a) = nI t
theorem aw_T_dec (m : (Nat → Int32)) (a t : Nat) : aw_T m a t ∨ ¬ aw_T m a t := Classical.em _
theorem aw_isOf {post : Int32 → Prop} {u : St1} {m : (Nat → Int32)} {x y : Int32} (a t : Nat) (hx : x = nI a) (hy : y = nI t) (ha : a < 24) (ht : t ≤ 4) (hu : aw_m u = m) (H1 : aw_T m a t → post 1) (H0 : ¬ aw_T m a t → post 0) : wpX_isOf post u x y := by
  obtain ⟨f0, f1, f2, f3, f4, a1, a2, a3, a4, a5, a6, a7, a8, a9, a10, a11, a12, a13⟩ := u
  have hu' : a1 = m := hu
  subst hu' hx hy
  have e3 : nI (100 + 10 * a) + 3 = nI (103 + 10 * a) := aw_e2 (100 + 10 * a) 3 _ (by omega)
  unfold wpX_isOf
  refine pk_eq t 4 (fun z => H1 (Or.inl z)) (fun z => aw_ac a rfl ⟨pk_in (103 + 10 * a) 340 (by omega) e3, ?_⟩)
  rw [pk_cl (103 + 10 * a) e3]
  exact br_c (fun q => H1 (Or.inr q)) (fun q => H0 (fun p => p.elim z q))
noncomputable def aw_or (m : (Nat → Int32)) (t : Nat) : Int32 → List Nat → Int32
  | x, [] => x
  | x, a :: l => aw_or m t (x ||| (@ite _ (aw_T m a t) (Classical.propDecidable _) ((1 : Int32) <<< (nI a &&& 31)) 0)) l
theorem aw_or_bt {m : (Nat → Int32)} {t : Nat} {i : Nat} (hi : i < 32) : ∀ {l : List Nat} {x : Int32}, (∀ a ∈ l, a < 24) → (aw_bt (aw_or m t x l) i = true ↔ aw_bt x i = true ∨ (i ∈ l ∧ aw_T m i t)) := by
  intro l
  induction l with
  | nil =>
    intro x _
    show aw_bt x i = true ↔ _
    simp
  | cons a l ih =>
    intro x hl
    have ha := hl a (List.mem_cons_self ..)
    show aw_bt (aw_or m t _ l) i = true ↔ _
    rw [ih (fun b hb => hl b (List.mem_cons_of_mem _ hb)), aw_b_or, Bool.or_eq_true]
    have e : aw_bt (@ite _ (aw_T m a t) (Classical.propDecidable _) ((1 : Int32) <<< (nI a &&& 31)) 0) i = true ↔ (i = a ∧ aw_T m a t) := by
      by_cases c : aw_T m a t
      · rw [if_pos c, aw_one a (by omega) hi]
        simp [c]
      · rw [if_neg c, aw_b_0]
        simp [c]
    rw [e, List.mem_cons]
    constructor
    · rintro ((h | ⟨h1, h2⟩) | ⟨h1, h2⟩)
      · exact Or.inl h
      · exact Or.inr ⟨Or.inl h1, h1 ▸ h2⟩
      · exact Or.inr ⟨Or.inr h1, h2⟩
    · rintro (h | ⟨h1 | h1, h2⟩)
      · exact Or.inl (Or.inl h)
      · exact Or.inl (Or.inr ⟨h1, h1 ▸ h2⟩)
      · exact Or.inr ⟨h1, h2⟩
theorem aw_along_l {post : Int32 → Prop} {f0 f1 f2 f3 f4 : Int32} {a2 a3 a4 a5 a6 a7 a8 a9 a10 a11 a12 a13 : Nat → Int32} {m : (Nat → Int32)} {s t : Nat} (hs : s < 2) (ht : t ≤ 4) : ∀ (l : List Nat) (c k f : Nat) (x : Int32), aw_ch m (fun a => 105 + 10 * a + s) 24 c l → k + l.length ≤ 24 → l.length < f → post (aw_or m t x l) → wX_along_21 post (nI t) (nI s) f0 f1 f2 f3 f4 m a2 a3 a4 a5 a6 a7 a8 a9 a10 a11 a12 a13 f x (m c) (nI k) := by
  intro l
  induction l with
  | nil =>
    intro c k f x hc hk hf H
    cases f with
    | zero => exact absurd hf (by omega)
    | succ f =>
      have hm : m c = -1 := hc
      exact br_c (fun _ => H) (fun _ => br_t (by rw [hm]; decide) H)
  | cons a l ih =>
    intro c k f x hc hk hf H
    rw [List.length_cons] at hk hf
    cases f with
    | zero => exact absurd hf (by omega)
    | succ f =>
      have hm : m c = nI a := hc.1
      have ha : a < 24 := hc.2.1
      have e5 : nI (100 + 10 * a) + 5 + nI s = nI (105 + 10 * a + s) := aw_e3 (100 + 10 * a) 5 s _ (by omega)
      rw [hm]
      have key : ∀ z : Int32, post (aw_or m t (x ||| z) l) → wX_along_53 post (wX_along_21 post (nI t) (nI s) f0 f1 f2 f3 f4 m a2 a3 a4 a5 a6 a7 a8 a9 a10 a11 a12 a13 f) (nI t) (nI s) (nI a) (nI k) z x f0 f1 f2 f3 f4 m a2 a3 a4 a5 a6 a7 a8 a9 a10 a11 a12 a13 := by
        intro z Hz
        refine nm_e (aw_ac a rfl ⟨pk_in (105 + 10 * a + s) 340 (by omega) e5, nm_r (e' := m (105 + 10 * a + s)) (by rw [pk_cl (105 + 10 * a + s) e5]) (nm_r (nI_1 k) ?_)⟩)
        exact ih _ (k + 1) f _ hc.2.2 (by omega) (by omega) Hz
      refine br_f (nI_ge (b := 24) (by omega) (by decide)) (br_f (nI_pos (by omega)) ?_)
      have H' : post (aw_or m t (x ||| (@ite _ (aw_T m a t) (Classical.propDecidable _) ((1 : Int32) <<< (nI a &&& 31)) 0)) l) := H
      refine aw_isOf (m := m) a t rfl rfl ha ht rfl (fun z => ?_) (fun z => ?_)
      · rw [if_pos z] at H'
        exact br_f (by decide) (key _ H')
      · rw [if_neg z] at H'
        exact br_t rfl (key _ H')
theorem aw_along {post : Int32 → Prop} {u : St1} {m : (Nat → Int32)} {FN FA : List Nat} {C : Nat → Nat → List Nat} {x y z : Int32} (n t s : Nat) (hx : x = nI n) (hy : y = nI t) (hz : z = nI s) (hJ : aw_J m FN FA C) (hn : aw_U FN n) (ht : t ≤ 4) (hs : s < 2) (hu : aw_m u = m) (H : post (aw_or m t 0 (C s n))) : wpX_along post u x y z := by
  obtain ⟨f0, f1, f2, f3, f4, a1, a2, a3, a4, a5, a6, a7, a8, a9, a10, a11, a12, a13⟩ := u
  have hu' : a1 = m := hu
  subst hu' hx hy hz
  have hn12 := hn.1
  have e3 : nI (16 + 7 * n) + 3 + nI s = nI (19 + 7 * n + s) := aw_e3 (16 + 7 * n) 3 s _ (by omega)
  obtain ⟨h1, h2, h3⟩ := hJ.2.2.2.2.2.2.1 n hn s hs
  have hp := aw_pig h2 (aw_dl_lt h1)
  unfold wpX_along
  refine aw_na n rfl ?_
  refine ⟨pk_in (19 + 7 * n + s) 340 (by omega) e3, nm_r (e' := a1 (19 + 7 * n + s)) (by rw [pk_cl (19 + 7 * n + s) e3]) ⟨25, ?_⟩⟩
  exact aw_along_l hs ht (C s n) _ 0 25 0 (aw_dl_ch h1) (by omega) (by omega) H
/-! ===== degree ===== -/
theorem aw_arrowsOf {post : Int32 → Prop} {u : St1} {m : (Nat → Int32)} {FN FA : List Nat} {C : Nat → Nat → List Nat} {x y z : Int32} (n t w : Nat) (hx : x = nI n) (hy : y = nI t) (hz : z = nI w) (hJ : aw_J m FN FA C) (hn : aw_U FN n) (ht : t ≤ 4) (hw : w < 3) (hu : aw_m u = m)
    (H : post (if w = 0 then aw_or m t 0 (C 0 n) else if w = 1 then 0 ||| aw_or m t 0 (C 1 n) else aw_or m t 0 (C 0 n) ||| aw_or m t 0 (C 1 n))) : wpX_arrowsOf post u x y z := by
  obtain ⟨f0, f1, f2, f3, f4, a1, a2, a3, a4, a5, a6, a7, a8, a9, a10, a11, a12, a13⟩ := u
  have hu' : a1 = m := hu
  subst hu' hx hy hz
  unfold wpX_arrowsOf
  refine pk_eq w 1 (fun e => ?_) (fun e => ?_)
  · refine pk_eq w 0 (fun e2 => absurd e2 (by omega)) (fun e2 => aw_along n t 1 rfl rfl rfl hJ hn ht (by omega) rfl ?_)
    rw [if_neg e2, if_pos e] at H
    exact H
  · refine aw_along n t 0 rfl rfl rfl hJ hn ht (by omega) rfl ?_
    refine pk_eq w 0 (fun e2 => ?_) (fun e2 => aw_along n t 1 rfl rfl rfl hJ hn ht (by omega) rfl ?_)
    · rw [if_pos e2] at H
      exact H
    · rw [if_neg e2, if_neg e] at H
      exact H
theorem aw_degree {post : Int32 → Prop} {u : St1} {m : (Nat → Int32)} {FN FA : List Nat} {C : Nat → Nat → List Nat} {x y z : Int32} (n t w : Nat) (hx : x = nI n) (hy : y = nI t) (hz : z = nI w) (hJ : aw_J m FN FA C) (hn12 : n < 12) (ht : t ≤ 4) (hw : w < 3) (hu : aw_m u = m)
    (H1 : aw_U FN n → post (nI (aw_on (if w = 0 then aw_or m t 0 (C 0 n) else if w = 1 then 0 ||| aw_or m t 0 (C 1 n) else aw_or m t 0 (C 0 n) ||| aw_or m t 0 (C 1 n))))) (H0 : n ∈ FN → post (-1)) : wpX_degree post u x y z := by
  obtain ⟨f0, f1, f2, f3, f4, a1, a2, a3, a4, a5, a6, a7, a8, a9, a10, a11, a12, a13⟩ := u
  have hu' : a1 = m := hu
  subst hu' hx hy hz
  unfold wpX_degree
  refine aw_isNodeU n rfl hn12 rfl hJ (fun hn => br_f (by decide) (aw_isType t rfl ht (br_f (by decide) (br_f (nI_pos (by omega)) (br_t (nI_le (b := 2) (by omega) (by decide)) ?_))))) (fun hn => br_t rfl (H0 hn))
  exact aw_arrowsOf n t w rfl rfl rfl hJ hn ht hw rfl (aw_ones (H1 hn))
/-- how many arrows of a type a node's chain holds -/
noncomputable def aw_dg (m : (Nat → Int32)) (C : Nat → Nat → List Nat) (s n t : Nat) : Nat := aw_sm (fun i => @ite _ (i ∈ C s n ∧ aw_T m i t) (Classical.propDecidable _) 1 0) 24
theorem aw_on_dg {m : (Nat → Int32)} {FN FA : List Nat} {C : Nat → Nat → List Nat} {s n t : Nat} (hJ : aw_J m FN FA C) (hn : aw_U FN n) (hs : s < 2) : aw_on (aw_or m t 0 (C s n)) = aw_dg m C s n t := by
  have hl := aw_dl_lt (hJ.2.2.2.2.2.2.1 n hn s hs).1
  refine aw_sm_congr (fun i hi => ?_)
  have h := aw_or_bt (m := m) (t := t) (i := i) (by omega) (x := 0) hl
  rw [aw_b_0] at h
  by_cases c : i ∈ C s n ∧ aw_T m i t
  · rw [if_pos c, if_pos (h.mpr (Or.inr c))]
  · rw [if_neg c, if_neg (fun z => (h.mp z).elim (fun q => by cases q) c)]
theorem aw_or0 (x : Int32) : 0 ||| x = x := by
  apply aw_b_ext
  intro i _
  rw [aw_b_or, aw_b_0, Bool.false_or]
theorem aw_degree01 {post : Int32 → Prop} {u : St1} {m : (Nat → Int32)} {FN FA : List Nat} {C : Nat → Nat → List Nat} {x y z : Int32} (n t s : Nat) (hx : x = nI n) (hy : y = nI t) (hz : z = nI s) (hJ : aw_J m FN FA C) (hn : aw_U FN n) (ht : t ≤ 4) (hs : s < 2) (hu : aw_m u = m)
    (H1 : post (nI (aw_dg m C s n t))) : wpX_degree post u x y z := by
  refine aw_degree n t s hx hy hz hJ hn.1 ht (by omega) hu (fun _ => ?_) (fun h => absurd h hn.2)
  rw [← aw_on_dg hJ hn hs] at H1
  rcases Nat.lt_or_ge s 1 with q | q
  · obtain rfl : s = 0 := by omega
    rw [if_pos rfl]
    exact H1
  · obtain rfl : s = 1 := by omega
    rw [if_neg (by omega), if_pos rfl, aw_or0]
    exact H1
end
section
/-! ===== labels, value, look ===== -/
theorem aw_labels {post : Int32 → Prop} {u : St1} {m : (Nat → Int32)} {FN FA : List Nat} {C : Nat → Nat → List Nat} {x : Int32} (n : Nat) (hx : x = nI n) (hn : n < 12) (hu : aw_m u = m) (hJ : aw_J m FN FA C) (H1 : aw_U FN n → post (m (17 + 7 * n))) (H0 : n ∈ FN → post (-1)) : wpX_labels post u x := by
  obtain ⟨f0, f1, f2, f3, f4, a1, a2, a3, a4, a5, a6, a7, a8, a9, a10, a11, a12, a13⟩ := u
  have hu' : a1 = m := hu
  subst hu' hx
  have e1 : nI (16 + 7 * n) + 1 = nI (17 + 7 * n) := aw_e2 (16 + 7 * n) 1 _ (by omega)
  unfold wpX_labels
  refine aw_isNodeU n rfl hn rfl hJ (fun h => br_f (by decide) (aw_na n rfl ⟨pk_in (17 + 7 * n) 340 (by omega) e1, ?_⟩)) (fun h => br_t rfl (H0 h))
  rw [pk_cl (17 + 7 * n) e1]
  exact H1 h
theorem aw_labelsE {m : (Nat → Int32)} {n : Nat} (hV : aw_V m) (hn : n < 12) : ∃ r, ∀ (u : St1) (post : Int32 → Prop), aw_m u = m → post r → wpX_labels post u (nI n) := by
  obtain ⟨FN, FA, C, RW, hJ, hR, hU⟩ := hV
  by_cases c : n ∈ FN
  · exact ⟨-1, fun u post hu H => aw_labels n rfl hn hu hJ (fun z => absurd c z.2) (fun _ => H)⟩
  · exact ⟨m (17 + 7 * n), fun u post hu H => aw_labels n rfl hn hu hJ (fun _ => H) (fun z => absurd z c)⟩
theorem aw_valueE {m : (Nat → Int32)} {n : Nat} (hV : aw_V m) (hn : n < 12) : ∃ r, ∀ (u : St1) (post : Int32 → Prop), aw_m u = m → post r → wpX_value post u (nI n) := by
  obtain ⟨FN, FA, C, RW, hJ, hR, hU⟩ := hV
  have e1 : nI (16 + 7 * n) + 2 = nI (18 + 7 * n) := aw_e2 (16 + 7 * n) 2 _ (by omega)
  by_cases c : n ∈ FN
  · refine ⟨0, fun u post hu H => ?_⟩
    obtain ⟨f0, f1, f2, f3, f4, a1, a2, a3, a4, a5, a6, a7, a8, a9, a10, a11, a12, a13⟩ := u
    unfold wpX_value
    exact aw_isNodeU n rfl hn hu hJ (fun z => absurd c z.2) (fun _ => br_t rfl H)
  · refine ⟨m (18 + 7 * n), fun u post hu H => ?_⟩
    obtain ⟨f0, f1, f2, f3, f4, a1, a2, a3, a4, a5, a6, a7, a8, a9, a10, a11, a12, a13⟩ := u
    have hu' : a1 = m := hu
    subst hu'
    unfold wpX_value
    refine aw_isNodeU n rfl hn hu hJ (fun _ => br_f (by decide) (aw_na n rfl ⟨pk_in (18 + 7 * n) 340 (by omega) e1, ?_⟩)) (fun z => absurd z c)
    rw [pk_cl (18 + 7 * n) e1]
    exact H
theorem aw_look {post : Int32 → Prop} {u : St1} {m : (Nat → Int32)} {FN FA : List Nat} {C : Nat → Nat → List Nat} {x y : Int32} (a w : Nat) (hx : x = nI a) (hy : y = nI w) (ha : a < 24) (hw : w < 4) (hu : aw_m u = m) (hJ : aw_J m FN FA C) (H1 : a ∉ FA → post (m (101 + 10 * a + w))) (H0 : a ∈ FA → post (-1)) : wpX_look post u x y := by
  obtain ⟨f0, f1, f2, f3, f4, a1, a2, a3, a4, a5, a6, a7, a8, a9, a10, a11, a12, a13⟩ := u
  have hu' : a1 = m := hu
  subst hu' hx hy
  have e1 : nI (100 + 10 * a) + 1 + nI w = nI (101 + 10 * a + w) := aw_e3 (100 + 10 * a) 1 w _ (by omega)
  unfold wpX_look
  refine aw_isArrowU a rfl ha rfl hJ (fun h => br_f (by decide) (br_f (nI_pos (by omega)) (br_t (nI_le (b := 3) (by omega) (by decide)) (aw_ac a rfl ⟨pk_in (101 + 10 * a + w) 340 (by omega) e1, ?_⟩)))) (fun h => br_t rfl (H0 h))
  rw [pk_cl (101 + 10 * a + w) e1]
  exact H1 h
theorem aw_lookE {m : (Nat → Int32)} {a w : Nat} (hV : aw_V m) (ha : a < 24) (hw : w < 4) : ∃ r, ∀ (u : St1) (post : Int32 → Prop), aw_m u = m → post r → wpX_look post u (nI a) (nI w) := by
  obtain ⟨FN, FA, C, RW, hJ, hR, hU⟩ := hV
  by_cases c : a ∈ FA
  · exact ⟨-1, fun u post hu H => aw_look a w rfl rfl ha hw hu hJ (fun z => absurd c z) (fun _ => H)⟩
  · exact ⟨m (101 + 10 * a + w), fun u post hu H => aw_look a w rfl rfl ha hw hu hJ (fun _ => H) (fun z => absurd z c)⟩
theorem aw_degreeE {m : (Nat → Int32)} {n w : Nat} (hV : aw_V m) (hn : n < 12) (hw : w < 3) : ∃ r, ∀ (u : St1) (post : Int32 → Prop), aw_m u = m → post r → wpX_degree post u (nI n) 4 (nI w) := by
  obtain ⟨FN, FA, C, RW, hJ, hR, hU⟩ := hV
  by_cases c : n ∈ FN
  · exact ⟨-1, fun u post hu H => aw_degree n 4 w rfl rfl rfl hJ hn (by omega) hw hu (fun z => absurd c z.2) (fun _ => H)⟩
  · exact ⟨_, fun u post hu H => aw_degree n 4 w rfl rfl rfl hJ hn (by omega) hw hu (fun _ => H) (fun z => absurd z c)⟩
/-! ===== arrowAt ===== -/
theorem aw_arrowAt_l {x : Int32} {m : (Nat → Int32)} : ∀ (d i : Nat) (left : Int32), i + d = 24 → ∃ r, ∀ (post : Int32 → Prop), ∀ (f0 f1 f2 f3 f4 : Int32) (a2 a3 a4 a5 a6 a7 a8 a9 a10 a11 a12 a13 : Nat → Int32), ∀ f, d < f → post r → wX_arrowAt_66 post x f0 f1 f2 f3 f4 m a2 a3 a4 a5 a6 a7 a8 a9 a10 a11 a12 a13 f left (nI i) := by
  intro d
  induction d with
  | zero =>
    intro i left h
    refine ⟨-2, fun post f0 f1 f2 f3 f4 a2 a3 a4 a5 a6 a7 a8 a9 a10 a11 a12 a13 f hf H => ?_⟩
    cases f with
    | zero => exact absurd hf (by omega)
    | succ f =>
      have e : i = 24 := by omega
      subst e
      exact br_t (by decide) H
  | succ d ih =>
    intro i left h
    obtain ⟨r, hr⟩ := ih (i + 1) (left - ((x >>> (nI i &&& 31)) &&& 1)) (by omega)
    by_cases c : (x >>> (nI i &&& 31)) &&& 1 = 1 ∧ left = 0
    · refine ⟨nI i, fun post f0 f1 f2 f3 f4 a2 a3 a4 a5 a6 a7 a8 a9 a10 a11 a12 a13 f hf H => ?_⟩
      cases f with
      | zero => exact absurd hf (by omega)
      | succ f => exact br_f (nI_ge (b := 24) (by omega) (by decide)) (br_t c.1 (br_t c.2 H))
    · refine ⟨r, fun post f0 f1 f2 f3 f4 a2 a3 a4 a5 a6 a7 a8 a9 a10 a11 a12 a13 f hf H => ?_⟩
      cases f with
      | zero => exact absurd hf (by omega)
      | succ f =>
        have go := hr post f0 f1 f2 f3 f4 a2 a3 a4 a5 a6 a7 a8 a9 a10 a11 a12 a13 f (by omega) H
        exact br_f (nI_ge (b := 24) (by omega) (by decide)) (br_c (fun z => br_f (fun y => c ⟨z, y⟩) (nm_e (nm_r (nI_1 i) go))) (fun _ => nm_e (nm_r (nI_1 i) go)))
theorem aw_arrowAtE {m : (Nat → Int32)} {n w : Nat} {y : Int32} (hV : aw_V m) (hn : n < 12) (hw : w < 3) : ∃ r, ∀ (u : St1) (post : Int32 → Prop), aw_m u = m → post r → wpX_arrowAt post u (16 * (12 * nI w + nI n) + 4) y := by
  obtain ⟨FN, FA, C, RW, hJ, hR, hU⟩ := hV
  have e0 : 16 * (12 * nI w + nI n) + 4 = nI (16 * (12 * w + n) + 4) := by
    show nI 16 * (nI 12 * nI w + nI n) + nI 4 = _
    rw [pk_mul, nI_add, pk_mul, nI_add]
  have e1 : nI (16 * (12 * w + n) + 4) / 16 = nI (12 * w + n) := (pk_div (a := 16 * (12 * w + n) + 4) (d := 16) (by omega) (by omega) (by omega)).trans (congrArg nI (by omega))
  have e2 : nI (16 * (12 * w + n) + 4) / 16 - nI (16 * (12 * w + n) + 4) / 16 / 12 * 12 = nI n := by
    rw [e1]
    exact (pk_rem (a := 12 * w + n) (d := 12) (by omega) (by omega) (by omega)).trans (congrArg nI (by omega))
  have e3 : nI (16 * (12 * w + n) + 4) / 16 / 12 = nI w := by
    rw [e1]
    exact (pk_div (a := 12 * w + n) (d := 12) (by omega) (by omega) (by omega)).trans (congrArg nI (by omega))
  have e4 : nI (16 * (12 * w + n) + 4) - nI (16 * (12 * w + n) + 4) / 16 * 16 = nI 4 := (pk_rem (a := 16 * (12 * w + n) + 4) (d := 16) (by omega) (by omega) (by omega)).trans (congrArg nI (by omega))
  rw [e0]
  by_cases c : n ∈ FN
  · refine ⟨-1, fun u post hu H => ?_⟩
    obtain ⟨f0, f1, f2, f3, f4, a1, a2, a3, a4, a5, a6, a7, a8, a9, a10, a11, a12, a13⟩ := u
    unfold wpX_arrowAt
    refine ⟨by decide, by decide, nm_r e2 ⟨by decide, by decide, nm_r e3 (br_f (nI_pos (by omega)) ?_)⟩⟩
    exact aw_isNodeU n rfl hn hu hJ (fun z => absurd c z.2) (fun _ => br_t rfl H)
  · obtain ⟨r, hr⟩ := aw_arrowAt_l (x := (if w = 0 then aw_or m 4 0 (C 0 n) else if w = 1 then 0 ||| aw_or m 4 0 (C 1 n) else aw_or m 4 0 (C 0 n) ||| aw_or m 4 0 (C 1 n))) (m := m) 24 0 y (by omega)
    refine ⟨r, fun u post hu H => ?_⟩
    obtain ⟨f0, f1, f2, f3, f4, a1, a2, a3, a4, a5, a6, a7, a8, a9, a10, a11, a12, a13⟩ := u
    have hu' : a1 = m := hu
    subst hu'
    unfold wpX_arrowAt
    refine ⟨by decide, by decide, nm_r e2 ⟨by decide, by decide, nm_r e3 (br_f (nI_pos (by omega)) ?_)⟩⟩
    refine aw_isNodeU n rfl hn hu hJ (fun hn => br_f (by decide) ⟨by decide, aw_isType 4 e4 (by omega) (br_f (by decide) (br_t (nI_le (b := 2) (by omega) (by decide)) ⟨by decide, ?_⟩))⟩) (fun z => absurd z c)
    exact aw_arrowsOf n 4 w rfl e4 rfl hJ hn (by omega) hw rfl ⟨25, hr post f0 f1 f2 f3 f4 a2 a3 a4 a5 a6 a7 a8 a9 a10 a11 a12 a13 25 (by omega) H⟩
/-! ===== chains ===== -/
def aw_is (g : Nat → Int32) : Nat → Int32
  | 0 => 0
  | k + 1 => aw_is g k + g k
noncomputable def aw_cg (m : (Nat → Int32)) (FN : List Nat) (C : Nat → Nat → List Nat) (t v lb b : Nat) : Int32 :=
  @ite _ (b ∉ FN ∧ m (17 + 7 * b) &&& nI lb = nI lb) (Classical.propDecidable _) (nI (aw_on (aw_or m t 0 (C 1 b))) * nI (aw_on (aw_or m v 0 (C 0 b))) - nI (aw_on (aw_or m t 0 (C 1 b) &&& aw_or m v 0 (C 0 b)))) 0
theorem aw_chains_l {post : Int32 → Prop} {f0 f1 f2 f3 f4 : Int32} {a2 a3 a4 a5 a6 a7 a8 a9 a10 a11 a12 a13 : Nat → Int32} {m : (Nat → Int32)} {FN FA : List Nat} {C : Nat → Nat → List Nat} {t v lb : Nat} (hJ : aw_J m FN FA C) (ht : t ≤ 4) (hv : v ≤ 4) (H : post (aw_is (aw_cg m FN C t v lb) 12)) :
    ∀ (d b f : Nat), b + d = 12 → d < f → wX_chains_32 post (nI t) (nI v) (nI lb) f0 f1 f2 f3 f4 m a2 a3 a4 a5 a6 a7 a8 a9 a10 a11 a12 a13 f (aw_is (aw_cg m FN C t v lb) b) (nI b) := by
  intro d
  induction d with
  | zero =>
    intro b f h hf
    cases f with
    | zero => exact absurd hf (by omega)
    | succ f =>
      have e : b = 12 := by omega
      subst e
      exact br_t (by decide) H
  | succ d ih =>
    intro b f h hf
    cases f with
    | zero => exact absurd hf (by omega)
    | succ f =>
      have hb : b < 12 := by omega
      have e1 : nI (16 + 7 * b) + 1 = nI (17 + 7 * b) := aw_e2 (16 + 7 * b) 1 _ (by omega)
      have go := ih (b + 1) f (by omega) (by omega)
      have no : ¬ (b ∉ FN ∧ m (17 + 7 * b) &&& nI lb = nI lb) → aw_is (aw_cg m FN C t v lb) (b + 1) = aw_is (aw_cg m FN C t v lb) b := by
        intro z
        show aw_is (aw_cg m FN C t v lb) b + aw_cg m FN C t v lb b = _
        unfold aw_cg
        rw [if_neg z, Int32.add_zero]
      refine br_f (nI_ge (b := 12) (by omega) (by decide)) ?_
      refine aw_isNodeU b rfl hb rfl hJ (fun hU => br_f (by decide) (aw_na b rfl ⟨pk_in (17 + 7 * b) 340 (by omega) e1, ?_⟩)) (fun z => br_t rfl (nm_r (nI_1 b) ?_))
      · rw [pk_cl (17 + 7 * b) e1]
        refine br_c (fun c => ?_) (fun c => nm_r (nI_1 b) ?_)
        · refine aw_along (m := m) b t 1 rfl rfl rfl hJ hU ht (by omega) rfl ?_
          refine aw_along (m := m) b v 0 rfl rfl rfl hJ hU hv (by omega) rfl ?_
          refine aw_ones (aw_ones (aw_ones (nm_r (e' := aw_is (aw_cg m FN C t v lb) (b + 1)) ?_ (nm_r (nI_1 b) go))))
          show _ = aw_is (aw_cg m FN C t v lb) b + aw_cg m FN C t v lb b
          conv => rhs; rhs; unfold aw_cg
          rw [if_pos ⟨hU.2, c⟩]
        · rw [no (fun q => c q.2)] at go
          exact go
      · rw [no (fun q => q.1 z)] at go
        exact go
theorem aw_chains {post : Int32 → Prop} {u : St1} {m : (Nat → Int32)} {FN FA : List Nat} {C : Nat → Nat → List Nat} {x y z : Int32} (t v lb : Nat) (hx : x = nI t) (hy : y = nI v) (hz : z = nI lb) (hJ : aw_J m FN FA C) (ht : t ≤ 4) (hv : v ≤ 4) (hl : lb < 8) (hu : aw_m u = m) (H : post (aw_is (aw_cg m FN C t v lb) 12)) : wpX_chains post u x y z := by
  obtain ⟨f0, f1, f2, f3, f4, a1, a2, a3, a4, a5, a6, a7, a8, a9, a10, a11, a12, a13⟩ := u
  have hu' : a1 = m := hu
  subst hu' hx hy hz
  unfold wpX_chains
  refine aw_isType t rfl ht (br_f (by decide) (aw_isType v rfl hv (br_f (by decide) (br_f (nI_pos (by omega)) (br_t (nI_le (b := 7) (by omega) (by decide)) ⟨13, ?_⟩)))))
  exact aw_chains_l hJ ht hv H 12 0 13 (by omega) (by omega)
theorem aw_chainsE {m : (Nat → Int32)} (hV : aw_V m) : ∃ r, ∀ (u : St1) (post : Int32 → Prop), aw_m u = m → post r → wpX_chains post u 4 1 2 := by
  obtain ⟨FN, FA, C, RW, hJ, hR, hU⟩ := hV
  exact ⟨_, fun u post hu H => aw_chains 4 1 2 rfl rfl rfl hJ (by omega) (by omega) (by omega) hu H⟩
/-! ===== digest ===== -/
theorem aw_digest_62 {m : (Nat → Int32)} : ∀ (d i : Nat) (x : Int32), i + d = 24 → ∃ r, ∀ (post : Int32 → Prop), ∀ (f0 f1 f2 f3 f4 : Int32) (a2 a3 a4 a5 a6 a7 a8 a9 a10 a11 a12 a13 : Nat → Int32), ∀ f, d < f → post r → wX_digest_62 post f0 f1 f2 f3 f4 m a2 a3 a4 a5 a6 a7 a8 a9 a10 a11 a12 a13 f x (nI i) := by
  intro d
  induction d with
  | zero =>
    intro i x h
    refine ⟨x, fun post f0 f1 f2 f3 f4 a2 a3 a4 a5 a6 a7 a8 a9 a10 a11 a12 a13 f hf H => ?_⟩
    cases f with
    | zero => exact absurd hf (by omega)
    | succ f =>
      have e : i = 24 := by omega
      subst e
      exact br_t (by decide) H
  | succ d ih =>
    intro i x h
    have hi : i < 24 := by omega
    by_cases c : m (100 + 10 * i) = 1
    · obtain ⟨r, hr⟩ := ih (i + 1) (x + ((nI i + 13) * ((((m (nI (100 + 10 * i) + 1).toNatClampNeg) + (5 * (m ((nI (100 + 10 * i) + 1) + 1).toNatClampNeg))) + (7 * (m (nI (100 + 10 * i) + 3).toNatClampNeg))) + (11 * (m (nI (100 + 10 * i) + 4).toNatClampNeg))))) (by omega)
      refine ⟨r, fun post f0 f1 f2 f3 f4 a2 a3 a4 a5 a6 a7 a8 a9 a10 a11 a12 a13 f hf H => ?_⟩
      cases f with
      | zero => exact absurd hf (by omega)
      | succ f =>
        refine br_f (nI_ge (b := 24) hi (by decide)) (aw_ac i rfl (aw_isArrow (m := m) i rfl hi rfl (fun _ => br_f (by decide) ?_) (fun z => absurd c z)))
        refine ⟨pk_in (101 + 10 * i) 340 (by omega) (aw_e2 (100 + 10 * i) 1 _ (by omega)), pk_in (102 + 10 * i) 340 (by omega) (aw_e3 (100 + 10 * i) 1 1 _ (by omega)), pk_in (103 + 10 * i) 340 (by omega) (aw_e2 (100 + 10 * i) 3 _ (by omega)), pk_in (104 + 10 * i) 340 (by omega) (aw_e2 (100 + 10 * i) 4 _ (by omega)), nm_e (nm_r (nI_1 i) ?_)⟩
        exact hr post f0 f1 f2 f3 f4 a2 a3 a4 a5 a6 a7 a8 a9 a10 a11 a12 a13 f (by omega) H
    · obtain ⟨r, hr⟩ := ih (i + 1) (x + 0) (by omega)
      refine ⟨r, fun post f0 f1 f2 f3 f4 a2 a3 a4 a5 a6 a7 a8 a9 a10 a11 a12 a13 f hf H => ?_⟩
      cases f with
      | zero => exact absurd hf (by omega)
      | succ f =>
        refine br_f (nI_ge (b := 24) hi (by decide)) (aw_ac i rfl (aw_isArrow (m := m) i rfl hi rfl (fun z => absurd z c) (fun _ => br_t rfl (nm_e (nm_r (nI_1 i) ?_)))))
        exact hr post f0 f1 f2 f3 f4 a2 a3 a4 a5 a6 a7 a8 a9 a10 a11 a12 a13 f (by omega) H
theorem aw_digest_4 {m : (Nat → Int32)} : ∀ (d i : Nat) (x : Int32), i + d = 12 → ∃ r, ∀ (post : Int32 → Prop), ∀ (f0 f1 f2 f3 f4 : Int32) (a2 a3 a4 a5 a6 a7 a8 a9 a10 a11 a12 a13 : Nat → Int32), ∀ f, d < f → post r → wX_digest_4 post f0 f1 f2 f3 f4 m a2 a3 a4 a5 a6 a7 a8 a9 a10 a11 a12 a13 f x (nI i) := by
  intro d
  induction d with
  | zero =>
    intro i x h
    obtain ⟨r, hr⟩ := aw_digest_62 (m := m) 24 0 x (by omega)
    refine ⟨r, fun post f0 f1 f2 f3 f4 a2 a3 a4 a5 a6 a7 a8 a9 a10 a11 a12 a13 f hf H => ?_⟩
    cases f with
    | zero => exact absurd hf (by omega)
    | succ f =>
      have e : i = 12 := by omega
      subst e
      exact br_t (by decide) ⟨25, hr post f0 f1 f2 f3 f4 a2 a3 a4 a5 a6 a7 a8 a9 a10 a11 a12 a13 25 (by omega) H⟩
  | succ d ih =>
    intro i x h
    have hi : i < 12 := by omega
    by_cases c : m (16 + 7 * i) = 1
    · obtain ⟨r, hr⟩ := ih (i + 1) (x + ((nI i + 1) * ((m (nI (16 + 7 * i) + 1).toNatClampNeg) + (3 * (m (nI (16 + 7 * i) + 2).toNatClampNeg))))) (by omega)
      refine ⟨r, fun post f0 f1 f2 f3 f4 a2 a3 a4 a5 a6 a7 a8 a9 a10 a11 a12 a13 f hf H => ?_⟩
      cases f with
      | zero => exact absurd hf (by omega)
      | succ f =>
        refine br_f (nI_ge (b := 12) hi (by decide)) (aw_isNode (m := m) i rfl hi rfl (fun _ => br_f (by decide) (aw_na i rfl ?_)) (fun z => absurd c z))
        refine ⟨pk_in (17 + 7 * i) 340 (by omega) (aw_e2 (16 + 7 * i) 1 _ (by omega)), aw_na i rfl ⟨pk_in (18 + 7 * i) 340 (by omega) (aw_e2 (16 + 7 * i) 2 _ (by omega)), nm_e (nm_r (nI_1 i) ?_)⟩⟩
        exact hr post f0 f1 f2 f3 f4 a2 a3 a4 a5 a6 a7 a8 a9 a10 a11 a12 a13 f (by omega) H
    · obtain ⟨r, hr⟩ := ih (i + 1) (x + 0) (by omega)
      refine ⟨r, fun post f0 f1 f2 f3 f4 a2 a3 a4 a5 a6 a7 a8 a9 a10 a11 a12 a13 f hf H => ?_⟩
      cases f with
      | zero => exact absurd hf (by omega)
      | succ f =>
        refine br_f (nI_ge (b := 12) hi (by decide)) (aw_isNode (m := m) i rfl hi rfl (fun z => absurd z c) (fun _ => br_t rfl (nm_e (nm_r (nI_1 i) ?_))))
        exact hr post f0 f1 f2 f3 f4 a2 a3 a4 a5 a6 a7 a8 a9 a10 a11 a12 a13 f (by omega) H
theorem aw_digestE (m : (Nat → Int32)) : ∃ r, ∀ (u : St1) (post : Int32 → Prop), aw_m u = m → post r → wpX_digest post u := by
  obtain ⟨r, hr⟩ := aw_digest_4 (m := m) 12 0 0 (by omega)
  refine ⟨r, fun u post hu H => ?_⟩
  obtain ⟨f0, f1, f2, f3, f4, a1, a2, a3, a4, a5, a6, a7, a8, a9, a10, a11, a12, a13⟩ := u
  have hu' : a1 = m := hu
  subst hu'
  exact ⟨13, hr post f0 f1 f2 f3 f4 a2 a3 a4 a5 a6 a7 a8 a9 a10 a11 a12 a13 13 (by omega) H⟩
/-! ===== find ===== -/
theorem aw_find_l {m : (Nat → Int32)} {RW : List Nat} {v x : Int32} (hR : aw_row m RW) : ∀ (d k : Nat), k + d = RW.length → ∃ r, ∀ (post : Int32 → Prop), ∀ (f0 f1 f2 f3 f4 : Int32) (a2 a3 a4 a5 a6 a7 a8 a9 a10 a11 a12 a13 : Nat → Int32), ∀ f, d < f → post r → wX_find_27 post x v (nI RW.length) f0 f1 f2 f3 f4 m a2 a3 a4 a5 a6 a7 a8 a9 a10 a11 a12 a13 f (nI k) := by
  have hle := aw_row_le hR
  intro d
  induction d with
  | zero =>
    intro k h
    refine ⟨-2, fun post f0 f1 f2 f3 f4 a2 a3 a4 a5 a6 a7 a8 a9 a10 a11 a12 a13 f hf H => ?_⟩
    cases f with
    | zero => exact absurd hf (by omega)
    | succ f => exact pk_le RW.length k (fun _ => H) (fun z => absurd z (by omega))
  | succ d ih =>
    intro k h
    obtain ⟨r, hr⟩ := ih (k + 1) (by omega)
    have hk : k < RW.length := by omega
    have hg := aw_ar_get hR.2.1 hk
    have hj : RW[k] < 12 := hR.2.2.2 _ (List.getElem_mem hk)
    generalize RW[k] = j at hg hj
    have e0 : (4 : Int32) + nI k = nI (4 + k) := nI_add 4 k
    have e1 : nI (16 + 7 * j) + 1 = nI (17 + 7 * j) := aw_e2 (16 + 7 * j) 1 _ (by omega)
    have e2 : nI (16 + 7 * j) + 2 = nI (18 + 7 * j) := aw_e2 (16 + 7 * j) 2 _ (by omega)
    have W : ∀ (post : Int32 → Prop), ∀ (f0 f1 f2 f3 f4 : Int32) (a2 a3 a4 a5 a6 a7 a8 a9 a10 a11 a12 a13 : Nat → Int32), ∀ f, ((m (18 + 7 * j) = v → ((m (17 + 7 * j) &&& x = x → post (m (4 + k))) ∧ (¬ m (17 + 7 * j) &&& x = x → wX_find_27 post x v (nI RW.length) f0 f1 f2 f3 f4 m a2 a3 a4 a5 a6 a7 a8 a9 a10 a11 a12 a13 f (nI (k + 1))))) ∧ (¬ m (18 + 7 * j) = v → post (-2))) → wX_find_27 post x v (nI RW.length) f0 f1 f2 f3 f4 m a2 a3 a4 a5 a6 a7 a8 a9 a10 a11 a12 a13 (f + 1) (nI k) := by
      intro post f0 f1 f2 f3 f4 a2 a3 a4 a5 a6 a7 a8 a9 a10 a11 a12 a13 f HW
      refine pk_le RW.length k (fun z => absurd z (by omega)) (fun _ => ⟨pk_in (4 + k) 340 (by omega) e0, aw_na j (by rw [pk_cl (4 + k) e0]; exact hg) ⟨pk_in (18 + 7 * j) 340 (by omega) e2, ?_⟩⟩)
      rw [pk_cl (18 + 7 * j) e2, pk_cl (17 + 7 * j) e1, pk_cl (4 + k) e0]
      refine ⟨fun z => ⟨pk_in (17 + 7 * j) 340 (by omega) e1, fun q => ⟨pk_in (4 + k) 340 (by omega) e0, (HW.1 z).1 q⟩, fun q => nm_r (nI_1 k) ((HW.1 z).2 q)⟩, HW.2⟩
    by_cases c1 : m (18 + 7 * j) = v
    · by_cases c2 : m (17 + 7 * j) &&& x = x
      · refine ⟨m (4 + k), fun post f0 f1 f2 f3 f4 a2 a3 a4 a5 a6 a7 a8 a9 a10 a11 a12 a13 f hf H => ?_⟩
        cases f with
        | zero => exact absurd hf (by omega)
        | succ f => exact W post f0 f1 f2 f3 f4 a2 a3 a4 a5 a6 a7 a8 a9 a10 a11 a12 a13 f (br_t c1 (br_t c2 H))
      · refine ⟨r, fun post f0 f1 f2 f3 f4 a2 a3 a4 a5 a6 a7 a8 a9 a10 a11 a12 a13 f hf H => ?_⟩
        cases f with
        | zero => exact absurd hf (by omega)
        | succ f => exact W post f0 f1 f2 f3 f4 a2 a3 a4 a5 a6 a7 a8 a9 a10 a11 a12 a13 f (br_t c1 (br_f c2 (hr post f0 f1 f2 f3 f4 a2 a3 a4 a5 a6 a7 a8 a9 a10 a11 a12 a13 f (by omega) H)))
    · refine ⟨-2, fun post f0 f1 f2 f3 f4 a2 a3 a4 a5 a6 a7 a8 a9 a10 a11 a12 a13 f hf H => ?_⟩
      cases f with
      | zero => exact absurd hf (by omega)
      | succ f => exact W post f0 f1 f2 f3 f4 a2 a3 a4 a5 a6 a7 a8 a9 a10 a11 a12 a13 f (br_f c1 H)
theorem aw_findE {m : (Nat → Int32)} {lb : Nat} {v : Int32} (hV : aw_V m) (hl : lb < 8) : ∃ r, ∀ (u : St1) (post : Int32 → Prop), aw_m u = m → post r → wpX_find post u (nI lb) v := by
  obtain ⟨FN, FA, C, RW, hJ, hR, hU⟩ := hV
  obtain ⟨P, Q, rfl, hP, hQ⟩ := aw_bl_split (v := v) (n := 0) hR.2.2.1
  have hle := aw_row_le hR
  have hlen : (P ++ Q).length = P.length + Q.length := List.length_append
  obtain ⟨r, hr⟩ := aw_find_l (v := v) (x := nI lb) hR Q.length P.length (by omega)
  refine ⟨r, fun u post hu H => ?_⟩
  obtain ⟨f0, f1, f2, f3, f4, a1, a2, a3, a4, a5, a6, a7, a8, a9, a10, a11, a12, a13⟩ := u
  have hu' : a1 = m := hu
  subst hu'
  unfold wpX_find
  refine br_f (nI_pos (by omega)) (br_t (nI_le (b := 7) (by omega) (by decide)) (nm_r hR.1 ?_))
  refine aw_placeFor (m := a1) (n := 0) rfl (by omega) rfl hR hP hQ ⟨13, ?_⟩
  exact hr post f0 f1 f2 f3 f4 a2 a3 a4 a5 a6 a7 a8 a9 a10 a11 a12 a13 13 (by omega) H
end
section
/-! ===== counting ===== -/
noncomputable def aw_b (c : Prop) : Nat := @ite _ c (Classical.propDecidable c) 1 0
theorem aw_bT {c : Prop} (h : c) : aw_b c = 1 := by unfold aw_b; exact if_pos h
theorem aw_bF {c : Prop} (h : ¬ c) : aw_b c = 0 := by unfold aw_b; exact if_neg h
theorem aw_bC {c d : Prop} (h : c ↔ d) : aw_b c = aw_b d := by rw [propext h]
theorem aw_bI {c : Prop} (i : Decidable c) : @ite _ c i 1 0 = aw_b c := by
  by_cases h : c
  · rw [if_pos h, aw_bT h]
  · rw [if_neg h, aw_bF h]
theorem aw_C_mem {m : (Nat → Int32)} {FN FA : List Nat} {C : Nat → Nat → List Nat} {s n a : Nat} (hJ : aw_J m FN FA C) (hn : aw_U FN n) (hs : s < 2) : a ∈ C s n ↔ a < 24 ∧ a ∉ FA ∧ m (101 + 10 * a + s) = nI n := by
  have hD := hJ.2.2.2.2.2.2.1 n hn s hs
  constructor
  · intro h
    exact ⟨aw_dl_lt hD.1 a h, hJ.2.2.2.2.2.2.2.1 n hn s hs a h, hD.2.2 a h⟩
  · rintro ⟨h1, h2, h3⟩
    obtain ⟨k, q1, q2, q3⟩ := (hJ.2.2.2.2.2.1 a h1 h2).1 s hs
    rw [q2] at h3
    have := q1.1
    have := hn.1
    have e : k = n := (nI_eq (by omega) (by omega)).mp h3
    rw [← e]; exact q3
/-- each used arrow stands in just one chain of a side -/
theorem aw_dc {m : (Nat → Int32)} {FN FA : List Nat} {C : Nat → Nat → List Nat} {s : Nat} (hJ : aw_J m FN FA C) (hs : s < 2) (P : Nat → Prop) :
    aw_sm (fun i => aw_sm (fun a => aw_b (i ∉ FN ∧ a ∈ C s i ∧ P a)) 24) 12 = aw_sm (fun a => aw_b (a ∉ FA ∧ P a)) 24 := by
  rw [aw_sm_comm]
  refine aw_sm_congr (fun a ha => ?_)
  by_cases c : a ∉ FA
  · obtain ⟨k, q1, q2, q3⟩ := (hJ.2.2.2.2.2.1 a ha c).1 s hs
    have hk := q1.1
    have e : aw_sm (fun i => aw_b (i ∉ FN ∧ a ∈ C s i ∧ P a)) 12 = aw_sm (fun i => if i = k then aw_b (P a) else 0) 12 := by
      refine aw_sm_congr (fun i hi => ?_)
      by_cases z : i = k
      · rw [if_pos z, z]
        exact aw_bC ⟨fun h => h.2.2, fun h => ⟨q1.2, q3, h⟩⟩
      · rw [if_neg z]
        refine aw_bF (fun h => z ?_)
        have := ((aw_C_mem hJ ⟨hi, h.1⟩ hs).mp h.2.1).2.2
        rw [q2] at this
        exact ((nI_eq (by omega) (by omega)).mp this).symm
    rw [e, aw_sm_one, if_pos hk]
    exact aw_bC ⟨fun h => ⟨c, h⟩, fun h => h.2⟩
  · rw [aw_bF (fun h => c h.1)]
    rw [← aw_sm_0 12]
    refine aw_sm_congr (fun i hi => ?_)
    refine aw_bF (fun h => c ?_)
    exact ((aw_C_mem hJ ⟨hi, h.1⟩ hs).mp h.2.1).2.1
theorem aw_sm_const (c : Nat) : ∀ n, aw_sm (fun _ => c) n = c * n := by
  intro n
  induction n with
  | zero => rfl
  | succ n ih => show aw_sm (fun _ => c) n + c = _; rw [ih, Nat.mul_succ]
theorem aw_cntc {N : Nat} {F : List Nat} (h : F.Nodup) (hl : ∀ x ∈ F, x < N) : aw_sm (fun i => aw_b (i ∉ F)) N + F.length = N := by
  rw [aw_len_sm h hl, ← aw_sm_add]
  have e : aw_sm (fun i => aw_b (i ∉ F) + (if i ∈ F then 1 else 0)) N = aw_sm (fun _ => 1) N := by
    refine aw_sm_congr (fun i _ => ?_)
    by_cases z : i ∈ F
    · rw [aw_bF (fun q => q z), if_pos z]
    · rw [aw_bT z, if_neg z]
  rw [e, aw_sm_const, Nat.one_mul]
theorem aw_FN_nodup {m : (Nat → Int32)} {FN FA : List Nat} {C : Nat → Nat → List Nat} (hJ : aw_J m FN FA C) : FN.Nodup ∧ (∀ x ∈ FN, x < 12) ∧ FA.Nodup ∧ ∀ x ∈ FA, x < 24 :=
  ⟨aw_sorted_nodup hJ.1.2, aw_ch_lt hJ.1.1, aw_sorted_nodup hJ.2.1.2, aw_ch_lt hJ.2.1.1⟩
theorem aw_nodes {m : (Nat → Int32)} {FN FA RW : List Nat} {C : Nat → Nat → List Nat} (hJ : aw_J m FN FA C) (hR : aw_row m RW) (hU : ∀ n, n ∈ RW ↔ aw_U FN n) : aw_sm (fun i => aw_b (i ∉ FN)) 12 = RW.length := by
  rw [aw_len_sm (aw_row_nodup hR) hR.2.2.2]
  refine aw_sm_congr (fun i hi => ?_)
  rw [aw_bI]
  exact aw_bC ⟨fun h => (hU i).mpr ⟨hi, h⟩, fun h => ((hU i).mp h).2⟩
theorem aw_arrows {m : (Nat → Int32)} {FN FA : List Nat} {C : Nat → Nat → List Nat} (hJ : aw_J m FN FA C) : aw_sm (fun i => @ite _ (i ∉ FN) (Classical.propDecidable _) (C 0 i).length 0) 12 + FA.length = 24 := by
  have h1 := aw_dc hJ (s := 0) (by omega) (fun _ => True)
  have e1 : aw_sm (fun i => aw_sm (fun a => aw_b (i ∉ FN ∧ a ∈ C 0 i ∧ True)) 24) 12 = aw_sm (fun i => @ite _ (i ∉ FN) (Classical.propDecidable _) (C 0 i).length 0) 12 := by
    refine aw_sm_congr (fun i hi => ?_)
    by_cases z : i ∉ FN
    · rw [if_pos z]
      have hD := hJ.2.2.2.2.2.2.1 i ⟨hi, z⟩ 0 (by omega)
      rw [aw_len_sm hD.2.1 (aw_dl_lt hD.1)]
      refine aw_sm_congr (fun a _ => ?_)
      rw [aw_bI]
      exact aw_bC ⟨fun h => h.2.1, fun h => ⟨z, h, trivial⟩⟩
    · rw [if_neg z, ← aw_sm_0 24]
      exact aw_sm_congr (fun a _ => aw_bF (fun h => z h.1))
  have e2 : aw_sm (fun a => aw_b (a ∉ FA ∧ True)) 24 = aw_sm (fun a => aw_b (a ∉ FA)) 24 := aw_sm_congr (fun a _ => aw_bC ⟨fun h => h.1, fun h => ⟨h, trivial⟩⟩)
  have hn := aw_FN_nodup hJ
  rw [← e1, h1, e2]
  exact aw_cntc hn.2.2.1 hn.2.2.2
/-! ===== the checks of faults: nothing is found wrong ===== -/
theorem aw_expect {post : St1 → Prop} {f0 f1 f2 f3 : Int32} {a1 a2 a3 a4 a5 a6 a7 a8 a9 a10 a11 a12 a13 : (Nat → Int32)} (H : post (f0, f1, f2, f3, 0, a1, a2, a3, a4, a5, a6, a7, a8, a9, a10, a11, a12, a13)) : wpX_expect post (f0, f1, f2, f3, 0, a1, a2, a3, a4, a5, a6, a7, a8, a9, a10, a11, a12, a13) 1 := by
  unfold wpX_expect
  exact br_f (by decide) (nm_r (Int32.add_zero 0) H)
theorem aw_checkChain_l {post : Int32 → St1 → Prop} {f0 f1 f2 f3 : Int32} {m a2 a3 a4 a5 a6 a7 a8 a9 a10 a11 a12 a13 : (Nat → Int32)} {n s : Nat} (hs : s < 2) : ∀ (l : List Nat) (c k f : Nat) (p : Int32), aw_dl m s c p l → (∀ a ∈ l, m (100 + 10 * a) = 1 ∧ m (101 + 10 * a + s) = nI n) → k + l.length ≤ 24 → l.length < f → post (nI (k + l.length)) (f0, f1, f2, f3, 0, m, a2, a3, a4, a5, a6, a7, a8, a9, a10, a11, a12, a13) →
    wX_checkChain_20 post (nI n) (nI s) f p (nI k) (m c) f0 f1 f2 f3 0 m a2 a3 a4 a5 a6 a7 a8 a9 a10 a11 a12 a13 := by
  intro l
  induction l with
  | nil =>
    intro c k f p hd _ hk hf H
    cases f with
    | zero => exact absurd hf (by omega)
    | succ f =>
      have hm : m c = -1 := hd
      exact br_t (by rw [hm]; decide) H
  | cons a l ih =>
    intro c k f p hd ha hk hf H
    rw [List.length_cons] at hk hf H
    cases f with
    | zero => exact absurd hf (by omega)
    | succ f =>
      obtain ⟨h1, h2, h3, h4⟩ := hd
      obtain ⟨q1, q2⟩ := ha a (List.mem_cons_self ..)
      have e1 : nI (100 + 10 * a) + 1 + nI s = nI (101 + 10 * a + s) := aw_e3 (100 + 10 * a) 1 s _ (by omega)
      have e5 : nI (100 + 10 * a) + 5 + nI s = nI (105 + 10 * a + s) := aw_e3 (100 + 10 * a) 5 s _ (by omega)
      have e7 : nI (100 + 10 * a) + 7 + nI s = nI (107 + 10 * a + s) := aw_e3 (100 + 10 * a) 7 s _ (by omega)
      rw [h1]
      refine br_f (nI_pos (by omega)) (br_f (nI_nlt (a := 24) (b := k) (by omega) (by decide)) (aw_ac a rfl ⟨pk_in (100 + 10 * a) 340 (by omega), br_t (by rw [pk_cl (100 + 10 * a)]; exact q1) ⟨pk_in (101 + 10 * a + s) 340 (by omega) e1, br_t (by rw [pk_cl (101 + 10 * a + s) e1]; exact q2) ⟨pk_in (107 + 10 * a + s) 340 (by omega) e7, br_t (by rw [pk_cl (107 + 10 * a + s) e7]; exact h3) ?_⟩⟩⟩))
      refine aw_expect ⟨pk_in (105 + 10 * a + s) 340 (by omega) e5, nm_r (e' := m (105 + 10 * a + s)) (by rw [pk_cl (105 + 10 * a + s) e5]) (nm_r (nI_1 k) ?_)⟩
      refine ih _ (k + 1) f (nI a) h4 (fun b hb => ha b (List.mem_cons_of_mem _ hb)) (by omega) (by omega) ?_
      rw [show k + 1 + l.length = k + (l.length + 1) by omega]
      exact H
theorem aw_checkChain {post : Int32 → St1 → Prop} {f0 f1 f2 f3 : Int32} {m a2 a3 a4 a5 a6 a7 a8 a9 a10 a11 a12 a13 : (Nat → Int32)} {FN FA : List Nat} {C : Nat → Nat → List Nat} {x y : Int32} (n s : Nat) (hx : x = nI n) (hy : y = nI s) (hJ : aw_J m FN FA C) (hn : aw_U FN n) (hs : s < 2) (H : post (nI (C s n).length) (f0, f1, f2, f3, 0, m, a2, a3, a4, a5, a6, a7, a8, a9, a10, a11, a12, a13)) : wpX_checkChain post (f0, f1, f2, f3, 0, m, a2, a3, a4, a5, a6, a7, a8, a9, a10, a11, a12, a13) x y := by
  subst hx hy
  have hn12 := hn.1
  have hD := hJ.2.2.2.2.2.2.1 n hn s hs
  have hp := aw_pig hD.2.1 (aw_dl_lt hD.1)
  have e3 : nI (16 + 7 * n) + 3 + nI s = nI (19 + 7 * n + s) := aw_e3 (16 + 7 * n) 3 s _ (by omega)
  unfold wpX_checkChain
  refine aw_na n rfl ?_
  refine ⟨pk_in (19 + 7 * n + s) 340 (by omega) e3, nm_r (e' := m (19 + 7 * n + s)) (by rw [pk_cl (19 + 7 * n + s) e3]) ⟨25, ?_⟩⟩
  refine aw_checkChain_l hs (C s n) _ 0 25 (-1) hD.1 (fun a ha => ⟨?_, hD.2.2 a ha⟩) (by omega) (by omega) (by rw [Nat.zero_add]; exact H)
  rw [hJ.2.2.2.1 a (aw_dl_lt hD.1 a ha), if_neg (hJ.2.2.2.2.2.2.2.1 n hn s hs a ha)]
theorem aw_checkFree_l {post : Int32 → St1 → Prop} {f0 f1 f2 f3 : Int32} {m a2 a3 a4 a5 a6 a7 a8 a9 a10 a11 a12 a13 : (Nat → Int32)} {fi wi li N : Nat} (hN : ∀ a, a < N → fi + wi * a + li < 340) (hN2 : N ≤ 24) : ∀ (l : List Nat) (c k f : Nat) (p : Int32), aw_ch m (fun a => fi + wi * a + li) N c l → (∀ a ∈ l, ¬ nI a ≤ p) → l.Pairwise (· < ·) → (∀ a ∈ l, m (fi + wi * a) = 0) → k + l.length ≤ 24 → l.length < f → post (nI (k + l.length)) (f0, f1, f2, f3, 0, m, a2, a3, a4, a5, a6, a7, a8, a9, a10, a11, a12, a13) →
    wX_checkFree_14 post (nI fi) (nI wi) (nI li) f p (nI k) (m c) f0 f1 f2 f3 0 m a2 a3 a4 a5 a6 a7 a8 a9 a10 a11 a12 a13 := by
  intro l
  induction l with
  | nil =>
    intro c k f p hd _ _ _ hk hf H
    cases f with
    | zero => exact absurd hf (by omega)
    | succ f =>
      have hm : m c = -1 := hd
      exact br_t (by rw [hm]; decide) H
  | cons a l ih =>
    intro c k f p hd hpp hpw h0 hk hf H
    rw [List.length_cons] at hk hf H
    cases f with
    | zero => exact absurd hf (by omega)
    | succ f =>
      obtain ⟨h1, h2, h3⟩ := hd
      have hlt := hN a h2
      have hpw' := List.pairwise_cons.mp hpw
      have e0 : nI fi + nI wi * nI a = nI (fi + wi * a) := by rw [pk_mul, nI_add]
      have e5 : nI fi + nI wi * nI a + nI li = nI (fi + wi * a + li) := by rw [pk_mul, nI_add, nI_add]
      rw [h1]
      refine br_f (nI_pos (by omega)) (br_f (nI_nlt (a := 24) (b := k) (by omega) (by decide)) (br_f (hpp a (List.mem_cons_self ..)) ⟨pk_in (fi + wi * a) 340 (by omega) e0, br_t (by rw [pk_cl (fi + wi * a) e0]; exact h0 a (List.mem_cons_self ..)) ?_⟩))
      refine aw_expect ⟨pk_in (fi + wi * a + li) 340 (by omega) e5, nm_r (e' := m (fi + wi * a + li)) (by rw [pk_cl (fi + wi * a + li) e5]) (nm_r (nI_1 k) ?_)⟩
      refine ih _ (k + 1) f (nI a) h3 (fun b hb => ?_) hpw'.2 (fun b hb => h0 b (List.mem_cons_of_mem _ hb)) (by omega) (by omega) ?_
      · have := hpw'.1 b hb
        have := aw_ch_lt h3 b hb
        exact nI_ge (by omega) (by omega)
      · rw [show k + 1 + l.length = k + (l.length + 1) by omega]
        exact H
theorem aw_nm1 (a : Nat) (h : a < 2 ^ 31) : ¬ nI a ≤ -1 := by
  rw [Int32.le_iff_toInt_le, nI_toInt h]
  have : (-1 : Int32).toInt = -1 := by decide
  omega
theorem aw_checkFree {post : Int32 → St1 → Prop} {f0 f1 f2 f3 : Int32} {m a2 a3 a4 a5 a6 a7 a8 a9 a10 a11 a12 a13 : (Nat → Int32)} {F : List Nat} {x0 x1 x2 x3 : Int32} (fi wi li N hd : Nat) (hx0 : x0 = nI hd) (hx1 : x1 = nI fi) (hx2 : x2 = nI wi) (hx3 : x3 = nI li) (hN : ∀ a, a < N → fi + wi * a + li < 340) (hN2 : N ≤ 24) (hh : hd < 340) (h : aw_ch m (fun a => fi + wi * a + li) N hd F) (hs : F.Pairwise (· < ·)) (h0 : ∀ a ∈ F, m (fi + wi * a) = 0)
    (H : post (nI F.length) (f0, f1, f2, f3, 0, m, a2, a3, a4, a5, a6, a7, a8, a9, a10, a11, a12, a13)) : wpX_checkFree post (f0, f1, f2, f3, 0, m, a2, a3, a4, a5, a6, a7, a8, a9, a10, a11, a12, a13) x0 x1 x2 x3 := by
  subst hx0 hx1 hx2 hx3
  have hp := aw_pig (aw_sorted_nodup hs) (aw_ch_lt h)
  refine ⟨pk_in hd 340 hh, nm_r (e' := m hd) (by rw [pk_cl hd]) ⟨25, ?_⟩⟩
  refine aw_checkFree_l hN hN2 F hd 0 25 (-1) h (fun a ha => aw_nm1 a (by have := aw_ch_lt h a ha; omega)) hs h0 (by omega) (by omega) (by rw [Nat.zero_add]; exact H)
theorem aw_checkRow_l {post : St1 → Prop} {f0 f1 f2 f3 : Int32} {m a2 a3 a4 a5 a6 a7 a8 a9 a10 a11 a12 a13 : (Nat → Int32)} {RW : List Nat} (hR : aw_row m RW) (H : post (f0, f1, f2, f3, 0, m, a2, a3, a4, a5, a6, a7, a8, a9, a10, a11, a12, a13)) : ∀ (d k f : Nat), 1 ≤ k → RW.length ≤ k + d → d < f → k < 100 → wX_checkRow_2 post f (nI k) f0 f1 f2 f3 0 m a2 a3 a4 a5 a6 a7 a8 a9 a10 a11 a12 a13 := by
  have hle := aw_row_le hR
  intro d
  induction d with
  | zero =>
    intro k f h1 h2 hf hk
    cases f with
    | zero => exact absurd hf (by omega)
    | succ f => exact pk_le RW.length k (fun _ => H) (fun z => absurd z (by omega)) hR.1
  | succ d ih =>
    intro k f h1 h2 hf hk
    cases f with
    | zero => exact absurd hf (by omega)
    | succ f =>
      refine pk_le RW.length k (fun _ => H) (fun z => ?_) hR.1
      obtain ⟨k, rfl⟩ : ∃ j, k = j + 1 := ⟨k - 1, by omega⟩
      have hk1 : k + 1 < RW.length := z
      have hk0 : k < RW.length := by omega
      have g1 := aw_ar_get hR.2.1 hk1
      have g0 := aw_ar_get hR.2.1 hk0
      have n1 : RW[k + 1] < 12 := hR.2.2.2 _ (List.getElem_mem hk1)
      have n0 : RW[k] < 12 := hR.2.2.2 _ (List.getElem_mem hk0)
      have hlt : aw_lt m RW[k] RW[k + 1] := List.pairwise_iff_getElem.mp hR.2.2.1 k (k + 1) hk0 hk1 (by omega)
      generalize RW[k + 1] = i at *
      generalize RW[k] = j at *
      have a1' : (4 : Int32) + nI (k + 1) = nI (4 + (k + 1)) := nI_add 4 (k + 1)
      have a0' : (4 : Int32) + nI (k + 1) - 1 = nI (4 + k) := by
        rw [a1', show 4 + (k + 1) = 4 + k + 1 by omega, nI_pred]
      have ei : nI (16 + 7 * i) + 2 = nI (18 + 7 * i) := aw_e2 (16 + 7 * i) 2 _ (by omega)
      have ej : nI (16 + 7 * j) + 2 = nI (18 + 7 * j) := aw_e2 (16 + 7 * j) 2 _ (by omega)
      have go : wX_checkRow_83 post (wX_checkRow_2 post f) (nI (k + 1)) 1 f0 f1 f2 f3 0 m a2 a3 a4 a5 a6 a7 a8 a9 a10 a11 a12 a13 := aw_expect (nm_r (nI_1 (k + 1)) (ih (k + 1 + 1) f (by omega) (by omega) (by omega) (by omega)))
      refine ⟨pk_in (4 + (k + 1)) 340 (by omega) a1', nm_r (e' := nI i) (by rw [pk_cl (4 + (k + 1)) a1']; exact g1) ⟨pk_in (4 + k) 340 (by omega) a0', nm_r (e' := nI j) (by rw [pk_cl (4 + k) a0']; exact g0) (aw_na i rfl ⟨pk_in (18 + 7 * i) 340 (by omega) ei, nm_r (e' := m (18 + 7 * i)) (by rw [pk_cl (18 + 7 * i) ei]) (aw_na j rfl ⟨pk_in (18 + 7 * j) 340 (by omega) ej, nm_r (e' := m (18 + 7 * j)) (by rw [pk_cl (18 + 7 * j) ej]) ?_⟩)⟩)⟩⟩
      rcases hlt with q | ⟨q1, q2⟩
      · exact br_t q go
      · exact br_f (by rw [q1, aw_i32lt]; omega) (br_t q1 (br_f (nI_ge q2 (by omega)) go))
theorem aw_faults_11 {post : Int32 → St1 → Prop} {f0 f1 f2 f3 : Int32} {m a2 a3 a4 a5 a6 a7 a8 a9 a10 a11 a12 a13 : (Nat → Int32)} {FN FA RW : List Nat} {C : Nat → Nat → List Nat} (hJ : aw_J m FN FA C) (hR : aw_row m RW) (hU : ∀ n, n ∈ RW ↔ aw_U FN n) (H : post 0 (f0, f1, f2, f3, 0, m, a2, a3, a4, a5, a6, a7, a8, a9, a10, a11, a12, a13)) :
    ∀ (d n f : Nat), n + d = 12 → d < f → wX_faults_11 post f (nI (aw_sm (fun i => aw_b (i ∉ FN)) n)) (nI (aw_sm (fun i => @ite _ (i ∉ FN) (Classical.propDecidable _) (C 0 i).length 0) n)) (nI n) f0 f1 f2 f3 0 m a2 a3 a4 a5 a6 a7 a8 a9 a10 a11 a12 a13 := by
  have hno := aw_nodes hJ hR hU
  have har := aw_arrows hJ
  have hle := aw_row_le hR
  have hn := aw_FN_nodup hJ
  have hc := aw_cntc hn.1 hn.2.1
  intro d
  induction d with
  | zero =>
    intro n f h1 hf
    cases f with
    | zero => exact absurd hf (by omega)
    | succ f =>
      have e : n = 12 := by omega
      subst e
      refine br_t (by decide) (br_t (by rw [hno]; exact hR.1.symm) (br_t (by rw [hJ.2.2.2.2.1]; exact congrArg nI (by omega)) ?_))
      refine aw_expect ?_
      refine aw_checkFree 16 7 5 12 0 rfl rfl rfl rfl (fun a ha => by omega) (by omega) (by omega) hJ.1.1 hJ.1.2 (fun a ha => by rw [hJ.2.2.1 a (hn.2.1 a ha), if_pos ha]) ?_
      refine aw_checkFree 100 10 5 24 1 rfl rfl rfl rfl (fun a ha => by omega) (by omega) (by omega) hJ.2.1.1 hJ.2.1.2 (fun a ha => by rw [hJ.2.2.2.1 a (hn.2.2.2 a ha), if_pos ha]) ?_
      refine br_t ?_ (br_t ?_ (aw_expect ?_))
      · have : (12 : Int32) - nI (aw_sm (fun i => aw_b (i ∉ FN)) 12) = nI (12 - aw_sm (fun i => aw_b (i ∉ FN)) 12) := pk_sub (a := 12) (by omega)
        rw [this]
        exact congrArg nI (by omega)
      · have : (24 : Int32) - nI (aw_sm (fun i => @ite _ (i ∉ FN) (Classical.propDecidable _) (C 0 i).length 0) 12) = nI (24 - aw_sm (fun i => @ite _ (i ∉ FN) (Classical.propDecidable _) (C 0 i).length 0) 12) := pk_sub (a := 24) (by omega)
        rw [this]
        exact congrArg nI (by omega)
      · refine ⟨13, aw_checkRow_l hR ?_ 12 1 13 (by omega) (by omega) (by omega) (by omega)⟩
        exact H
  | succ d ih =>
    intro n f h1 hf
    cases f with
    | zero => exact absurd hf (by omega)
    | succ f =>
      have hn12 : n < 12 := by omega
      have go := ih (n + 1) f (by omega) (by omega)
      have e6 : nI (16 + 7 * n) + 6 = nI (22 + 7 * n) := aw_e2 (16 + 7 * n) 6 _ (by omega)
      refine br_f (nI_ge (b := 12) hn12 (by decide)) ?_
      refine aw_isNodeU n rfl hn12 rfl hJ (fun hu => br_f (by decide) ?_) (fun hu => br_t rfl (nm_r (nI_1 n) ?_))
      · have g1 : aw_sm (fun i => aw_b (i ∉ FN)) (n + 1) = aw_sm (fun i => aw_b (i ∉ FN)) n + 1 := by
          show _ + aw_b (n ∉ FN) = _
          rw [aw_bT hu.2]
        have g2 : aw_sm (fun i => @ite _ (i ∉ FN) (Classical.propDecidable _) (C 0 i).length 0) (n + 1) = aw_sm (fun i => @ite _ (i ∉ FN) (Classical.propDecidable _) (C 0 i).length 0) n + (C 0 n).length := by
          show _ + @ite _ (n ∉ FN) (Classical.propDecidable _) (C 0 n).length 0 = _
          rw [if_pos hu.2]
        rw [g1, g2] at go
        refine nm_r (nI_1 _) (aw_checkChain n 0 rfl rfl hJ hu (by omega) (nm_r (nI_add _ _) (aw_checkChain n 1 rfl rfl hJ hu (by omega) ?_)))
        refine aw_na n rfl ⟨pk_in (22 + 7 * n) 340 (by omega) e6, br_t ?_ (aw_expect (nm_r (nI_1 n) go))⟩
        rw [pk_cl (22 + 7 * n) e6, hJ.2.2.2.2.2.2.2.2.1 n hu, nI_add]
      · have g1 : aw_sm (fun i => aw_b (i ∉ FN)) (n + 1) = aw_sm (fun i => aw_b (i ∉ FN)) n := by
          show _ + aw_b (n ∉ FN) = _
          rw [aw_bF (fun q => q hu)]; rfl
        have g2 : aw_sm (fun i => @ite _ (i ∉ FN) (Classical.propDecidable _) (C 0 i).length 0) (n + 1) = aw_sm (fun i => @ite _ (i ∉ FN) (Classical.propDecidable _) (C 0 i).length 0) n := by
          show _ + @ite _ (n ∉ FN) (Classical.propDecidable _) (C 0 n).length 0 = _
          rw [if_neg (fun q => q hu)]; rfl
        rw [g1, g2] at go
        exact go
theorem aw_faults {post : Int32 → St1 → Prop} {S : List (Nat → Int32)} {m : (Nat → Int32)} {u : St1} (hV : aw_V m) (h : aw_R S m u) (H : aw_K S m (post 0)) : wpX_faults post u := by
  obtain ⟨FN, FA, C, RW, hJ, hR, hU⟩ := hV
  obtain ⟨f0, f1, f2, f3, f4, a1, a2, a3, a4, a5, a6, a7, a8, a9, a10, a11, a12, a13⟩ := u
  have h' := h
  obtain ⟨rfl, rfl, _⟩ := h'
  exact ⟨13, aw_faults_11 hJ hR hU (H f1 f2 f3 0 a2 a3 a4 a5 a6 a7 a8 a9 a10 a11 a12 a13 h) 12 0 13 (by omega) (by omega)⟩
end
section
/-! ===== sums ===== -/
noncomputable def aw_lo (m : (Nat → Int32)) (FA : List Nat) (a : Nat) : Nat := aw_b (a ∉ FA ∧ m (101 + 10 * a) = m (101 + 10 * a + 1))
noncomputable def aw_ou (m : (Nat → Int32)) (FN : List Nat) (C : Nat → Nat → List Nat) (s t i : Nat) : Nat := aw_b (i ∉ FN) * aw_dg m C s i t
noncomputable def aw_pr (m : (Nat → Int32)) (FN : List Nat) (C : Nat → Nat → List Nat) (i : Nat) : Nat := aw_b (i ∉ FN) * (aw_dg m C 0 i 4 * aw_dg m C 1 i 4)
theorem aw_dg_b {m : (Nat → Int32)} {C : Nat → Nat → List Nat} {s n t : Nat} : aw_dg m C s n t = aw_sm (fun i => aw_b (i ∈ C s n ∧ aw_T m i t)) 24 := rfl
theorem aw_ou_sum {m : (Nat → Int32)} {FN FA : List Nat} {C : Nat → Nat → List Nat} {s t : Nat} (hJ : aw_J m FN FA C) (hs : s < 2) : aw_sm (aw_ou m FN C s t) 12 = aw_sm (fun a => aw_b (a ∉ FA ∧ aw_T m a t)) 24 := by
  rw [← aw_dc hJ hs (fun a => aw_T m a t)]
  refine aw_sm_congr (fun i _ => ?_)
  unfold aw_ou
  rw [aw_dg_b]
  by_cases c : i ∉ FN
  · rw [aw_bT c, Nat.one_mul]
    exact aw_sm_congr (fun a _ => aw_bC ⟨fun h => ⟨c, h.1, h.2⟩, fun h => ⟨h.2.1, h.2.2⟩⟩)
  · rw [aw_bF c, Nat.zero_mul, ← aw_sm_0 24]
    exact aw_sm_congr (fun a _ => (aw_bF (fun h => c h.1)).symm)
theorem aw_dg4 {m : (Nat → Int32)} {FN FA : List Nat} {C : Nat → Nat → List Nat} {s n : Nat} (hJ : aw_J m FN FA C) (hn : aw_U FN n) (hs : s < 2) : aw_dg m C s n 4 = aw_dg m C s n 0 + aw_dg m C s n 1 + aw_dg m C s n 2 + aw_dg m C s n 3 := by
  simp only [aw_dg_b]
  rw [← aw_sm_add, ← aw_sm_add, ← aw_sm_add]
  refine aw_sm_congr (fun a ha => ?_)
  by_cases c : a ∈ C s n
  · have hq := (aw_C_mem hJ hn hs).mp c
    obtain ⟨y, hy, ey⟩ := (hJ.2.2.2.2.2.1 a hq.1 hq.2.1).2.1
    have T4 : aw_T m a 4 := Or.inl rfl
    have Tt : ∀ t, t < 4 → (aw_T m a t ↔ y = t) := by
      intro t ht
      constructor
      · rintro (z | z)
        · omega
        · rw [ey] at z
          exact (nI_eq (by omega) (by omega)).mp z
      · intro z
        exact Or.inr (by rw [ey, z])
    have B : ∀ t, t < 4 → aw_b (a ∈ C s n ∧ aw_T m a t) = if y = t then 1 else 0 := by
      intro t ht
      rw [aw_bI]
      exact aw_bC ⟨fun h => (Tt t ht).mp h.2, fun h => ⟨c, (Tt t ht).mpr h⟩⟩
    rw [B 0 (by omega), B 1 (by omega), B 2 (by omega), B 3 (by omega), aw_bT ⟨c, T4⟩]
    have : y = 0 ∨ y = 1 ∨ y = 2 ∨ y = 3 := by omega
    rcases this with z | z | z | z <;> subst z <;> rfl
  · rw [aw_bF (fun h => c h.1), aw_bF (fun h => c h.1), aw_bF (fun h => c h.1), aw_bF (fun h => c h.1), aw_bF (fun h => c h.1)]
theorem aw_and0 (x : Int32) : x &&& nI 0 = nI 0 := by
  apply aw_b_ext
  intro i _
  rw [aw_b_and]
  show (aw_bt x i && aw_bt 0 i) = aw_bt 0 i
  rw [aw_b_0, Bool.and_false]
theorem aw_ring (a b p q r : Int32) : a - b + (p * q - r) = a + q * p - (b + r) := by grind
theorem aw_cg_sum {m : (Nat → Int32)} {FN FA : List Nat} {C : Nat → Nat → List Nat} (hJ : aw_J m FN FA C) : ∀ n, n ≤ 12 → aw_is (aw_cg m FN C 4 4 0) n = nI (aw_sm (aw_pr m FN C) n) - nI (aw_sm (fun i => aw_sm (fun a => aw_b (i ∉ FN ∧ a ∈ C 0 i ∧ m (101 + 10 * a) = m (101 + 10 * a + 1))) 24) n) := by
  intro n
  induction n with
  | zero =>
    intro _
    show (0 : Int32) = nI 0 - nI 0
    decide
  | succ n ih =>
    intro hn
    show aw_is (aw_cg m FN C 4 4 0) n + aw_cg m FN C 4 4 0 n = nI (aw_sm (aw_pr m FN C) n + aw_pr m FN C n) - nI (aw_sm (fun i => aw_sm (fun a => aw_b (i ∉ FN ∧ a ∈ C 0 i ∧ m (101 + 10 * a) = m (101 + 10 * a + 1))) 24) n + aw_sm (fun a => aw_b (n ∉ FN ∧ a ∈ C 0 n ∧ m (101 + 10 * a) = m (101 + 10 * a + 1))) 24)
    rw [ih (by omega)]
    by_cases c : n ∉ FN
    · have hu : aw_U FN n := ⟨by omega, c⟩
      have e0 : aw_on (aw_or m 4 0 (C 0 n)) = aw_dg m C 0 n 4 := aw_on_dg hJ hu (by omega)
      have e1 : aw_on (aw_or m 4 0 (C 1 n)) = aw_dg m C 1 n 4 := aw_on_dg hJ hu (by omega)
      have hl0 := aw_dl_lt (hJ.2.2.2.2.2.2.1 n hu 0 (by omega)).1
      have hl1 := aw_dl_lt (hJ.2.2.2.2.2.2.1 n hu 1 (by omega)).1
      have e2 : aw_on (aw_or m 4 0 (C 1 n) &&& aw_or m 4 0 (C 0 n)) = aw_sm (fun a => aw_b (n ∉ FN ∧ a ∈ C 0 n ∧ m (101 + 10 * a) = m (101 + 10 * a + 1))) 24 := by
        refine aw_sm_congr (fun a ha => ?_)
        rw [aw_bI]
        refine aw_bC ?_
        rw [aw_b_and, Bool.and_eq_true, aw_or_bt (by omega) hl1, aw_or_bt (by omega) hl0, aw_b_0]
        have m0 := aw_C_mem (a := a) hJ hu (s := 0) (by omega)
        have m1 := aw_C_mem (a := a) hJ hu (s := 1) (by omega)
        constructor
        · rintro ⟨q1 | q1, q2 | q2⟩
          · cases q1
          · cases q1
          · cases q2
          · refine ⟨c, q2.1, ?_⟩
            have z0 : m (101 + 10 * a) = nI n := (m0.mp q2.1).2.2
            rw [z0, (m1.mp q1.1).2.2]
        · rintro ⟨_, q1, q2⟩
          have z := m0.mp q1
          have z0 : m (101 + 10 * a) = nI n := z.2.2
          exact ⟨Or.inr ⟨m1.mpr ⟨z.1, z.2.1, by rw [← q2]; exact z0⟩, Or.inl rfl⟩, Or.inr ⟨q1, Or.inl rfl⟩⟩
      have e3 : aw_cg m FN C 4 4 0 n = nI (aw_dg m C 1 n 4) * nI (aw_dg m C 0 n 4) - nI (aw_sm (fun a => aw_b (n ∉ FN ∧ a ∈ C 0 n ∧ m (101 + 10 * a) = m (101 + 10 * a + 1))) 24) := by
        unfold aw_cg
        rw [if_pos ⟨c, aw_and0 _⟩, e0, e1, e2]
      have e4 : aw_pr m FN C n = aw_dg m C 0 n 4 * aw_dg m C 1 n 4 := by
        unfold aw_pr
        rw [aw_bT c, Nat.one_mul]
      rw [e3, e4, aw_ring, ← nI_add, ← nI_add, ← pk_mul]
    · have e3 : aw_cg m FN C 4 4 0 n = 0 := by
        unfold aw_cg
        exact if_neg (fun z => c z.1)
      have e4 : aw_pr m FN C n = 0 := by
        unfold aw_pr
        rw [aw_bF c, Nat.zero_mul]
      have e5 : aw_sm (fun a => aw_b (n ∉ FN ∧ a ∈ C 0 n ∧ m (101 + 10 * a) = m (101 + 10 * a + 1))) 24 = 0 := by
        rw [← aw_sm_0 24]
        exact aw_sm_congr (fun a _ => aw_bF (fun h => c h.1))
      rw [e3, e4, e5, Nat.add_zero, Nat.add_zero, Int32.add_zero]
theorem aw_sums_6 {post : Int32 → St1 → Prop} {f0 f1 f2 f3 f4 : Int32} {a2 a3 a4 a5 a6 a7 a8 a9 a10 a11 a12 a13 : Nat → Int32} {m : (Nat → Int32)} {FN FA : List Nat} {C : Nat → Nat → List Nat} (hJ : aw_J m FN FA C) (H : ∃ fu, wL_sums_52 post (nI (aw_sm (aw_lo m FA) 24)) f0 f1 f2 f3 f4 m a2 a3 a4 a5 a6 a7 a8 a9 a10 a11 a12 a13 fu 0 0) :
    ∀ (d a f : Nat), a + d = 24 → d < f → wL_sums_6 post 0 f0 f1 f2 f3 f4 m a2 a3 a4 a5 a6 a7 a8 a9 a10 a11 a12 a13 f (nI (aw_sm (aw_lo m FA) a)) (nI a) := by
  intro d
  induction d with
  | zero =>
    intro a f h hf
    cases f with
    | zero => exact absurd hf (by omega)
    | succ f =>
      have e : a = 24 := by omega
      subst e
      exact br_t (by decide) H
  | succ d ih =>
    intro a f h hf
    cases f with
    | zero => exact absurd hf (by omega)
    | succ f =>
      have ha : a < 24 := by omega
      have go := ih (a + 1) f (by omega) (by omega)
      have es : aw_sm (aw_lo m FA) (a + 1) = aw_sm (aw_lo m FA) a + aw_lo m FA a := rfl
      refine br_f (nI_ge (b := 24) ha (by decide)) ?_
      refine aw_look (m := m) a 0 rfl rfl ha (by omega) rfl hJ (fun hF => ?_) (fun hF => br_t (by decide) (nm_r (nI_1 a) ?_))
      · obtain ⟨n, q1, q2, q3⟩ := (hJ.2.2.2.2.2.1 a ha hF).1 0 (by omega)
        have := q1.1
        refine br_f (by rw [q2]; exact nI_pos (by omega)) ?_
        refine aw_look (m := m) a 0 rfl rfl ha (by omega) rfl hJ (fun _ => ?_) (fun z => absurd z hF)
        refine aw_look (m := m) a 1 rfl rfl ha (by omega) rfl hJ (fun _ => ?_) (fun z => absurd z hF)
        refine br_c (fun c => nm_r (nI_1 _) (nm_r (nI_1 a) ?_)) (fun c => nm_r (nI_1 a) ?_)
        · have : aw_lo m FA a = 1 := aw_bT ⟨hF, c⟩
          rw [es, this] at go
          exact go
        · have : aw_lo m FA a = 0 := aw_bF (fun z => c z.2)
          rw [es, this] at go
          exact go
      · have : aw_lo m FA a = 0 := aw_bF (fun z => z.1 hF)
        rw [es, this] at go
        exact go
theorem aw_sums_66 {post : Int32 → St1 → Prop} {J52 : Int32 → Int32 → Prop} {f0 f1 f2 f3 f4 : Int32} {a2 a3 a4 a5 a6 a7 a8 a9 a10 a11 a12 a13 : Nat → Int32} {m : (Nat → Int32)} {FN FA : List Nat} {C : Nat → Nat → List Nat} {x1 : Int32} {t : Nat} (hJ : aw_J m FN FA C) (ht : t ≤ 4) (H : J52 (if t = 4 then nI (aw_sm (aw_pr m FN C) 12) else 0) (nI (t + 1))) :
    ∀ (d n f : Nat), n + d = 12 → d < f → wL_sums_66 post J52 x1 (nI t) f0 f1 f2 f3 f4 m a2 a3 a4 a5 a6 a7 a8 a9 a10 a11 a12 a13 f (if t = 4 then nI (aw_sm (aw_pr m FN C) n) else 0) (nI (aw_sm (aw_ou m FN C 0 t) n)) (nI (aw_sm (aw_ou m FN C 1 t) n)) (nI n) := by
  intro d
  induction d with
  | zero =>
    intro n f h hf
    cases f with
    | zero => exact absurd hf (by omega)
    | succ f =>
      have e : n = 12 := by omega
      subst e
      refine br_t (by decide) (br_t ?_ (nm_r (nI_1 t) H))
      rw [aw_ou_sum hJ (by omega), aw_ou_sum hJ (by omega)]
  | succ d ih =>
    intro n f h hf
    cases f with
    | zero => exact absurd hf (by omega)
    | succ f =>
      have hn : n < 12 := by omega
      have go := ih (n + 1) f (by omega) (by omega)
      have es0 : aw_sm (aw_ou m FN C 0 t) (n + 1) = aw_sm (aw_ou m FN C 0 t) n + aw_ou m FN C 0 t n := rfl
      have es1 : aw_sm (aw_ou m FN C 1 t) (n + 1) = aw_sm (aw_ou m FN C 1 t) n + aw_ou m FN C 1 t n := rfl
      have es2 : aw_sm (aw_pr m FN C) (n + 1) = aw_sm (aw_pr m FN C) n + aw_pr m FN C n := rfl
      rw [es0, es1, es2] at go
      refine br_f (nI_ge (b := 12) hn (by decide)) ?_
      refine aw_labels (m := m) n rfl hn rfl hJ (fun hu => ?_) (fun hF => br_t (by decide) (nm_r (nI_1 n) ?_))
      · obtain ⟨b, hb, eb⟩ := hJ.2.2.2.2.2.2.2.2.2 n hu
        have o0 : aw_ou m FN C 0 t n = aw_dg m C 0 n t := by unfold aw_ou; rw [aw_bT hu.2, Nat.one_mul]
        have o1 : aw_ou m FN C 1 t n = aw_dg m C 1 n t := by unfold aw_ou; rw [aw_bT hu.2, Nat.one_mul]
        have o2 : aw_pr m FN C n = aw_dg m C 0 n 4 * aw_dg m C 1 n 4 := by unfold aw_pr; rw [aw_bT hu.2, Nat.one_mul]
        rw [o0, o1, o2] at go
        refine br_f (by rw [eb]; exact nI_pos (by omega)) ?_
        refine aw_degree01 (m := m) n t 0 rfl rfl rfl hJ hu ht (by omega) rfl ?_
        refine aw_degree01 (m := m) n t 1 rfl rfl rfl hJ hu ht (by omega) rfl ?_
        refine nm_r (nI_add _ _) (nm_r (nI_add _ _) ?_)
        by_cases c4 : t = 4
        · subst c4
          rw [if_pos rfl] at go ⊢
          refine br_t rfl (br_t rfl ?_)
          refine aw_degree01 (m := m) n 0 0 rfl rfl rfl hJ hu (by omega) (by omega) rfl ?_
          refine aw_degree01 (m := m) n 1 0 rfl rfl rfl hJ hu (by omega) (by omega) rfl ?_
          refine aw_degree01 (m := m) n 2 0 rfl rfl rfl hJ hu (by omega) (by omega) rfl ?_
          refine aw_degree01 (m := m) n 3 0 rfl rfl rfl hJ hu (by omega) (by omega) rfl ?_
          refine br_t (by rw [nI_add, nI_add, nI_add, ← aw_dg4 hJ hu (by omega)]) ?_
          refine aw_degree01 (m := m) n 0 1 rfl rfl rfl hJ hu (by omega) (by omega) rfl ?_
          refine aw_degree01 (m := m) n 1 1 rfl rfl rfl hJ hu (by omega) (by omega) rfl ?_
          refine aw_degree01 (m := m) n 2 1 rfl rfl rfl hJ hu (by omega) (by omega) rfl ?_
          refine aw_degree01 (m := m) n 3 1 rfl rfl rfl hJ hu (by omega) (by omega) rfl ?_
          refine br_t (by rw [nI_add, nI_add, nI_add, ← aw_dg4 hJ hu (by omega)]) (nm_r (nI_1 n) ?_)
          rw [pk_mul, nI_add]
          exact go
        · rw [if_neg c4] at go ⊢
          refine pk_eq t 4 (fun z => absurd z c4) (fun _ => pk_eq t 4 (fun z => absurd z c4) (fun _ => nm_r (nI_1 n) ?_))
          exact go
      · have o0 : aw_ou m FN C 0 t n = 0 := by unfold aw_ou; rw [aw_bF (fun q => q hF), Nat.zero_mul]
        have o1 : aw_ou m FN C 1 t n = 0 := by unfold aw_ou; rw [aw_bF (fun q => q hF), Nat.zero_mul]
        have o2 : aw_pr m FN C n = 0 := by unfold aw_pr; rw [aw_bF (fun q => q hF), Nat.zero_mul]
        rw [o0, o1, o2, Nat.add_zero, Nat.add_zero, Nat.add_zero] at go
        exact go
theorem aw_sums_52 {post : Int32 → St1 → Prop} {S : List (Nat → Int32)} {f1 f2 f3 f4 : Int32} {a2 a3 a4 a5 a6 a7 a8 a9 a10 a11 a12 a13 : Nat → Int32} {m : (Nat → Int32)} {FN FA RW : List Nat} {C : Nat → Nat → List Nat} (hJ : aw_J m FN FA C) (hV : aw_V m) (hR : aw_R S m (nI S.length, f1, f2, f3, f4, m, a2, a3, a4, a5, a6, a7, a8, a9, a10, a11, a12, a13)) (H : aw_K S m (post 1)) :
    ∀ (d t f : Nat), t + d = 5 → d < f → wL_sums_52 post (nI (aw_sm (aw_lo m FA) 24)) (nI S.length) f1 f2 f3 f4 m a2 a3 a4 a5 a6 a7 a8 a9 a10 a11 a12 a13 f (if t = 5 then nI (aw_sm (aw_pr m FN C) 12) else 0) (nI t) := by
  intro d
  induction d with
  | zero =>
    intro t f h hf
    cases f with
    | zero => exact absurd hf (by omega)
    | succ f =>
      have e : t = 5 := by omega
      subst e
      rw [if_pos rfl]
      refine br_t (by decide) ?_
      refine aw_chains (m := m) 4 4 0 rfl rfl rfl hJ (by omega) (by omega) (by omega) rfl ?_
      refine br_t ?_ ?_
      · rw [aw_cg_sum hJ 12 (by omega), aw_dc hJ (by omega) (fun a => m (101 + 10 * a) = m (101 + 10 * a + 1))]
        rfl
      · exact aw_faults hV hR (fun f1 f2 f3 f4 a2 a3 a4 a5 a6 a7 a8 a9 a10 a11 a12 a13 k1 => br_t rfl (H f1 f2 f3 f4 a2 a3 a4 a5 a6 a7 a8 a9 a10 a11 a12 a13 k1))
  | succ d ih =>
    intro t f h hf
    cases f with
    | zero => exact absurd hf (by omega)
    | succ f =>
      have go := ih (t + 1) f (by omega) (by omega)
      rw [if_neg (by omega)]
      refine br_f (nI_ge (b := 5) (by omega) (by decide)) ⟨13, ?_⟩
      have t0 := aw_sums_66 (post := post) (J52 := wL_sums_52 post (nI (aw_sm (aw_lo m FA) 24)) (nI S.length) f1 f2 f3 f4 m a2 a3 a4 a5 a6 a7 a8 a9 a10 a11 a12 a13 f) (f0 := nI S.length) (f1 := f1) (f2 := f2) (f3 := f3) (f4 := f4) (a2 := a2) (a3 := a3) (a4 := a4) (a5 := a5) (a6 := a6) (a7 := a7) (a8 := a8) (a9 := a9) (a10 := a10) (a11 := a11) (a12 := a12) (a13 := a13) (x1 := nI (aw_sm (aw_lo m FA) 24)) (t := t) hJ (by omega) (by
        by_cases c : t = 4
        · subst c
          rw [if_pos rfl] at go ⊢
          exact go
        · rw [if_neg (by omega)] at go
          rw [if_neg c]
          exact go) 12 0 13 (by omega) (by omega)
      have e0 : (if t = 4 then nI (aw_sm (aw_pr m FN C) 0) else 0) = (0 : Int32) := by
        by_cases c : t = 4
        · rw [if_pos c]; rfl
        · rw [if_neg c]
      rw [e0] at t0
      exact t0
theorem aw_sums {post : Int32 → St1 → Prop} {S : List (Nat → Int32)} {m : (Nat → Int32)} {u : St1} (hV : aw_V m) (h : aw_R S m u) (H : aw_K S m (post 1)) : wpL_sums post u := by
  have hV' := hV
  obtain ⟨FN, FA, C, RW, hJ, hR, hU⟩ := hV'
  obtain ⟨f0, f1, f2, f3, f4, a1, a2, a3, a4, a5, a6, a7, a8, a9, a10, a11, a12, a13⟩ := u
  have h' := h
  obtain ⟨rfl, rfl, _⟩ := h'
  refine ⟨25, aw_sums_6 hJ ⟨6, ?_⟩ 24 0 25 (by omega) (by omega)⟩
  exact aw_sums_52 (RW := RW) hJ hV h H 5 0 6 (by omega) (by omega)
end
section
/-! ===== rounds: a walk whose answer depends on the cells alone ===== -/
theorem aw_Rs {S : List (Nat → Int32)} {m a1 : (Nat → Int32)} {f0 f1 f2 f3 f4 : Int32} {a2 a3 a4 a5 a6 a7 a8 a9 a10 a11 a12 a13 : Nat → Int32} {g1 g2 g3 g4 : Int32} {b6 b7 b8 b9 b10 b11 b12 b13 : (Nat → Int32)} (h : aw_R S m (f0, f1, f2, f3, f4, a1, a2, a3, a4, a5, a6, a7, a8, a9, a10, a11, a12, a13)) : aw_R S m (f0, g1, g2, g3, g4, a1, a2, a3, a4, a5, b6, b7, b8, b9, b10, b11, b12, b13) := h
def aw_hd : List Nat → Int32
  | [] => -1
  | y :: _ => nI y
def aw_up (AB : (Nat → Int32)) : List Nat → Prop
  | [] => True
  | x :: l => AB x = aw_hd l ∧ aw_up AB l
theorem aw_up_fr {AB AB' : (Nat → Int32)} : ∀ {l : List Nat}, aw_up AB l → (∀ x ∈ l, AB' x = AB x) → aw_up AB' l := by
  intro l
  induction l with
  | nil => intro _ _; trivial
  | cons x l ih => intro h hf; exact ⟨(hf x (List.mem_cons_self ..)).trans h.1, ih h.2 (fun y hy => hf y (List.mem_cons_of_mem _ hy))⟩
def aw_stk (a : (Nat → Int32)) : List Nat → Prop
  | [] => True
  | x :: l => a l.length = nI x ∧ aw_stk a l
theorem aw_stk_fr {a b : (Nat → Int32)} : ∀ {l : List Nat}, aw_stk a l → (∀ i, i < l.length → b i = a i) → aw_stk b l := by
  intro l
  induction l with
  | nil => intro _ _; trivial
  | cons x l ih => intro h hf; exact ⟨(hf _ (by simp)).trans h.1, ih h.2 (fun i hi => hf i (by rw [List.length_cons]; omega))⟩
def aw_W (E D LO AB NX : (Nat → Int32)) (PL EN : List Nat) (a7 a9 a10 a11 a12 a13 : (Nat → Int32)) : Prop :=
  (∀ j, j < 12 → a9 j = E j) ∧ (∀ j, j < 12 → a7 j = D j) ∧ (∀ j ∈ EN, a10 j = LO j ∧ a11 j = AB j ∧ a12 j = NX j) ∧ aw_stk a13 PL
def aw_ok (FA : List Nat) (x : Int32) : Prop := x = -1 ∨ ∃ a, a < 24 ∧ x = nI a ∧ a ∉ FA
def aw_Q (FN FA : List Nat) (E NX : (Nat → Int32)) (PL EN : List Nat) : Prop :=
  EN.Nodup ∧ (∀ j ∈ EN, aw_U FN j) ∧ PL.Nodup ∧ (∀ j ∈ PL, j ∈ EN) ∧ (∀ j ∈ EN, 0 ≤ E j) ∧ (∀ j, j < 12 → j ∉ EN → ¬ 0 ≤ E j) ∧ ∀ j ∈ EN, aw_ok FA (NX j)
def aw_KX (S : List (Nat → Int32)) (m E D LO AB NX : (Nat → Int32)) (PL EN : List Nat) (gr : Int32) (post : St1 → Prop) : Prop :=
  ∀ (f4 : Int32) (a2 a3 a4 a5 a6 a7 a8 a9 a10 a11 a12 a13 : (Nat → Int32)), aw_R S m (nI S.length, nI PL.length, nI EN.length, gr, f4, m, a2, a3, a4, a5, a6, a7, a8, a9, a10, a11, a12, a13) → aw_W E D LO AB NX PL EN a7 a9 a10 a11 a12 a13 → post (nI S.length, nI PL.length, nI EN.length, gr, f4, m, a2, a3, a4, a5, a6, a7, a8, a9, a10, a11, a12, a13)
theorem aw_dl_ok {m : (Nat → Int32)} {FA : List Nat} {s : Nat} : ∀ {l : List Nat} {c : Nat} {p : Int32}, aw_dl m s c p l → (∀ a ∈ l, a ∉ FA) → aw_ok FA (m c) ∧ ∀ a ∈ l, aw_ok FA (m (105 + 10 * a + s)) := by
  intro l
  induction l with
  | nil => intro c p h _; exact ⟨Or.inl h, fun a ha => by cases ha⟩
  | cons a l ih =>
    intro c p h hf
    have t := ih h.2.2.2 (fun b hb => hf b (List.mem_cons_of_mem _ hb))
    refine ⟨Or.inr ⟨a, h.2.1, h.1, hf a (List.mem_cons_self ..)⟩, fun b hb => ?_⟩
    rcases List.mem_cons.mp hb with e | e
    · rw [e]; exact t.1
    · exact t.2 b e
theorem aw_ok_first {m : (Nat → Int32)} {FN FA : List Nat} {C : Nat → Nat → List Nat} {n : Nat} (hJ : aw_J m FN FA C) (hn : aw_U FN n) : aw_ok FA (m (19 + 7 * n)) :=
  (aw_dl_ok (hJ.2.2.2.2.2.2.1 n hn 0 (by omega)).1 (hJ.2.2.2.2.2.2.2.1 n hn 0 (by omega))).1
theorem aw_ok_next {m : (Nat → Int32)} {FN FA : List Nat} {C : Nat → Nat → List Nat} {a : Nat} (hJ : aw_J m FN FA C) (ha : a < 24) (haF : a ∉ FA) : aw_ok FA (m (105 + 10 * a)) := by
  obtain ⟨n, q1, q2, q3⟩ := (hJ.2.2.2.2.2.1 a ha haF).1 0 (by omega)
  exact (aw_dl_ok (hJ.2.2.2.2.2.2.1 n q1 0 (by omega)).1 (hJ.2.2.2.2.2.2.2.1 n q1 0 (by omega))).2 a q3
theorem aw_Q_enter {m : (Nat → Int32)} {FN FA PL EN : List Nat} {C : Nat → Nat → List Nat} {E NX : (Nat → Int32)} {n : Nat} (hJ : aw_J m FN FA C) (h : aw_Q FN FA E NX PL EN) (hn : aw_U FN n) (hnE : n ∉ EN) : aw_Q FN FA (upd E n (nI EN.length)) (upd NX n (m (19 + 7 * n))) (n :: PL) (n :: EN) := by
  obtain ⟨h1, h2, h3, h4, h5, h6, h7⟩ := h
  have hlen := aw_pig h1 (fun x hx => (h2 x hx).1)
  refine ⟨List.nodup_cons.mpr ⟨hnE, h1⟩, ?_, List.nodup_cons.mpr ⟨fun z => hnE (h4 n z), h3⟩, ?_, ?_, ?_, ?_⟩
  · intro j hj
    rcases List.mem_cons.mp hj with e | e
    · rw [e]; exact hn
    · exact h2 j e
  · intro j hj
    rcases List.mem_cons.mp hj with e | e
    · rw [e]; exact List.mem_cons_self ..
    · exact List.mem_cons_of_mem _ (h4 j e)
  · intro j hj
    by_cases e : j = n
    · rw [e, pk_us]; exact nI_pos' (by omega)
    · rw [pk_un e]
      exact h5 j ((List.mem_cons.mp hj).elim (fun q => absurd q e) id)
  · intro j hj hjE
    have e : j ≠ n := fun q => hjE (q ▸ List.mem_cons_self ..)
    rw [pk_un e]
    exact h6 j hj (fun q => hjE (List.mem_cons_of_mem _ q))
  · intro j hj
    by_cases e : j = n
    · rw [e, pk_us]; exact aw_ok_first hJ hn
    · rw [pk_un e]
      exact h7 j ((List.mem_cons.mp hj).elim (fun q => absurd q e) id)
theorem aw_enter {post : St1 → Prop} {S : List (Nat → Int32)} {m E D LO AB NX : (Nat → Int32)} {PL EN FN FA : List Nat} {gr x f4 : Int32} {n : Nat} {a2 a3 a4 a5 a6 a7 a8 a9 a10 a11 a12 a13 : (Nat → Int32)} (h : aw_Q FN FA E NX PL EN) (hn : aw_U FN n) (hnE : n ∉ EN)
    (hR : aw_R S m (nI S.length, nI PL.length, nI EN.length, gr, f4, m, a2, a3, a4, a5, a6, a7, a8, a9, a10, a11, a12, a13)) (hW : aw_W E D LO AB NX PL EN a7 a9 a10 a11 a12 a13)
    (H : aw_KX S m (upd E n (nI EN.length)) D (upd LO n (nI EN.length)) (upd AB n x) (upd NX n (m (19 + 7 * n))) (n :: PL) (n :: EN) gr post) :
    wpX_enter post (nI S.length, nI PL.length, nI EN.length, gr, f4, m, a2, a3, a4, a5, a6, a7, a8, a9, a10, a11, a12, a13) (nI n) x := by
  have hn12 := hn.1
  have cn : (nI n).toNatClampNeg = n := nI_clamp (by omega)
  have hp : PL.length < 12 := aw_pig1 h.2.2.1 (fun j hj => (h.2.1 j (h.2.2.2.1 j hj)).1) hn12 (fun z => hnE (h.2.2.2.1 n z))
  have cp : (nI PL.length).toNatClampNeg = PL.length := nI_clamp (by omega)
  have e3 : nI (16 + 7 * n) + 3 = nI (19 + 7 * n) := aw_e2 (16 + 7 * n) 3 _ (by omega)
  obtain ⟨w1, w2, w3, w4⟩ := hW
  unfold wpX_enter
  refine ⟨pk_in n 12 hn12, nm_r (congrArg (fun z => upd a9 z (nI EN.length)) cn) ⟨pk_in n 12 hn12, nm_r (congrArg (fun z => upd a10 z (nI EN.length)) cn) (nm_r (nI_1 EN.length) ⟨pk_in n 12 hn12, nm_r (congrArg (fun z => upd a11 z x) cn) (aw_na n rfl ⟨pk_in (19 + 7 * n) 340 (by omega) e3, pk_in n 12 hn12, nm_r (e' := upd a12 n (m (19 + 7 * n))) (by rw [cn, pk_cl (19 + 7 * n) e3]) ⟨pk_in PL.length 12 hp, nm_r (congrArg (fun z => upd a13 z (nI n)) cp) (nm_r (nI_1 PL.length) ?_)⟩⟩)⟩)⟩⟩
  refine H f4 a2 a3 a4 a5 a6 a7 a8 _ _ _ _ _ (aw_Rs hR) ⟨fun j hj => ?_, w2, fun j hj => ?_, pk_us, aw_stk_fr w4 (fun i hi => pk_un (by omega))⟩
  · by_cases e : j = n
    · rw [e, pk_us, pk_us]
    · rw [pk_un e, pk_un e]; exact w1 j hj
  · by_cases e : j = n
    · rw [e]
      exact ⟨by rw [pk_us, pk_us], by rw [pk_us, pk_us], by rw [pk_us, pk_us]⟩
    · obtain ⟨t1, t2, t3⟩ := w3 j ((List.mem_cons.mp hj).elim (fun q => absurd q e) id)
      exact ⟨by rw [pk_un e, pk_un e]; exact t1, by rw [pk_un e, pk_un e]; exact t2, by rw [pk_un e, pk_un e]; exact t3⟩
def aw_dn : (Nat → Int32) → List Nat → (Nat → Int32)
  | D, [] => D
  | D, x :: l => aw_dn (upd D x 1) l
theorem aw_leave_34 {post : St1 → Prop} {S : List (Nat → Int32)} {m E LO AB NX : (Nat → Int32)} {EN A : List Nat} {gr f4 : Int32} {n : Nat} (hn : n < 12) : ∀ (B : List Nat) (D : (Nat → Int32)) (f : Nat) (a2 a3 a4 a5 a6 a7 a8 a9 a10 a11 a12 a13 : (Nat → Int32)), B.length + 1 < f → n ∉ B → (∀ j ∈ B, j < 12) → (B ++ n :: A).length ≤ 12 →
    aw_R S m (nI S.length, nI (B ++ n :: A).length, nI EN.length, gr, f4, m, a2, a3, a4, a5, a6, a7, a8, a9, a10, a11, a12, a13) → aw_W E D LO AB NX (B ++ n :: A) EN a7 a9 a10 a11 a12 a13 → aw_KX S m E (aw_dn D (B ++ [n])) LO AB NX A EN gr post →
    wX_leave_34 post (nI n) (nI S.length) (nI EN.length) gr f4 f 1 (nI (B ++ n :: A).length) m a2 a3 a4 a5 a6 a7 a8 a9 a10 a11 a12 a13 := by
  have cn : (nI n).toNatClampNeg = n := nI_clamp (by omega)
  intro B
  induction B with
  | nil =>
    intro D f a2 a3 a4 a5 a6 a7 a8 a9 a10 a11 a12 a13 hf hnB hB hlen hR hW H
    obtain ⟨f, rfl⟩ : ∃ g, f = g + 2 := ⟨f - 2, by have : ([] : List Nat).length = 0 := rfl; omega⟩
    have hlen' : A.length + 1 ≤ 12 := hlen
    have cA : (nI A.length).toNatClampNeg = A.length := nI_clamp (by omega)
    obtain ⟨w1, w2, w3, w4, w5⟩ := hW
    have w4' : a13 A.length = nI n := w4
    refine br_f (by decide) (nm_r (nI_pred A.length) ⟨pk_in A.length 12 (by omega), pk_in n 12 hn (by rw [cA]; exact w4'), nm_r (e' := upd a7 n 1) (by rw [cA, w4', cn]) ⟨pk_in A.length 12 (by omega), br_t (by rw [cA]; exact w4') (br_t rfl ?_)⟩⟩)
    refine H f4 a2 a3 a4 a5 a6 _ a8 a9 a10 a11 a12 a13 (aw_Rs hR) ⟨w1, fun j hj => ?_, w3, w5⟩
    show upd a7 n 1 j = upd D n 1 j
    by_cases e : j = n
    · rw [e, pk_us, pk_us]
    · rw [pk_un e, pk_un e]; exact w2 j hj
  | cons b B ih =>
    intro D f a2 a3 a4 a5 a6 a7 a8 a9 a10 a11 a12 a13 hf hnB hB hlen hR hW H
    rw [List.length_cons] at hf
    obtain ⟨f, rfl⟩ : ∃ g, f = g + 1 := ⟨f - 1, by omega⟩
    have hb : b < 12 := hB b (List.mem_cons_self ..)
    have hbn : b ≠ n := fun e => hnB (e ▸ List.mem_cons_self ..)
    have hlen' : (B ++ n :: A).length + 1 ≤ 12 := hlen
    have cb : (nI b).toNatClampNeg = b := nI_clamp (by omega)
    have cA : (nI (B ++ n :: A).length).toNatClampNeg = (B ++ n :: A).length := nI_clamp (by omega)
    obtain ⟨w1, w2, w3, w4, w5⟩ := hW
    have w4' : a13 (B ++ n :: A).length = nI b := w4
    refine br_f (by decide) (nm_r (nI_pred (B ++ n :: A).length) ⟨pk_in (B ++ n :: A).length 12 (by omega), pk_in b 12 hb (by rw [cA]; exact w4'), nm_r (e' := upd a7 b 1) (by rw [cA, w4', cb]) ⟨pk_in (B ++ n :: A).length 12 (by omega), br_f (by rw [cA, w4']; exact aw_nIne (by omega) (by omega) hbn) ?_⟩⟩)
    refine ih (upd D b 1) f _ _ _ _ _ _ _ _ _ _ _ _ (by omega) (fun z => hnB (List.mem_cons_of_mem _ z)) (fun j hj => hB j (List.mem_cons_of_mem _ hj)) (by omega) (aw_Rs hR) ⟨w1, fun j hj => ?_, w3, w5⟩ H
    by_cases e : j = b
    · rw [e, pk_us, pk_us]
    · rw [pk_un e, pk_un e]; exact w2 j hj
theorem aw_sub {n : Nat} {r A : List Nat} : ∀ {B : List Nat}, n ∉ B → List.Sublist (n :: r) (B ++ n :: A) → List.Sublist r A := by
  intro B
  induction B with
  | nil => intro _ h; exact List.cons_sublist_cons.mp h
  | cons b B ih =>
    intro hn h
    have hne : n ≠ b := fun e => hn (e ▸ List.mem_cons_self ..)
    have h' : List.Sublist (n :: r) (b :: (B ++ n :: A)) := h
    cases h' with
    | cons _ h2 => exact ih (fun z => hn (List.mem_cons_of_mem _ z)) h2
    | cons_cons _ h2 => exact absurd rfl hne
theorem aw_leave {m E D LO AB NX : (Nat → Int32)} {PL EN FN FA : List Nat} {gr : Int32} {n : Nat} {r : List Nat} (h : aw_Q FN FA E NX PL EN) (hs : List.Sublist (n :: r) PL) (hu : aw_up AB (n :: r)) :
    ∃ D' LO' PL' gr', aw_Q FN FA E NX PL' EN ∧ List.Sublist r PL' ∧ ∀ (S : List (Nat → Int32)) (post : St1 → Prop), aw_KX S m E D' LO' AB NX PL' EN gr' post → ∀ (f4 : Int32) (a2 a3 a4 a5 a6 a7 a8 a9 a10 a11 a12 a13 : (Nat → Int32)),
      aw_R S m (nI S.length, nI PL.length, nI EN.length, gr, f4, m, a2, a3, a4, a5, a6, a7, a8, a9, a10, a11, a12, a13) → aw_W E D LO AB NX PL EN a7 a9 a10 a11 a12 a13 → wpX_leave post (nI S.length, nI PL.length, nI EN.length, gr, f4, m, a2, a3, a4, a5, a6, a7, a8, a9, a10, a11, a12, a13) (nI n) := by
  obtain ⟨h1, h2, h3, h4, h5, h6, h7⟩ := h
  have hnP : n ∈ PL := hs.subset (List.mem_cons_self ..)
  have hnE := h4 n hnP
  have hn12 := (h2 n hnE).1
  have cn : (nI n).toNatClampNeg = n := nI_clamp (by omega)
  have hup : AB n = aw_hd r := hu.1
  have hle : PL.length ≤ 12 := aw_pig h3 (fun j hj => (h2 j (h4 j hj)).1)
  by_cases c : LO n = E n
  · obtain ⟨B, A, rfl⟩ := List.append_of_mem hnP
    have hd := List.nodup_append.mp h3
    have hnB : n ∉ B := fun z => hd.2.2 n z n (List.mem_cons_self ..) rfl
    refine ⟨aw_dn D (B ++ [n]), LO, A, gr + 1, ⟨h1, h2, (List.nodup_cons.mp hd.2.1).2, fun j hj => h4 j (List.mem_append_right _ (List.mem_cons_of_mem _ hj)), h5, h6, h7⟩, aw_sub hnB hs, ?_⟩
    intro S post H f4 a2 a3 a4 a5 a6 a7 a8 a9 a10 a11 a12 a13 hR hW
    have hW' := hW
    obtain ⟨w1, w2, w3, w4⟩ := hW'
    obtain ⟨t1, t2, t3⟩ := w3 n hnE
    refine ⟨pk_in n 12 hn12, nm_e ⟨pk_in n 12 hn12, pk_in n 12 hn12, br_t (by rw [cn, t1, w1 n hn12]; exact c) (nm_e ⟨B.length + 2, ?_⟩)⟩⟩
    exact aw_leave_34 hn12 B D _ _ _ _ _ _ _ _ _ _ _ _ _ (by omega) hnB (fun j hj => (h2 j (h4 j (List.mem_append_left _ hj))).1) hle (aw_Rs hR) hW H
  · cases r with
    | nil =>
      refine ⟨D, LO, PL, gr, ⟨h1, h2, h3, h4, h5, h6, h7⟩, List.nil_sublist _, ?_⟩
      intro S post H f4 a2 a3 a4 a5 a6 a7 a8 a9 a10 a11 a12 a13 hR hW
      have hW' := hW
      obtain ⟨w1, w2, w3, w4⟩ := hW'
      obtain ⟨t1, t2, t3⟩ := w3 n hnE
      refine ⟨pk_in n 12 hn12, nm_r (e' := -1) (by rw [cn, t2]; exact hup) ⟨pk_in n 12 hn12, pk_in n 12 hn12, br_f (by rw [cn, t1, w1 n hn12]; exact c) (br_t (by decide) (H f4 a2 a3 a4 a5 a6 a7 a8 a9 a10 a11 a12 a13 hR hW))⟩⟩
    | cons y r =>
      have hy : y ∈ PL := hs.subset (List.mem_cons_of_mem _ (List.mem_cons_self ..))
      have hyE := h4 y hy
      have hy12 := (h2 y hyE).1
      have cy : (nI y).toNatClampNeg = y := nI_clamp (by omega)
      refine ⟨D, upd LO y (if LO y ≤ LO n then LO y else LO n), PL, gr, ⟨h1, h2, h3, h4, h5, h6, h7⟩, (List.sublist_cons_self ..).trans hs, ?_⟩
      intro S post H f4 a2 a3 a4 a5 a6 a7 a8 a9 a10 a11 a12 a13 hR hW
      have hW' := hW
      obtain ⟨w1, w2, w3, w4⟩ := hW'
      obtain ⟨t1, t2, t3⟩ := w3 n hnE
      obtain ⟨s1, s2, s3⟩ := w3 y hyE
      have key : ∀ v, v = (if LO y ≤ LO n then LO y else LO n) → post (nI S.length, nI PL.length, nI EN.length, gr, f4, m, a2, a3, a4, a5, a6, a7, a8, a9, (upd a10 y v), a11, a12, a13) := by
        intro v hv
        subst hv
        refine H f4 a2 a3 a4 a5 a6 a7 a8 a9 _ a11 a12 a13 (aw_Rs hR) ⟨w1, w2, fun j hj => ⟨?_, (w3 j hj).2⟩, w4⟩
        by_cases e : j = y
        · rw [e, pk_us, pk_us]
        · rw [pk_un e, pk_un e]; exact (w3 j hj).1
      refine ⟨pk_in n 12 hn12, nm_r (e' := nI y) (by rw [cn, t2]; exact hup) ⟨pk_in n 12 hn12, pk_in n 12 hn12, br_f (by rw [cn, t1, w1 n hn12]; exact c) (br_f (nI_pos (by omega)) ⟨pk_in n 12 hn12, pk_in y 12 hy12, ?_⟩)⟩⟩
      rw [cn, cy, t1, s1]
      refine br_c (fun q => ⟨pk_in y 12 hy12, pk_in y 12 hy12, nm_e (key _ (if_pos q).symm)⟩) (fun q => ⟨pk_in n 12 hn12, pk_in y 12 hy12, nm_e (key _ (if_neg q).symm)⟩)
end
section
/-! ===== walk ===== -/
theorem aw_W_nx {E D LO AB NX : (Nat → Int32)} {PL EN : List Nat} {n : Nat} {v : Int32} {a7 a9 a10 a11 a12 a13 : (Nat → Int32)} (h : aw_W E D LO AB NX PL EN a7 a9 a10 a11 a12 a13) : aw_W E D LO AB (upd NX n v) PL EN a7 a9 a10 a11 (upd a12 n v) a13 := by
  obtain ⟨w1, w2, w3, w4⟩ := h
  refine ⟨w1, w2, fun j hj => ⟨(w3 j hj).1, (w3 j hj).2.1, ?_⟩, w4⟩
  by_cases e : j = n
  · rw [e, pk_us, pk_us]
  · rw [pk_un e, pk_un e]; exact (w3 j hj).2.2
theorem aw_W_lo {E D LO AB NX : (Nat → Int32)} {PL EN : List Nat} {n : Nat} {v : Int32} {a7 a9 a10 a11 a12 a13 : (Nat → Int32)} (h : aw_W E D LO AB NX PL EN a7 a9 a10 a11 a12 a13) : aw_W E D (upd LO n v) AB NX PL EN a7 a9 (upd a10 n v) a11 a12 a13 := by
  obtain ⟨w1, w2, w3, w4⟩ := h
  refine ⟨w1, w2, fun j hj => ⟨?_, (w3 j hj).2⟩, w4⟩
  by_cases e : j = n
  · rw [e, pk_us, pk_us]
  · rw [pk_un e, pk_un e]; exact (w3 j hj).1
theorem aw_walk_l {m : (Nat → Int32)} {FN FA : List Nat} {C : Nat → Nat → List Nat} {t : Nat} (hJ : aw_J m FN FA C) (ht : t ≤ 4) : ∀ (d step : Nat) (E D LO AB NX : (Nat → Int32)) (PL EN : List Nat) (gr : Int32) (path : List Nat), step + d = 100 → aw_Q FN FA E NX PL EN → List.Sublist path PL → aw_up AB path →
    ∃ (E' D' LO' AB' NX' : (Nat → Int32)) (PL' EN' : List Nat) (gr' : Int32), aw_Q FN FA E' NX' PL' EN' ∧ ∀ (S : List (Nat → Int32)) (post : St1 → Prop) (f : Nat), d < f → aw_KX S m E' D' LO' AB' NX' PL' EN' gr' post → ∀ (f4 : Int32) (a2 a3 a4 a5 a6 a7 a8 a9 a10 a11 a12 a13 : (Nat → Int32)),
      aw_R S m (nI S.length, nI PL.length, nI EN.length, gr, f4, m, a2, a3, a4, a5, a6, a7, a8, a9, a10, a11, a12, a13) → aw_W E D LO AB NX PL EN a7 a9 a10 a11 a12 a13 → wX_walk_11 post (nI t) f (aw_hd path) (nI step) (nI S.length) (nI PL.length) (nI EN.length) gr f4 m a2 a3 a4 a5 a6 a7 a8 a9 a10 a11 a12 a13 := by
  intro d
  induction d with
  | zero =>
    intro step E D LO AB NX PL EN gr path hd hQ hs hu
    refine ⟨E, D, LO, AB, NX, PL, EN, gr, hQ, ?_⟩
    intro S post f hf H f4 a2 a3 a4 a5 a6 a7 a8 a9 a10 a11 a12 a13 hR hW
    obtain ⟨f, rfl⟩ : ∃ g, f = g + 1 := ⟨f - 1, by omega⟩
    have e : step = 100 := by omega
    subst e
    exact br_t (by decide) (H f4 a2 a3 a4 a5 a6 a7 a8 a9 a10 a11 a12 a13 hR hW)
  | succ d ih =>
    intro step E D LO AB NX PL EN gr path hd hQ hs hu
    cases path with
    | nil =>
      refine ⟨E, D, LO, AB, NX, PL, EN, gr, hQ, ?_⟩
      intro S post f hf H f4 a2 a3 a4 a5 a6 a7 a8 a9 a10 a11 a12 a13 hR hW
      obtain ⟨f, rfl⟩ : ∃ g, f = g + 1 := ⟨f - 1, by omega⟩
      have go := H f4 a2 a3 a4 a5 a6 a7 a8 a9 a10 a11 a12 a13 hR hW
      exact br_c (fun _ => go) (fun _ => br_t (by decide) go)
    | cons n r =>
      have hnP : n ∈ PL := hs.subset (List.mem_cons_self ..)
      have hnE := hQ.2.2.2.1 n hnP
      have hn12 := (hQ.2.1 n hnE).1
      have cn : (nI n).toNatClampNeg = n := nI_clamp (by omega)
      have eh : aw_hd (n :: r) = nI n := rfl
      rcases hQ.2.2.2.2.2.2 n hnE with ea | ⟨a, ha, ea, haF⟩
      · obtain ⟨D1, LO1, PL1, gr1, q1, q2, W1⟩ := aw_leave (m := m) (D := D) (LO := LO) (gr := gr) hQ hs hu
        obtain ⟨E', D', LO', AB', NX', PL', EN', gr', g1, g2⟩ := ih (step + 1) E D1 LO1 AB NX PL1 EN gr1 r (by omega) q1 q2 hu.2
        refine ⟨E', D', LO', AB', NX', PL', EN', gr', g1, ?_⟩
        intro S post f hf H f4 a2 a3 a4 a5 a6 a7 a8 a9 a10 a11 a12 a13 hR hW
        obtain ⟨f, rfl⟩ : ∃ g, f = g + 1 := ⟨f - 1, by omega⟩
        obtain ⟨t1, t2, t3⟩ := hW.2.2.1 n hnE
        rw [eh]
        refine br_f (nI_ge (b := 100) (by omega) (by decide)) (br_f (nI_pos (by omega)) ⟨pk_in n 12 hn12, nm_r (e' := -1) (by rw [cn, t3]; exact ea) (br_f (by decide) ?_)⟩)
        refine W1 S _ (fun f4 a2 a3 a4 a5 a6 a7 a8 a9 a10 a11 a12 a13 hR2 hW2 => ?_) f4 a2 a3 a4 a5 a6 a7 a8 a9 a10 a11 a12 a13 hR hW
        obtain ⟨t1', t2', t3'⟩ := hW2.2.2.1 n hnE
        exact ⟨pk_in n 12 hn12, nm_r (e' := aw_hd r) (by rw [cn, t2']; exact hu.1) (nm_r (nI_1 step) (g2 S post f (by omega) H f4 a2 a3 a4 a5 a6 a7 a8 a9 a10 a11 a12 a13 hR2 hW2))⟩
      · obtain ⟨k, hku, ek, _⟩ := (hJ.2.2.2.2.2.1 a ha haF).1 1 (by omega)
        have hk12 := hku.1
        have ck : (nI k).toNatClampNeg = k := nI_clamp (by omega)
        have e5 : nI (100 + 10 * a) + 5 = nI (105 + 10 * a) := aw_e2 (100 + 10 * a) 5 _ (by omega)
        have e2 : nI (100 + 10 * a) + 1 + 1 = nI (101 + 10 * a + 1) := aw_e3 (100 + 10 * a) 1 1 _ (by omega)
        have hQ1 : aw_Q FN FA E (upd NX n (m (105 + 10 * a))) PL EN := by
          obtain ⟨h1, h2, h3, h4, h5, h6, h7⟩ := hQ
          refine ⟨h1, h2, h3, h4, h5, h6, fun j hj => ?_⟩
          by_cases e : j = n
          · rw [e, pk_us]; exact aw_ok_next hJ ha haF
          · rw [pk_un e]; exact h7 j hj
        by_cases cT : aw_T m a t
        rotate_left
        · obtain ⟨E', D', LO', AB', NX', PL', EN', gr', g1, g2⟩ := ih (step + 1) E D LO AB _ PL EN gr (n :: r) (by omega) hQ1 hs hu
          refine ⟨E', D', LO', AB', NX', PL', EN', gr', g1, ?_⟩
          intro S post f hf H f4 a2 a3 a4 a5 a6 a7 a8 a9 a10 a11 a12 a13 hR hW
          obtain ⟨f, rfl⟩ : ∃ g, f = g + 1 := ⟨f - 1, by omega⟩
          have hW' := hW
          obtain ⟨w1, w2, w3, w4⟩ := hW'
          obtain ⟨t1, t2, t3⟩ := w3 n hnE
          have hW1 : aw_W E D LO AB (upd NX n (m (105 + 10 * a))) PL EN a7 a9 a10 a11 (upd a12 n (m (105 + 10 * a))) a13 := aw_W_nx hW
          rw [eh]
          refine br_f (nI_ge (b := 100) (by omega) (by decide)) (br_f (nI_pos (by omega)) ⟨pk_in n 12 hn12, nm_r (e' := nI a) (by rw [cn, t3]; exact ea) (br_t (nI_pos' (by omega)) (aw_ac a rfl ⟨pk_in (105 + 10 * a) 340 (by omega) e5, pk_in n 12 hn12, nm_r (e' := upd a12 n (m (105 + 10 * a))) (by rw [cn, pk_cl (105 + 10 * a) e5]) (aw_ac a rfl ⟨pk_in (101 + 10 * a + 1) 340 (by omega) e2, nm_r (e' := nI k) (by rw [pk_cl (101 + 10 * a + 1) e2]; exact ek) ?_⟩)⟩))⟩)
          refine aw_isOf (m := m) a t rfl rfl ha ht rfl (fun z => absurd z cT) (fun _ => br_t rfl ?_)
          refine aw_isOf (m := m) a t rfl rfl ha ht rfl (fun z => absurd z cT) (fun _ => br_t rfl (nm_r (nI_1 step) ?_))
          exact g2 S post f (by omega) H f4 _ _ _ _ _ _ _ _ _ _ _ _ (aw_Rs hR) hW1
        by_cases cE : k ∈ EN
        rotate_left
        · have hQ2 := aw_Q_enter hJ hQ1 hku cE
          have hs2 : List.Sublist (k :: n :: r) (k :: PL) := List.cons_sublist_cons.mpr hs
          have hu2 : aw_up (upd AB k (nI n)) (k :: n :: r) := ⟨pk_us, aw_up_fr hu (fun y hy => pk_un (fun e => cE (e ▸ hQ.2.2.2.1 y (hs.subset hy))))⟩
          obtain ⟨E', D', LO', AB', NX', PL', EN', gr', g1, g2⟩ := ih (step + 1) _ D (upd LO k (nI EN.length)) _ _ _ _ gr (k :: n :: r) (by omega) hQ2 hs2 hu2
          refine ⟨E', D', LO', AB', NX', PL', EN', gr', g1, ?_⟩
          intro S post f hf H f4 a2 a3 a4 a5 a6 a7 a8 a9 a10 a11 a12 a13 hR hW
          obtain ⟨f, rfl⟩ : ∃ g, f = g + 1 := ⟨f - 1, by omega⟩
          have hW' := hW
          obtain ⟨w1, w2, w3, w4⟩ := hW'
          obtain ⟨t1, t2, t3⟩ := w3 n hnE
          have hW1 : aw_W E D LO AB (upd NX n (m (105 + 10 * a))) PL EN a7 a9 a10 a11 (upd a12 n (m (105 + 10 * a))) a13 := aw_W_nx hW
          rw [eh]
          refine br_f (nI_ge (b := 100) (by omega) (by decide)) (br_f (nI_pos (by omega)) ⟨pk_in n 12 hn12, nm_r (e' := nI a) (by rw [cn, t3]; exact ea) (br_t (nI_pos' (by omega)) (aw_ac a rfl ⟨pk_in (105 + 10 * a) 340 (by omega) e5, pk_in n 12 hn12, nm_r (e' := upd a12 n (m (105 + 10 * a))) (by rw [cn, pk_cl (105 + 10 * a) e5]) (aw_ac a rfl ⟨pk_in (101 + 10 * a + 1) 340 (by omega) e2, nm_r (e' := nI k) (by rw [pk_cl (101 + 10 * a + 1) e2]; exact ek) ?_⟩)⟩))⟩)
          refine aw_isOf (m := m) a t rfl rfl ha ht rfl (fun _ => br_f (by decide) ⟨pk_in k 12 hk12, br_f (by rw [ck, w1 k hk12]; exact hQ.2.2.2.2.2.1 k hk12 cE) ?_⟩) (fun z => absurd cT z)
          refine aw_enter hQ1 hku cE (aw_Rs hR) hW1 (fun f4 a2 a3 a4 a5 a6 a7 a8 a9 a10 a11 a12 a13 hR2 hW2 => nm_r (nI_1 step) ?_)
          exact g2 S post f (by omega) H f4 a2 a3 a4 a5 a6 a7 a8 a9 a10 a11 a12 a13 hR2 hW2
        by_cases cD : D k = 0
        · obtain ⟨E', D', LO', AB', NX', PL', EN', gr', g1, g2⟩ := ih (step + 1) E D (upd LO n (if LO n ≤ E k then LO n else E k)) AB _ PL EN gr (n :: r) (by omega) hQ1 hs hu
          refine ⟨E', D', LO', AB', NX', PL', EN', gr', g1, ?_⟩
          intro S post f hf H f4 a2 a3 a4 a5 a6 a7 a8 a9 a10 a11 a12 a13 hR hW
          obtain ⟨f, rfl⟩ : ∃ g, f = g + 1 := ⟨f - 1, by omega⟩
          have hW' := hW
          obtain ⟨w1, w2, w3, w4⟩ := hW'
          obtain ⟨t1, t2, t3⟩ := w3 n hnE
          have hW1 : aw_W E D LO AB (upd NX n (m (105 + 10 * a))) PL EN a7 a9 a10 a11 (upd a12 n (m (105 + 10 * a))) a13 := aw_W_nx hW
          rw [eh]
          refine br_f (nI_ge (b := 100) (by omega) (by decide)) (br_f (nI_pos (by omega)) ⟨pk_in n 12 hn12, nm_r (e' := nI a) (by rw [cn, t3]; exact ea) (br_t (nI_pos' (by omega)) (aw_ac a rfl ⟨pk_in (105 + 10 * a) 340 (by omega) e5, pk_in n 12 hn12, nm_r (e' := upd a12 n (m (105 + 10 * a))) (by rw [cn, pk_cl (105 + 10 * a) e5]) (aw_ac a rfl ⟨pk_in (101 + 10 * a + 1) 340 (by omega) e2, nm_r (e' := nI k) (by rw [pk_cl (101 + 10 * a + 1) e2]; exact ek) ?_⟩)⟩))⟩)
          refine aw_isOf (m := m) a t rfl rfl ha ht rfl (fun _ => br_f (by decide) ⟨pk_in k 12 hk12, br_t (by rw [ck, w1 k hk12]; exact hQ.2.2.2.2.1 k cE) ?_⟩) (fun z => absurd cT z)
          refine aw_isOf (m := m) a t rfl rfl ha ht rfl (fun _ => br_f (by decide) ⟨pk_in k 12 hk12, br_t (by rw [ck, w2 k hk12]; exact cD) ⟨pk_in k 12 hk12, pk_in n 12 hn12, ?_⟩⟩) (fun z => absurd cT z)
          have key : ∀ v, v = (if LO n ≤ E k then LO n else E k) → wX_walk_11 post (nI t) f (nI n) (nI (step + 1)) (nI S.length) (nI PL.length) (nI EN.length) gr f4 m a2 a3 a4 a5 a6 a7 a8 a9 (upd a10 n v) a11 (upd a12 n (m (105 + 10 * a))) a13 := by
            intro v hv
            subst hv
            exact g2 S post f (by omega) H f4 _ _ _ _ _ _ _ _ _ _ _ _ (aw_Rs hR) (aw_W_lo hW1)
          rw [cn, ck, t1, w1 k hk12]
          exact br_c (fun q => ⟨pk_in n 12 hn12, pk_in n 12 hn12, nm_e (nm_r (nI_1 step) (key _ (if_pos q).symm))⟩) (fun q => ⟨pk_in k 12 hk12, pk_in n 12 hn12, nm_e (nm_r (nI_1 step) (key _ (if_neg q).symm))⟩)
        · obtain ⟨E', D', LO', AB', NX', PL', EN', gr', g1, g2⟩ := ih (step + 1) E D LO AB _ PL EN gr (n :: r) (by omega) hQ1 hs hu
          refine ⟨E', D', LO', AB', NX', PL', EN', gr', g1, ?_⟩
          intro S post f hf H f4 a2 a3 a4 a5 a6 a7 a8 a9 a10 a11 a12 a13 hR hW
          obtain ⟨f, rfl⟩ : ∃ g, f = g + 1 := ⟨f - 1, by omega⟩
          have hW' := hW
          obtain ⟨w1, w2, w3, w4⟩ := hW'
          obtain ⟨t1, t2, t3⟩ := w3 n hnE
          have hW1 : aw_W E D LO AB (upd NX n (m (105 + 10 * a))) PL EN a7 a9 a10 a11 (upd a12 n (m (105 + 10 * a))) a13 := aw_W_nx hW
          rw [eh]
          refine br_f (nI_ge (b := 100) (by omega) (by decide)) (br_f (nI_pos (by omega)) ⟨pk_in n 12 hn12, nm_r (e' := nI a) (by rw [cn, t3]; exact ea) (br_t (nI_pos' (by omega)) (aw_ac a rfl ⟨pk_in (105 + 10 * a) 340 (by omega) e5, pk_in n 12 hn12, nm_r (e' := upd a12 n (m (105 + 10 * a))) (by rw [cn, pk_cl (105 + 10 * a) e5]) (aw_ac a rfl ⟨pk_in (101 + 10 * a + 1) 340 (by omega) e2, nm_r (e' := nI k) (by rw [pk_cl (101 + 10 * a + 1) e2]; exact ek) ?_⟩)⟩))⟩)
          refine aw_isOf (m := m) a t rfl rfl ha ht rfl (fun _ => br_f (by decide) ⟨pk_in k 12 hk12, br_t (by rw [ck, w1 k hk12]; exact hQ.2.2.2.2.1 k cE) ?_⟩) (fun z => absurd cT z)
          refine aw_isOf (m := m) a t rfl rfl ha ht rfl (fun _ => br_f (by decide) ⟨pk_in k 12 hk12, br_f (by rw [ck, w2 k hk12]; exact cD) (nm_r (nI_1 step) ?_)⟩) (fun z => absurd cT z)
          exact g2 S post f (by omega) H f4 _ _ _ _ _ _ _ _ _ _ _ _ (aw_Rs hR) hW1
theorem aw_walk {m : (Nat → Int32)} {FN FA : List Nat} {C : Nat → Nat → List Nat} {t n : Nat} (hJ : aw_J m FN FA C) (ht : t ≤ 4) {E D LO AB NX : (Nat → Int32)} {PL EN : List Nat} {gr : Int32} (hQ : aw_Q FN FA E NX PL EN) (hn : aw_U FN n) (hnE : n ∉ EN) :
    ∃ (E' D' LO' AB' NX' : (Nat → Int32)) (PL' EN' : List Nat) (gr' : Int32), aw_Q FN FA E' NX' PL' EN' ∧ ∀ (S : List (Nat → Int32)) (post : St1 → Prop), aw_KX S m E' D' LO' AB' NX' PL' EN' gr' post → ∀ (f4 : Int32) (a2 a3 a4 a5 a6 a7 a8 a9 a10 a11 a12 a13 : (Nat → Int32)),
      aw_R S m (nI S.length, nI PL.length, nI EN.length, gr, f4, m, a2, a3, a4, a5, a6, a7, a8, a9, a10, a11, a12, a13) → aw_W E D LO AB NX PL EN a7 a9 a10 a11 a12 a13 → wpX_walk post (nI S.length, nI PL.length, nI EN.length, gr, f4, m, a2, a3, a4, a5, a6, a7, a8, a9, a10, a11, a12, a13) (nI n) (nI t) := by
  have hQ2 := aw_Q_enter hJ hQ hn hnE
  obtain ⟨E', D', LO', AB', NX', PL', EN', gr', g1, g2⟩ := aw_walk_l hJ ht 100 0 _ D (upd LO n (nI EN.length)) (upd AB n (-1)) _ _ _ gr [n] (by omega) hQ2 (List.cons_sublist_cons.mpr (List.nil_sublist _)) ⟨pk_us, trivial⟩
  refine ⟨E', D', LO', AB', NX', PL', EN', gr', g1, ?_⟩
  intro S post H f4 a2 a3 a4 a5 a6 a7 a8 a9 a10 a11 a12 a13 hR hW
  unfold wpX_walk
  refine aw_enter hQ hn hnE hR hW (fun f4 a2 a3 a4 a5 a6 a7 a8 a9 a10 a11 a12 a13 hR2 hW2 => ?_)
  exact ⟨101, g2 S post 101 (by omega) H f4 a2 a3 a4 a5 a6 a7 a8 a9 a10 a11 a12 a13 hR2 hW2⟩
theorem aw_rounds_54 {m : (Nat → Int32)} {FN FA : List Nat} {C : Nat → Nat → List Nat} {t : Nat} (hJ : aw_J m FN FA C) (ht : t ≤ 4) : ∀ (d n : Nat) (E D LO AB NX : (Nat → Int32)) (PL EN : List Nat) (gr : Int32), n + d = 12 → aw_Q FN FA E NX PL EN →
    ∃ r, ∀ (S : List (Nat → Int32)) (post : Int32 → St1 → Prop) (f : Nat), d < f → aw_K S m (post r) → ∀ (f4 : Int32) (a2 a3 a4 a5 a6 a7 a8 a9 a10 a11 a12 a13 : (Nat → Int32)),
      aw_R S m (nI S.length, nI PL.length, nI EN.length, gr, f4, m, a2, a3, a4, a5, a6, a7, a8, a9, a10, a11, a12, a13) → aw_W E D LO AB NX PL EN a7 a9 a10 a11 a12 a13 → wX_rounds_54 post (nI t) f (nI n) (nI S.length) (nI PL.length) (nI EN.length) gr f4 m a2 a3 a4 a5 a6 a7 a8 a9 a10 a11 a12 a13 := by
  intro d
  induction d with
  | zero =>
    intro n E D LO AB NX PL EN gr hd hQ
    refine ⟨gr, ?_⟩
    intro S post f hf H f4 a2 a3 a4 a5 a6 a7 a8 a9 a10 a11 a12 a13 hR hW
    obtain ⟨f, rfl⟩ : ∃ g, f = g + 1 := ⟨f - 1, by omega⟩
    have e : n = 12 := by omega
    subst e
    exact br_t (by decide) (H _ _ _ _ _ _ _ _ _ _ _ _ _ _ _ _ hR)
  | succ d ih =>
    intro n E D LO AB NX PL EN gr hd hQ
    have hn : n < 12 := by omega
    have cn : (nI n).toNatClampNeg = n := nI_clamp (by omega)
    by_cases c : aw_U FN n ∧ n ∉ EN
    · obtain ⟨E', D', LO', AB', NX', PL', EN', gr', g1, g2⟩ := aw_walk (D := D) (LO := LO) (AB := AB) (gr := gr) hJ ht hQ c.1 c.2
      obtain ⟨r, hr⟩ := ih (n + 1) E' D' LO' AB' NX' PL' EN' gr' (by omega) g1
      refine ⟨r, ?_⟩
      intro S post f hf H f4 a2 a3 a4 a5 a6 a7 a8 a9 a10 a11 a12 a13 hR hW
      obtain ⟨f, rfl⟩ : ∃ g, f = g + 1 := ⟨f - 1, by omega⟩
      refine br_f (nI_ge (b := 12) hn (by decide)) (aw_isNodeU (m := m) n rfl hn rfl hJ (fun _ => br_f (by decide) ⟨pk_in n 12 hn, br_f ?_ ?_⟩) (fun z => absurd z c.1.2))
      · rw [cn, hW.1 n hn]; exact hQ.2.2.2.2.2.1 n hn c.2
      · refine g2 S _ (fun f4 a2 a3 a4 a5 a6 a7 a8 a9 a10 a11 a12 a13 hR2 hW2 => nm_r (nI_1 n) ?_) f4 a2 a3 a4 a5 a6 a7 a8 a9 a10 a11 a12 a13 hR hW
        exact hr S post f (by omega) H f4 a2 a3 a4 a5 a6 a7 a8 a9 a10 a11 a12 a13 hR2 hW2
    · obtain ⟨r, hr⟩ := ih (n + 1) E D LO AB NX PL EN gr (by omega) hQ
      refine ⟨r, ?_⟩
      intro S post f hf H f4 a2 a3 a4 a5 a6 a7 a8 a9 a10 a11 a12 a13 hR hW
      obtain ⟨f, rfl⟩ : ∃ g, f = g + 1 := ⟨f - 1, by omega⟩
      have go := hr S post f (by omega) H f4 a2 a3 a4 a5 a6 a7 a8 a9 a10 a11 a12 a13 hR hW
      refine br_f (nI_ge (b := 12) hn (by decide)) (aw_isNodeU (m := m) n rfl hn rfl hJ (fun hu => br_f (by decide) ⟨pk_in n 12 hn, br_t ?_ (nm_r (nI_1 n) go)⟩) (fun z => br_t rfl (nm_r (nI_1 n) go)))
      rw [cn, hW.1 n hn]
      exact hQ.2.2.2.2.1 n (Classical.byContradiction (fun y => c ⟨hu, y⟩))
theorem aw_rounds_26 {m : (Nat → Int32)} {r : Int32} {t : Nat} (hr : ∀ (S : List (Nat → Int32)) (post : Int32 → St1 → Prop) (f : Nat), 12 < f → aw_K S m (post r) → ∀ (f4 : Int32) (a2 a3 a4 a5 a6 a7 a8 a9 a10 a11 a12 a13 : (Nat → Int32)),
      aw_R S m (nI S.length, nI ([] : List Nat).length, nI ([] : List Nat).length, 0, f4, m, a2, a3, a4, a5, a6, a7, a8, a9, a10, a11, a12, a13) → aw_W (fun _ => -1) (fun _ => 0) (fun _ => 0) (fun _ => 0) (fun _ => 0) [] [] a7 a9 a10 a11 a12 a13 → wX_rounds_54 post (nI t) f (nI 0) (nI S.length) (nI ([] : List Nat).length) (nI ([] : List Nat).length) 0 f4 m a2 a3 a4 a5 a6 a7 a8 a9 a10 a11 a12 a13)
    {S : List (Nat → Int32)} {post : Int32 → St1 → Prop} (H : aw_K S m (post r)) : ∀ (d n f : Nat) (f4 : Int32) (a2 a3 a4 a5 a6 a7 a8 a9 a10 a11 a12 a13 : (Nat → Int32)), n + d = 12 → d < f → aw_R S m (nI S.length, 0, 0, 0, f4, m, a2, a3, a4, a5, a6, a7, a8, a9, a10, a11, a12, a13) → (∀ j, j < n → a9 j = -1 ∧ a7 j = 0) → wX_rounds_26 post (nI t) (nI S.length) 0 0 0 f4 f (nI n) m a2 a3 a4 a5 a6 a7 a8 a9 a10 a11 a12 a13 := by
  intro d
  induction d with
  | zero =>
    intro n f f4 a2 a3 a4 a5 a6 a7 a8 a9 a10 a11 a12 a13 hd hf hR hz
    obtain ⟨f, rfl⟩ : ∃ g, f = g + 1 := ⟨f - 1, by omega⟩
    have e : n = 12 := by omega
    subst e
    exact br_t (by decide) ⟨13, hr S post 13 (by omega) H f4 a2 a3 a4 a5 a6 a7 a8 a9 a10 a11 a12 a13 hR ⟨fun j hj => (hz j hj).1, fun j hj => (hz j hj).2, fun j hj => (by cases hj), trivial⟩⟩
  | succ d ih =>
    intro n f f4 a2 a3 a4 a5 a6 a7 a8 a9 a10 a11 a12 a13 hd hf hR hz
    obtain ⟨f, rfl⟩ : ∃ g, f = g + 1 := ⟨f - 1, by omega⟩
    have hn : n < 12 := by omega
    have cn : (nI n).toNatClampNeg = n := nI_clamp (by omega)
    refine br_f (nI_ge (b := 12) hn (by decide)) ⟨pk_in n 12 hn, nm_r (congrArg (fun z => upd a9 z (-1)) cn) ⟨pk_in n 12 hn, nm_r (congrArg (fun z => upd a7 z 0) cn) (nm_r (nI_1 n) ?_)⟩⟩
    refine ih (n + 1) f f4 _ _ _ _ _ _ _ _ _ _ _ _ (by omega) (by omega) (aw_Rs hR) (fun j hj => ?_)
    by_cases e : j = n
    · rw [e, pk_us, pk_us]; exact ⟨rfl, rfl⟩
    · rw [pk_un e, pk_un e]; exact hz j (by omega)
theorem aw_roundsE {m : (Nat → Int32)} {t : Nat} (hV : aw_V m) (ht : t ≤ 4) : ∃ r, ∀ (S : List (Nat → Int32)) (u : St1) (post : Int32 → St1 → Prop), aw_R S m u → aw_K S m (post r) → wpX_rounds post u (nI t) := by
  obtain ⟨FN, FA, C, RW, hJ, hR, hU⟩ := hV
  have hQ : aw_Q FN FA (fun _ => -1) (fun _ => 0) [] [] := ⟨List.nodup_nil, fun j hj => (by cases hj), List.nodup_nil, fun j hj => (by cases hj), fun j hj => (by cases hj), fun j _ _ => (by show ¬ (0 : Int32) ≤ -1; decide), fun j hj => (by cases hj)⟩
  obtain ⟨r, hr⟩ := aw_rounds_54 hJ ht 12 0 _ (fun _ => 0) (fun _ => 0) (fun _ => 0) _ _ _ 0 (by omega) hQ
  refine ⟨r, ?_⟩
  intro S u post h H
  obtain ⟨f0, f1, f2, f3, f4, a1, a2, a3, a4, a5, a6, a7, a8, a9, a10, a11, a12, a13⟩ := u
  have h' := h
  obtain ⟨rfl, rfl, _⟩ := h'
  unfold wpX_rounds
  refine aw_isType t rfl ht (br_f (by decide) ⟨13, ?_⟩)
  exact aw_rounds_26 hr H 12 0 13 f4 a2 a3 a4 a5 a6 a7 a8 a9 a10 a11 a12 a13 (by omega) (by omega) (aw_Rs h) (fun j hj => absurd hj (by omega))
end
section
/-! ===== same: two states with the same cells ===== -/
def aw_K2 (S S' : List (Nat → Int32)) (m m' : (Nat → Int32)) (post : St3 → Prop) : Prop := ∀ (f1 f2 f3 f4 : Int32) (a2 a3 a4 a5 a6 a7 a8 a9 a10 a11 a12 a13 : Nat → Int32), ∀ (e1 e2 e3 e4 : Int32) (b2 b3 b4 b5 b6 b7 b8 b9 b10 b11 b12 b13 : Nat → Int32), aw_R S m (nI S.length, f1, f2, f3, f4, m, a2, a3, a4, a5, a6, a7, a8, a9, a10, a11, a12, a13) → aw_R S' m' (nI S'.length, e1, e2, e3, e4, m', b2, b3, b4, b5, b6, b7, b8, b9, b10, b11, b12, b13) → post (nI S.length, f1, f2, f3, f4, m, a2, a3, a4, a5, a6, a7, a8, a9, a10, a11, a12, a13, nI S'.length, e1, e2, e3, e4, m', b2, b3, b4, b5, b6, b7, b8, b9, b10, b11, b12, b13)
theorem aw_same_200 {post : Int32 → St3 → Prop} {J : Int32 → Prop} {f0 f1 f2 f3 f4 : Int32} {a2 a3 a4 a5 a6 a7 a8 a9 a10 a11 a12 a13 : Nat → Int32} {e0 e1 e2 e3 e4 : Int32} {b2 b3 b4 b5 b6 b7 b8 b9 b10 b11 b12 b13 : Nat → Int32} {m : (Nat → Int32)} {a : Nat} (hV : aw_V m) (ha : a < 24) (H : J (nI (a + 1))) : ∀ (d w f : Nat), w + d = 4 → d < f → wL_same_200 post J (nI a) f0 f1 f2 f3 f4 m a2 a3 a4 a5 a6 a7 a8 a9 a10 a11 a12 a13 e0 e1 e2 e3 e4 m b2 b3 b4 b5 b6 b7 b8 b9 b10 b11 b12 b13 f (nI w) := by
  intro d
  induction d with
  | zero =>
    intro w f h hf
    obtain ⟨f, rfl⟩ : ∃ g, f = g + 1 := ⟨f - 1, by omega⟩
    have e : w = 4 := by omega
    subst e
    exact br_t (by decide) (nm_r (nI_1 a) H)
  | succ d ih =>
    intro w f h hf
    obtain ⟨f, rfl⟩ : ∃ g, f = g + 1 := ⟨f - 1, by omega⟩
    obtain ⟨r, hr⟩ := aw_lookE (a := a) (w := w) hV ha (by omega)
    exact br_f (nI_ge (b := 4) (by omega) (by decide)) (hr _ _ rfl (hr _ _ rfl (br_t rfl (nm_r (nI_1 w) (ih (w + 1) f (by omega) (by omega))))))
theorem aw_same_192 {post : Int32 → St3 → Prop} {f0 f1 f2 f3 f4 : Int32} {a2 a3 a4 a5 a6 a7 a8 a9 a10 a11 a12 a13 : Nat → Int32} {e0 e1 e2 e3 e4 : Int32} {b2 b3 b4 b5 b6 b7 b8 b9 b10 b11 b12 b13 : Nat → Int32} {m : (Nat → Int32)} (hV : aw_V m) (H : post 1 (f0, f1, f2, f3, f4, m, a2, a3, a4, a5, a6, a7, a8, a9, a10, a11, a12, a13, e0, e1, e2, e3, e4, m, b2, b3, b4, b5, b6, b7, b8, b9, b10, b11, b12, b13)) : ∀ (d a f : Nat), a + d = 24 → d < f → wL_same_192 post f0 f1 f2 f3 f4 m a2 a3 a4 a5 a6 a7 a8 a9 a10 a11 a12 a13 e0 e1 e2 e3 e4 m b2 b3 b4 b5 b6 b7 b8 b9 b10 b11 b12 b13 f (nI a) := by
  intro d
  induction d with
  | zero =>
    intro a f h hf
    obtain ⟨f, rfl⟩ : ∃ g, f = g + 1 := ⟨f - 1, by omega⟩
    have e : a = 24 := by omega
    subst e
    exact br_t (by decide) H
  | succ d ih =>
    intro a f h hf
    obtain ⟨f, rfl⟩ : ∃ g, f = g + 1 := ⟨f - 1, by omega⟩
    exact br_f (nI_ge (b := 24) (by omega) (by decide)) ⟨5, aw_same_200 hV (by omega) (ih (a + 1) f (by omega) (by omega)) 4 0 5 (by omega) (by omega)⟩
theorem aw_same_119 {post : Int32 → St3 → Prop} {J : Int32 → Prop} {f0 f1 f2 f3 f4 : Int32} {a2 a3 a4 a5 a6 a7 a8 a9 a10 a11 a12 a13 : Nat → Int32} {e0 e1 e2 e3 e4 : Int32} {b2 b3 b4 b5 b6 b7 b8 b9 b10 b11 b12 b13 : Nat → Int32} {m : (Nat → Int32)} {n : Nat} (hV : aw_V m) (hn : n < 12) (H : J (nI (n + 1))) : ∀ (d w f : Nat), w + d = 3 → d < f → wL_same_119 post J (nI n) f0 f1 f2 f3 f4 m a2 a3 a4 a5 a6 a7 a8 a9 a10 a11 a12 a13 e0 e1 e2 e3 e4 m b2 b3 b4 b5 b6 b7 b8 b9 b10 b11 b12 b13 f (nI w) := by
  intro d
  induction d with
  | zero =>
    intro w f h hf
    obtain ⟨f, rfl⟩ : ∃ g, f = g + 1 := ⟨f - 1, by omega⟩
    have e : w = 3 := by omega
    subst e
    exact br_t (by decide) (nm_r (nI_1 n) H)
  | succ d ih =>
    intro w f h hf
    obtain ⟨f, rfl⟩ : ∃ g, f = g + 1 := ⟨f - 1, by omega⟩
    obtain ⟨r, hr⟩ := aw_degreeE (n := n) (w := w) hV hn (by omega)
    obtain ⟨q, hq⟩ := aw_arrowAtE (n := n) (w := w) (y := nI w) hV hn (by omega)
    exact br_f (nI_ge (b := 3) (by omega) (by decide)) (hr _ _ rfl (hr _ _ rfl (br_t rfl (hq _ _ rfl (hq _ _ rfl (br_t rfl (nm_r (nI_1 w) (ih (w + 1) f (by omega) (by omega)))))))))
theorem aw_same_58 {post : Int32 → St3 → Prop} {f0 f1 f2 f3 f4 : Int32} {a2 a3 a4 a5 a6 a7 a8 a9 a10 a11 a12 a13 : Nat → Int32} {e0 e1 e2 e3 e4 : Int32} {b2 b3 b4 b5 b6 b7 b8 b9 b10 b11 b12 b13 : Nat → Int32} {m : (Nat → Int32)} (hV : aw_V m) (H : post 1 (f0, f1, f2, f3, f4, m, a2, a3, a4, a5, a6, a7, a8, a9, a10, a11, a12, a13, e0, e1, e2, e3, e4, m, b2, b3, b4, b5, b6, b7, b8, b9, b10, b11, b12, b13)) : ∀ (d n f : Nat), n + d = 12 → d < f → wL_same_58 post f0 f1 f2 f3 f4 m a2 a3 a4 a5 a6 a7 a8 a9 a10 a11 a12 a13 e0 e1 e2 e3 e4 m b2 b3 b4 b5 b6 b7 b8 b9 b10 b11 b12 b13 f (nI n) := by
  intro d
  induction d with
  | zero =>
    intro n f h hf
    obtain ⟨f, rfl⟩ : ∃ g, f = g + 1 := ⟨f - 1, by omega⟩
    have e : n = 12 := by omega
    subst e
    exact br_t (by decide) ⟨25, aw_same_192 hV H 24 0 25 (by omega) (by omega)⟩
  | succ d ih =>
    intro n f h hf
    obtain ⟨f, rfl⟩ : ∃ g, f = g + 1 := ⟨f - 1, by omega⟩
    have hn : n < 12 := by omega
    have e7 : nI n &&& 7 = nI (n % 8) := pk_andN (n := n) (by omega) 3 (by decide)
    obtain ⟨r1, h1⟩ := aw_labelsE (n := n) hV hn
    obtain ⟨r2, h2⟩ := aw_valueE (n := n) hV hn
    obtain ⟨r3, h3⟩ := aw_findE (lb := n % 8) (v := nI n &&& 3) hV (by omega)
    rw [← e7] at h3
    refine br_f (nI_ge (b := 12) hn (by decide)) (h1 _ _ rfl (h1 _ _ rfl (br_t rfl (h2 _ _ rfl (h2 _ _ rfl (br_t rfl (h3 _ _ rfl (h3 _ _ rfl (br_t rfl ⟨4, ?_⟩)))))))))
    exact aw_same_119 hV hn (ih (n + 1) f (by omega) (by omega)) 3 0 4 (by omega) (by omega)
theorem aw_same {post : Int32 → St3 → Prop} {S S' : List (Nat → Int32)} {f1 f2 f3 f4 : Int32} {a2 a3 a4 a5 a6 a7 a8 a9 a10 a11 a12 a13 : Nat → Int32} {e1 e2 e3 e4 : Int32} {b2 b3 b4 b5 b6 b7 b8 b9 b10 b11 b12 b13 m : (Nat → Int32)} (hV : aw_V m) (hc : aw_R S m (nI S.length, f1, f2, f3, f4, m, a2, a3, a4, a5, a6, a7, a8, a9, a10, a11, a12, a13)) (hd : aw_R S' m (nI S'.length, e1, e2, e3, e4, m, b2, b3, b4, b5, b6, b7, b8, b9, b10, b11, b12, b13)) (H : aw_K2 S S' m m (post 1)) : wpL_same post (nI S.length, f1, f2, f3, f4, m, a2, a3, a4, a5, a6, a7, a8, a9, a10, a11, a12, a13, nI S'.length, e1, e2, e3, e4, m, b2, b3, b4, b5, b6, b7, b8, b9, b10, b11, b12, b13) := by
  obtain ⟨r1, h1⟩ := aw_digestE m
  obtain ⟨r2, h2⟩ := aw_chainsE hV
  obtain ⟨r3, h3⟩ := aw_roundsE (t := 4) hV (by omega)
  obtain ⟨r4, h4⟩ := aw_roundsE (t := 2) hV (by omega)
  unfold wpL_same
  refine h1 _ _ rfl ?_
  refine h1 _ _ rfl (br_t rfl ?_)
  refine h2 _ _ rfl (h2 _ _ rfl (br_t rfl ?_))
  refine h3 S _ _ hc (fun f1 f2 f3 f4 a2 a3 a4 a5 a6 a7 a8 a9 a10 a11 a12 a13 k1 => ?_)
  refine h3 S' _ _ hd (fun e1 e2 e3 e4 b2 b3 b4 b5 b6 b7 b8 b9 b10 b11 b12 b13 k2 => br_t rfl ?_)
  refine h4 S _ _ k1 (fun f1 f2 f3 f4 a2 a3 a4 a5 a6 a7 a8 a9 a10 a11 a12 a13 k3 => ?_)
  refine h4 S' _ _ k2 (fun e1 e2 e3 e4 b2 b3 b4 b5 b6 b7 b8 b9 b10 b11 b12 b13 k4 => br_t rfl ⟨13, ?_⟩)
  exact aw_same_58 hV (H f1 f2 f3 f4 a2 a3 a4 a5 a6 a7 a8 a9 a10 a11 a12 a13 e1 e2 e3 e4 b2 b3 b4 b5 b6 b7 b8 b9 b10 b11 b12 b13 k3 k4) 12 0 13 (by omega) (by omega)
end
section
/-! ===== ways ===== -/
def aw_G (m : (Nat → Int32)) (FA : List Nat) (t c b : Nat) : Prop := c < 12 ∧ b < 12 ∧ ∃ a, a < 24 ∧ a ∉ FA ∧ m (101 + 10 * a) = nI c ∧ m (101 + 10 * a + 1) = nI b ∧ aw_T m a t
def aw_wk (G : Nat → Nat → Prop) (x : Nat) : Nat → Nat → Prop
  | 0, b => b = x
  | k + 1, b => ∃ c, aw_wk G x k c ∧ G c b
/-! distance: the queue Qu of the reached nodes -/
def aw_BQ (m : (Nat → Int32)) (FN FA : List Nat) (t x : Nat) (Qu : List Nat) (a6 a8 : (Nat → Int32)) : Prop :=
  Qu.Nodup ∧ (∀ q ∈ Qu, aw_U FN q) ∧ aw_ar nI a8 0 Qu ∧ (∀ j, j < 12 → j ∉ Qu → a6 j = -1) ∧ ∀ j ∈ Qu, ∃ w, w ≤ Qu.length ∧ a6 j = nI w ∧ aw_wk (aw_G m FA t) x w j
theorem aw_BQ_add {m : (Nat → Int32)} {FN FA : List Nat} {t x n b : Nat} {Qu : List Nat} {a6 a8 : (Nat → Int32)} (h : aw_BQ m FN FA t x Qu a6 a8) (hn : n ∈ Qu) (hb : aw_U FN b) (hbQ : b ∉ Qu) (hG : aw_G m FA t n b) : aw_BQ m FN FA t x (Qu ++ [b]) (upd a6 b (a6 n + 1)) (upd a8 Qu.length (nI b)) := by
  obtain ⟨h1, h2, h3, h4, h5⟩ := h
  have hlen : (Qu ++ [b]).length = Qu.length + 1 := by simp
  refine ⟨?_, ?_, ?_, ?_, ?_⟩
  · rw [List.nodup_append]
    refine ⟨h1, by simp, fun a ha c hc => ?_⟩
    rw [List.mem_singleton.mp hc]
    exact fun e => hbQ (e ▸ ha)
  · intro q hq
    rcases List.mem_append.mp hq with z | z
    · exact h2 q z
    · rw [List.mem_singleton.mp z]; exact hb
  · refine aw_ar_app.mpr ⟨aw_ar_fr h3 (fun i hi => pk_un (by omega)), ?_, trivial⟩
    rw [Nat.zero_add]; exact pk_us
  · intro j hj hjQ
    rw [pk_un (fun e => hjQ (by rw [e]; simp))]
    exact h4 j hj (fun z => hjQ (List.mem_append_left _ z))
  · intro j hj
    by_cases e : j = b
    · obtain ⟨w, q1, q2, q3⟩ := h5 n hn
      refine ⟨w + 1, by omega, ?_, n, q3, ?_⟩
      · rw [e, pk_us, q2, nI_1]
      · rw [e]; exact hG
    · rcases List.mem_append.mp hj with z | z
      · obtain ⟨w, q1, q2, q3⟩ := h5 j z
        exact ⟨w, by omega, by rw [pk_un e]; exact q2, q3⟩
      · exact absurd (List.mem_singleton.mp z) e
theorem aw_goOn_l {m : (Nat → Int32)} {FN FA : List Nat} {C : Nat → Nat → List Nat} {t x n : Nat} {post : Int32 → St1 → Prop} {f0 f1 f2 f3 f4 : Int32} {a2 a3 a4 a5 a7 a9 a10 a11 a12 a13 : (Nat → Int32)} (hJ : aw_J m FN FA C) (ht : t ≤ 4) (hn : aw_U FN n) : ∀ (l : List Nat) (c k f : Nat) (Qu : List Nat) (a6 a8 : (Nat → Int32)),
    aw_ch m (fun a => 105 + 10 * a + 0) 24 c l → (∀ a ∈ l, a ∈ C 0 n) → k + l.length ≤ 24 → l.length < f → n ∈ Qu → aw_BQ m FN FA t x Qu a6 a8 →
    (∀ (R : List Nat) (a6 a8 : (Nat → Int32)), aw_BQ m FN FA t x (Qu ++ R) a6 a8 → (∀ a ∈ l, aw_T m a t → ∀ b, b < 12 → m (101 + 10 * a + 1) = nI b → b ∈ Qu ++ R) → post (nI (Qu ++ R).length) (f0, f1, f2, f3, f4, m, a2, a3, a4, a5, a6, a7, a8, a9, a10, a11, a12, a13)) →
    wX_goOn_19 post (nI n) (nI t) f0 f1 f2 f3 f4 f (nI Qu.length) (m c) (nI k) m a2 a3 a4 a5 a6 a7 a8 a9 a10 a11 a12 a13 := by
  have hn12 := hn.1
  have cn : (nI n).toNatClampNeg = n := nI_clamp (by omega)
  intro l
  induction l with
  | nil =>
    intro c k f Qu a6 a8 hc hl hk hf hnQ hB H
    obtain ⟨f, rfl⟩ : ∃ g, f = g + 1 := ⟨f - 1, by omega⟩
    have hm : m c = -1 := hc
    have go := H [] a6 a8 (by rw [List.append_nil]; exact hB) (fun a ha => by cases ha)
    rw [List.append_nil] at go
    exact br_c (fun _ => go) (fun _ => br_t (by rw [hm]; decide) go)
  | cons a l ih =>
    intro c k f Qu a6 a8 hc hl hk hf hnQ hB H
    rw [List.length_cons] at hk hf
    obtain ⟨f, rfl⟩ : ∃ g, f = g + 1 := ⟨f - 1, by omega⟩
    have hm : m c = nI a := hc.1
    have ha : a < 24 := hc.2.1
    have haC := (aw_C_mem hJ hn (by omega)).mp (hl a (List.mem_cons_self ..))
    obtain ⟨b, hbu, eb, _⟩ := (hJ.2.2.2.2.2.1 a ha haC.2.1).1 1 (by omega)
    have hb12 := hbu.1
    have cb : (nI b).toNatClampNeg = b := nI_clamp (by omega)
    have e2 : nI (100 + 10 * a) + 1 + 1 = nI (101 + 10 * a + 1) := aw_e3 (100 + 10 * a) 1 1 _ (by omega)
    have e5 : nI (100 + 10 * a) + 5 = nI (105 + 10 * a + 0) := aw_e2 (100 + 10 * a) 5 _ (by omega)
    have hQ12 : Qu.length ≤ 12 := aw_pig hB.1 (fun q hq => (hB.2.1 q hq).1)
    have key : ∀ (Qu' : List Nat) (a6 a8 : (Nat → Int32)), (∃ R, Qu' = Qu ++ R) → aw_BQ m FN FA t x Qu' a6 a8 → (aw_T m a t → b ∈ Qu') → wX_goOn_94 post (wX_goOn_19 post (nI n) (nI t) f0 f1 f2 f3 f4 f) (nI n) (nI t) (nI Qu'.length) (nI a) (nI k) f0 f1 f2 f3 f4 m a2 a3 a4 a5 a6 a7 a8 a9 a10 a11 a12 a13 := by
      intro Qu' a6 a8 hR hB' hbQ'
      obtain ⟨R, rfl⟩ := hR
      refine aw_ac a rfl ⟨pk_in (105 + 10 * a + 0) 340 (by omega) e5, nm_r (e' := m (105 + 10 * a + 0)) (by rw [pk_cl (105 + 10 * a + 0) e5]) (nm_r (nI_1 k) ?_)⟩
      refine ih _ (k + 1) f (Qu ++ R) a6 a8 hc.2.2 (fun y hy => hl y (List.mem_cons_of_mem _ hy)) (by omega) (by omega) (List.mem_append_left _ hnQ) hB' (fun R2 c6 c8 g1 g2 => ?_)
      rw [List.append_assoc] at g1 g2 ⊢
      refine H (R ++ R2) c6 c8 g1 (fun y hy hT j hj ej => ?_)
      rcases List.mem_cons.mp hy with z | z
      · rw [z] at hT ej
        rw [eb] at ej
        have e : b = j := (nI_eq (by omega) (by omega)).mp ej
        rw [← e, ← List.append_assoc]
        exact List.mem_append_left _ (hbQ' hT)
      · exact g2 y z hT j hj ej
    rw [hm]
    refine br_f (nI_ge (b := 24) (by omega) (by decide)) (br_f (nI_pos (by omega)) (aw_ac a rfl ⟨pk_in (101 + 10 * a + 1) 340 (by omega) e2, nm_r (e' := nI b) (by rw [pk_cl (101 + 10 * a + 1) e2]; exact eb) ?_⟩))
    refine aw_isOf (m := m) a t rfl rfl ha ht rfl (fun hT => br_f (by decide) ⟨pk_in b 12 hb12, ?_⟩) (fun hT => br_t rfl (key Qu a6 a8 ⟨[], by simp⟩ hB (fun z => absurd z hT)))
    rw [cb]
    by_cases cQ : b ∈ Qu
    · obtain ⟨w, q1, q2, q3⟩ := hB.2.2.2.2 b cQ
      exact br_t (by rw [q2]; exact nI_pos' (by omega)) (key Qu a6 a8 ⟨[], by simp⟩ hB (fun _ => cQ))
    · have hlt : Qu.length < 12 := aw_pig1 hB.1 (fun q hq => (hB.2.1 q hq).1) hb12 cQ
      have hG : aw_G m FA t n b := ⟨hn12, hb12, a, ha, haC.2.1, haC.2.2, eb, hT⟩
      have hB2 := aw_BQ_add hB hnQ hbu cQ hG
      have go := key (Qu ++ [b]) _ _ ⟨[b], rfl⟩ hB2 (fun _ => by simp)
      have el : (Qu ++ [b]).length = Qu.length + 1 := by simp
      rw [el] at go
      refine br_f (by rw [hB.2.2.2.1 b hb12 cQ]; decide) ⟨pk_in n 12 hn12, pk_in b 12 hb12, nm_r (e' := upd a6 b (a6 n + 1)) (by rw [cn]) ⟨pk_in Qu.length 12 hlt, nm_r (e' := upd a8 Qu.length (nI b)) (by rw [pk_cl Qu.length]) (nm_r (nI_1 Qu.length) go)⟩⟩
/-- what distance answers -/
def aw_ds (m : (Nat → Int32)) (FA : List Nat) (t x y : Nat) (r : Int32) : Prop := (r = -2 ∧ ∀ i, ¬ aw_wk (aw_G m FA t) x i y) ∨ ∃ i, i ≤ 12 ∧ r = nI i ∧ aw_wk (aw_G m FA t) x i y
theorem aw_cl {m : (Nat → Int32)} {FA : List Nat} {t x : Nat} {Qu : List Nat} (hx : x ∈ Qu) (hc : ∀ c ∈ Qu, ∀ b, aw_G m FA t c b → b ∈ Qu) : ∀ i b, aw_wk (aw_G m FA t) x i b → b ∈ Qu := by
  intro i
  induction i with
  | zero => intro b h; rw [show b = x from h]; exact hx
  | succ i ih =>
    intro b h
    obtain ⟨c, h1, h2⟩ := h
    exact hc c (ih c h1) b h2
theorem aw_distance_63 {m : (Nat → Int32)} {FN FA : List Nat} {C : Nat → Nat → List Nat} {t e : Nat} {post : Int32 → St1 → Prop} {S : List (Nat → Int32)} (hJ : aw_J m FN FA C) (ht : t ≤ 4) (he : e < 144) (H : ∀ r, aw_ds m FA t (e / 12) (e % 12) r → aw_K S m (post r)) :
    ∀ (f : Nat) (Pd Rs : List Nat), ∀ (f1 f2 f3 f4 : Int32) (a2 a3 a4 a5 a6 a7 a8 a9 a10 a11 a12 a13 : Nat → Int32), 12 - Pd.length < f → aw_R S m (nI S.length, f1, f2, f3, f4, m, a2, a3, a4, a5, a6, a7, a8, a9, a10, a11, a12, a13) → aw_BQ m FN FA t (e / 12) (Pd ++ Rs) a6 a8 → e / 12 ∈ Pd ++ Rs → (∀ c ∈ Pd, ∀ b, aw_G m FA t c b → b ∈ Pd ++ Rs) →
    wX_distance_63 post (nI e) (nI t) f (nI (Pd ++ Rs).length) (nI Pd.length) (nI S.length) f1 f2 f3 f4 m a2 a3 a4 a5 a6 a7 a8 a9 a10 a11 a12 a13 := by
  have hr : nI e - nI e / 12 * 12 = nI (e % 12) := pk_rem (a := e) (d := 12) (by omega) (by omega) (by omega)
  intro f
  induction f with
  | zero => intro Pd Rs f1 f2 f3 f4 a2 a3 a4 a5 a6 a7 a8 a9 a10 a11 a12 a13 hf; exact absurd hf (by omega)
  | succ f ih =>
    intro Pd Rs f1 f2 f3 f4 a2 a3 a4 a5 a6 a7 a8 a9 a10 a11 a12 a13 hf hR hB hx hcl
    have hlen : (Pd ++ Rs).length = Pd.length + Rs.length := List.length_append
    have hQ12 : (Pd ++ Rs).length ≤ 12 := aw_pig hB.1 (fun q hq => (hB.2.1 q hq).1)
    cases Rs with
    | nil =>
      rw [List.append_nil] at hB hx hcl hlen hQ12 ⊢
      refine br_t (nI_le (Nat.le_refl _) (by omega)) ⟨by decide, pk_in (e % 12) 12 (by omega) hr, nm_r (e' := a6 (e % 12)) (by rw [pk_cl (e % 12) hr]) ?_⟩
      by_cases c : e % 12 ∈ Pd
      · obtain ⟨w, q1, q2, q3⟩ := hB.2.2.2.2 _ c
        have hl : Pd.length ≤ 12 := aw_pig hB.1 (fun q hq => (hB.2.1 q hq).1)
        rw [q2]
        exact br_t (nI_pos' (by omega)) (H _ (Or.inr ⟨w, by omega, rfl, q3⟩) f1 f2 f3 f4 a2 a3 a4 a5 a6 a7 a8 a9 a10 a11 a12 a13 hR)
      · rw [hB.2.2.2.1 _ (by omega) c]
        exact br_f (by decide) (H _ (Or.inl ⟨rfl, fun i hi => c (aw_cl hx hcl i _ hi)⟩) f1 f2 f3 f4 a2 a3 a4 a5 a6 a7 a8 a9 a10 a11 a12 a13 hR)
    | cons n Rs =>
      have hg := (aw_ar_app.mp hB.2.2.1).2.1
      rw [Nat.zero_add] at hg
      have hnQ : n ∈ Pd ++ n :: Rs := by simp
      have hnu := hB.2.1 n hnQ
      have hn12 := hnu.1
      have hd := hJ.2.2.2.2.2.2.1 n hnu 0 (by omega)
      have hp := aw_pig hd.2.1 (aw_dl_lt hd.1)
      have e3 : nI (16 + 7 * n) + 3 = nI (19 + 7 * n + 0) := aw_e2 (16 + 7 * n) 3 _ (by omega)
      rw [List.length_cons] at hlen
      refine br_f (nI_ge (by omega) (by omega)) ⟨pk_in Pd.length 12 (by omega), ?_⟩
      rw [pk_cl Pd.length rfl (by omega), hg]
      unfold wpX_goOn
      refine aw_na n rfl ?_
      refine ⟨pk_in (19 + 7 * n + 0) 340 (by omega) e3, nm_r (e' := m (19 + 7 * n + 0)) (by rw [pk_cl (19 + 7 * n + 0) e3]) ⟨25, ?_⟩⟩
      refine aw_goOn_l hJ ht hnu (C 0 n) _ 0 25 (Pd ++ n :: Rs) a6 a8 (aw_dl_ch hd.1) (fun a ha => ha) (by omega) (by omega) hnQ hB (fun R c6 c8 g1 g2 => ?_)
      refine nm_r (nI_1 Pd.length) ?_
      have ea : Pd ++ n :: Rs ++ R = (Pd ++ [n]) ++ (Rs ++ R) := by simp
      have el : Pd.length + 1 = (Pd ++ [n]).length := by simp
      rw [ea] at g1 g2 ⊢
      rw [el]
      refine ih (Pd ++ [n]) (Rs ++ R) f1 f2 f3 f4 a2 a3 a4 a5 c6 a7 c8 a9 a10 a11 a12 a13 (by rw [← el]; omega) (aw_Rs hR) g1 (by rw [← ea]; exact List.mem_append_left _ hx) (fun c hc b hG => ?_)
      rcases List.mem_append.mp hc with z | z
      · rw [← ea]; exact List.mem_append_left _ (hcl c z b hG)
      · rw [List.mem_singleton.mp z] at hG
        obtain ⟨k1, k2, a, k3, k4, k5, k6, k7⟩ := hG
        exact g2 a ((aw_C_mem hJ hnu (by omega)).mpr ⟨k3, k4, k5⟩) k7 b k2 k6
theorem aw_distance_19 {m : (Nat → Int32)} {FN FA : List Nat} {C : Nat → Nat → List Nat} {t e : Nat} {post : Int32 → St1 → Prop} {S : List (Nat → Int32)} (hJ : aw_J m FN FA C) (ht : t ≤ 4) (he : e < 144) (hxu : aw_U FN (e / 12)) (H : ∀ r, aw_ds m FA t (e / 12) (e % 12) r → aw_K S m (post r)) :
    ∀ (d n f : Nat), ∀ (f1 f2 f3 f4 : Int32) (a2 a3 a4 a5 a6 a7 a8 a9 a10 a11 a12 a13 : Nat → Int32), n + d = 12 → d < f → aw_R S m (nI S.length, f1, f2, f3, f4, m, a2, a3, a4, a5, a6, a7, a8, a9, a10, a11, a12, a13) → (∀ j, j < n → a6 j = -1) → wX_distance_19 post (nI e) (nI t) (nI S.length) f1 f2 f3 f4 f (nI n) m a2 a3 a4 a5 a6 a7 a8 a9 a10 a11 a12 a13 := by
  have hdv : nI e / 12 = nI (e / 12) := pk_div (a := e) (d := 12) (by omega) (by omega) (by omega)
  intro d
  induction d with
  | zero =>
    intro n f f1 f2 f3 f4 a2 a3 a4 a5 a6 a7 a8 a9 a10 a11 a12 a13 hd hf hR hz
    obtain ⟨f, rfl⟩ : ∃ g, f = g + 1 := ⟨f - 1, by omega⟩
    have en : n = 12 := by omega
    subst en
    refine br_t (by decide) ⟨by decide, pk_in (e / 12) 12 (by omega) hdv, nm_r (e' := upd a6 (e / 12) 0) (by rw [pk_cl (e / 12) hdv]) ⟨by decide, nm_r (e' := upd a8 0 (nI (e / 12))) (by rw [hdv]) ⟨13, ?_⟩⟩⟩
    refine aw_distance_63 hJ ht he H 13 [] [e / 12] f1 f2 f3 f4 a2 a3 a4 a5 _ a7 _ a9 a10 a11 a12 a13 (by simp) (aw_Rs hR) ⟨by simp, ?_, ⟨pk_us, trivial⟩, ?_, ?_⟩ (by simp) (fun c hc => by cases hc)
    · intro q hq
      rw [List.mem_singleton.mp hq]; exact hxu
    · intro j hj hjn
      rw [pk_un (fun z => hjn (by rw [z]; simp))]
      exact hz j hj
    · intro j hj
      rw [List.mem_singleton.mp hj]
      exact ⟨0, by omega, pk_us, rfl⟩
  | succ d ih =>
    intro n f f1 f2 f3 f4 a2 a3 a4 a5 a6 a7 a8 a9 a10 a11 a12 a13 hd hf hR hz
    obtain ⟨f, rfl⟩ : ∃ g, f = g + 1 := ⟨f - 1, by omega⟩
    have hn : n < 12 := by omega
    refine br_f (nI_ge (b := 12) hn (by decide)) ⟨pk_in n 12 hn, nm_r (e' := upd a6 n (-1)) (by rw [pk_cl n]) (nm_r (nI_1 n) ?_)⟩
    refine ih (n + 1) f f1 f2 f3 f4 _ _ _ _ _ _ _ _ _ _ _ _ (by omega) (by omega) (aw_Rs hR) (fun j hj => ?_)
    by_cases z : j = n
    · rw [z, pk_us]
    · rw [pk_un z]; exact hz j (by omega)
theorem aw_distance {m : (Nat → Int32)} {FN FA : List Nat} {C : Nat → Nat → List Nat} {t e : Nat} {post : Int32 → St1 → Prop} {S : List (Nat → Int32)} {u : St1} (hJ : aw_J m FN FA C) (ht : t ≤ 4) (he : e < 144) (hR : aw_R S m u)
    (H1 : aw_U FN (e / 12) → aw_U FN (e % 12) → ∀ r, aw_ds m FA t (e / 12) (e % 12) r → aw_K S m (post r)) (H0 : ¬ (aw_U FN (e / 12) ∧ aw_U FN (e % 12)) → aw_K S m (post (-1))) : wpX_distance post u (nI e) (nI t) := by
  obtain ⟨f0, f1, f2, f3, f4, a1, a2, a3, a4, a5, a6, a7, a8, a9, a10, a11, a12, a13⟩ := u
  have hR' := hR
  obtain ⟨rfl, rfl, _⟩ := hR'
  unfold wpX_distance
  refine aw_areEnds e rfl he rfl hJ (fun h1 h2 => br_f (by decide) (aw_isType t rfl ht (br_f (by decide) ⟨13, ?_⟩))) (fun z => br_t rfl (H0 z f1 f2 f3 f4 a2 a3 a4 a5 a6 a7 a8 a9 a10 a11 a12 a13 hR))
  exact aw_distance_19 hJ ht he h1 (H1 h1 h2) 12 0 13 f1 f2 f3 f4 a2 a3 a4 a5 a6 a7 a8 a9 a10 a11 a12 a13 (by omega) (by omega) hR (fun j hj => absurd hj (by omega))
end
section
/-! ===== cheapest ===== -/
def aw_P6 (rd : Nat → Prop) (v : Nat → Nat) (a6 : (Nat → Int32)) : Prop := ∀ j, j < 12 → (rd j → a6 j = nI (v j)) ∧ (¬ rd j → a6 j = -1)
def aw_P7 (Dn : List Nat) (a7 : (Nat → Int32)) : Prop := ∀ j, j < 12 → (j ∈ Dn → ¬ a7 j = 0) ∧ (j ∉ Dn → a7 j = 0)
def aw_nr (Dn : List Nat) (rd : Nat → Prop) (v : Nat → Nat) (r : Int32) (i : Nat) : Prop :=
  (r = -1 ∧ ∀ j, j < i → j ∉ Dn → ¬ rd j) ∨ ∃ b, b < i ∧ r = nI b ∧ b ∉ Dn ∧ rd b ∧ ∀ j, j < i → j ∉ Dn → rd j → v b ≤ v j
theorem aw_nearest_l {post : Int32 → Prop} {f0 f1 f2 f3 f4 : Int32} {a2 a3 a4 a5 a6 a7 a8 a9 a10 a11 a12 a13 : Nat → Int32} {m : (Nat → Int32)} {Dn : List Nat} {rd : Nat → Prop} {v : Nat → Nat} (h6 : aw_P6 rd v a6) (h7 : aw_P7 Dn a7) (hv : ∀ j, rd j → v j < 10000) (H : ∀ r, aw_nr Dn rd v r 12 → post r) : ∀ (d i f : Nat) (r : Int32), i + d = 12 → d < f → aw_nr Dn rd v r i → wX_nearest_4 post f0 f1 f2 f3 f4 m a2 a3 a4 a5 a6 a7 a8 a9 a10 a11 a12 a13 f r (nI i) := by
  intro d
  induction d with
  | zero =>
    intro i f r hd hf hr
    obtain ⟨f, rfl⟩ : ∃ g, f = g + 1 := ⟨f - 1, by omega⟩
    have e : i = 12 := by omega
    subst e
    exact br_t (by decide) (H r hr)
  | succ d ih =>
    intro i f r hd hf hr
    obtain ⟨f, rfl⟩ : ∃ g, f = g + 1 := ⟨f - 1, by omega⟩
    have hi : i < 12 := by omega
    have ci : (nI i).toNatClampNeg = i := nI_clamp (by omega)
    have skip : (i ∈ Dn ∨ ¬ rd i) → wX_nearest_4 post f0 f1 f2 f3 f4 m a2 a3 a4 a5 a6 a7 a8 a9 a10 a11 a12 a13 f r (nI (i + 1)) := by
      intro z
      refine ih (i + 1) f r (by omega) (by omega) ?_
      rcases hr with ⟨h1, h2⟩ | ⟨b, h1, h2, h3, h4, h5⟩
      · refine Or.inl ⟨h1, fun j hj hjD => ?_⟩
        by_cases e : j = i
        · rw [e] at hjD ⊢
          exact z.elim (fun q => absurd q hjD) id
        · exact h2 j (by omega) hjD
      · refine Or.inr ⟨b, by omega, h2, h3, h4, fun j hj hjD hjr => ?_⟩
        by_cases e : j = i
        · rw [e] at hjD hjr
          exact z.elim (fun q => absurd q hjD) (fun q => absurd hjr q)
        · exact h5 j (by omega) hjD hjr
    refine br_f (nI_ge (b := 12) hi (by decide)) ⟨pk_in i 12 hi, ?_⟩
    rw [ci]
    by_cases cD : i ∈ Dn
    · exact br_f ((h7 i hi).1 cD) (nm_r (nI_1 i) (skip (Or.inl cD)))
    · refine br_t ((h7 i hi).2 cD) ⟨pk_in i 12 hi, ?_⟩
      by_cases cr : rd i
      · have e6 := (h6 i hi).1 cr
        have hvi := hv i cr
        rw [e6]
        refine br_f (nI_pos (by omega)) ?_
        have take : (∀ j, j < i → j ∉ Dn → rd j → v i ≤ v j) → wX_nearest_4 post f0 f1 f2 f3 f4 m a2 a3 a4 a5 a6 a7 a8 a9 a10 a11 a12 a13 f (nI i) (nI (i + 1)) := by
          intro z
          refine ih (i + 1) f (nI i) (by omega) (by omega) (Or.inr ⟨i, by omega, rfl, cD, cr, fun j hj hjD hjr => ?_⟩)
          by_cases e : j = i
          · rw [e]; exact Nat.le_refl _
          · exact z j (by omega) hjD hjr
        rcases hr with ⟨h1, h2⟩ | ⟨b, h1, h2, h3, h4, h5⟩
        · exact br_t (by rw [h1]; decide) (nm_r (nI_1 i) (take (fun j hj hjD hjr => absurd hjr (h2 j hj hjD))))
        · have hb : b < 12 := by omega
          have e6b := (h6 b hb).1 h4
          have hvb := hv b h4
          have cb : (nI b).toNatClampNeg = b := nI_clamp (by omega)
          rw [h2]
          refine br_f (nI_pos (by omega)) ⟨pk_in i 12 hi, pk_in b 12 hb, ?_⟩
          rw [cb, e6b]
          refine pk_le (v b) (v i) (fun z => nm_r (nI_1 i) ?_) (fun z => nm_r (nI_1 i) (take (fun j hj hjD hjr => ?_)))
          · refine ih (i + 1) f (nI b) (by omega) (by omega) (Or.inr ⟨b, by omega, rfl, h3, h4, fun j hj hjD hjr => ?_⟩)
            by_cases e : j = i
            · rw [e]; exact z
            · exact h5 j (by omega) hjD hjr
          · have := h5 j hj hjD hjr
            omega
      · have e6 := (h6 i hi).2 cr
        rw [e6]
        exact br_t (by decide) (nm_r (nI_1 i) (skip (Or.inr cr)))
theorem aw_nearest {post : Int32 → Prop} {f0 f1 f2 f3 f4 : Int32} {a2 a3 a4 a5 a6 a7 a8 a9 a10 a11 a12 a13 : Nat → Int32} {m : (Nat → Int32)} {Dn : List Nat} {rd : Nat → Prop} {v : Nat → Nat} (h6 : aw_P6 rd v a6) (h7 : aw_P7 Dn a7) (hv : ∀ j, rd j → v j < 10000) (H : ∀ r, aw_nr Dn rd v r 12 → post r) : wpX_nearest post (f0, f1, f2, f3, f4, m, a2, a3, a4, a5, a6, a7, a8, a9, a10, a11, a12, a13) :=
  ⟨13, aw_nearest_l h6 h7 hv H 12 0 13 (-1) (by omega) (by omega) (Or.inl ⟨rfl, fun j hj => absurd hj (by omega)⟩)⟩
/-- what stays while the arrows of n are gone along -/
def aw_RK (m : (Nat → Int32)) (FN FA : List Nat) (t x n B : Nat) (Dn : List Nat) (v0 : Nat → Nat) (rd : Nat → Prop) (v : Nat → Nat) : Prop :=
  (∀ d ∈ Dn, rd d ∧ v d = v0 d) ∧ (∀ j, j ∉ Dn → rd j → v0 n ≤ v j) ∧ ∀ j, rd j → aw_U FN j ∧ v j ≤ B ∧ ∃ i, aw_wk (aw_G m FA t) x i j
theorem aw_relax_l {m : (Nat → Int32)} {FN FA : List Nat} {C : Nat → Nat → List Nat} {t x n B : Nat} {Dn : List Nat} {v0 : Nat → Nat} {post : St1 → Prop} {f0 f1 f2 f3 f4 : Int32} {a2 a3 a4 a5 a7 a8 a9 a10 a11 a12 a13 : (Nat → Int32)} (hJ : aw_J m FN FA C) (ht : t ≤ 4) (hn : aw_U FN n) (hnD : n ∈ Dn) (hvn : ∀ d ∈ Dn, v0 d ≤ v0 n) (hB : v0 n + 99 ≤ B) (hB2 : B < 10000) :
    ∀ (l : List Nat) (c k f : Nat) (rd : Nat → Prop) (v : Nat → Nat) (a6 : (Nat → Int32)), aw_ch m (fun a => 105 + 10 * a + 0) 24 c l → (∀ a ∈ l, a ∈ C 0 n) → k + l.length ≤ 24 → l.length < f → aw_P6 rd v a6 → aw_RK m FN FA t x n B Dn v0 rd v →
    (∀ (rd' : Nat → Prop) (v' : Nat → Nat) (a6 : (Nat → Int32)), aw_P6 rd' v' a6 → aw_RK m FN FA t x n B Dn v0 rd' v' → (∀ j, rd j → rd' j ∧ v' j ≤ v j) → (∀ a ∈ l, aw_T m a t → ∀ b, b < 12 → m (101 + 10 * a + 1) = nI b → rd' b ∧ v' b ≤ v0 n + 99) → post (f0, f1, f2, f3, f4, m, a2, a3, a4, a5, a6, a7, a8, a9, a10, a11, a12, a13)) →
    wX_relax_15 post (nI n) (nI t) f0 f1 f2 f3 f4 f (m c) (nI k) m a2 a3 a4 a5 a6 a7 a8 a9 a10 a11 a12 a13 := by
  have hn12 := hn.1
  have cn : (nI n).toNatClampNeg = n := nI_clamp (by omega)
  intro l
  induction l with
  | nil =>
    intro c k f rd v a6 hc hl hk hf h6 hK H
    obtain ⟨f, rfl⟩ : ∃ g, f = g + 1 := ⟨f - 1, by omega⟩
    have hm : m c = -1 := hc
    have go := H rd v a6 h6 hK (fun j hj => ⟨hj, Nat.le_refl _⟩) (fun a ha => by cases ha)
    exact br_c (fun _ => go) (fun _ => br_t (by rw [hm]; decide) go)
  | cons a l ih =>
    intro c k f rd v a6 hc hl hk hf h6 hK H
    rw [List.length_cons] at hk hf
    obtain ⟨f, rfl⟩ : ∃ g, f = g + 1 := ⟨f - 1, by omega⟩
    have hm : m c = nI a := hc.1
    have ha : a < 24 := hc.2.1
    have haC := (aw_C_mem hJ hn (by omega)).mp (hl a (List.mem_cons_self ..))
    have hA := hJ.2.2.2.2.2.1 a ha haC.2.1
    obtain ⟨b, hbu, eb, _⟩ := hA.1 1 (by omega)
    obtain ⟨w, hw, ew⟩ := hA.2.2
    have hb12 := hbu.1
    have cb : (nI b).toNatClampNeg = b := nI_clamp (by omega)
    have e2 : nI (100 + 10 * a) + 1 + 1 = nI (101 + 10 * a + 1) := aw_e3 (100 + 10 * a) 1 1 _ (by omega)
    have e4 : nI (100 + 10 * a) + 4 = nI (104 + 10 * a) := aw_e2 (100 + 10 * a) 4 _ (by omega)
    have e5 : nI (100 + 10 * a) + 5 = nI (105 + 10 * a + 0) := aw_e2 (100 + 10 * a) 5 _ (by omega)
    have vn := hK.1 n hnD
    have e6n : a6 n = nI (v0 n) := by rw [(h6 n hn12).1 vn.1, vn.2]
    have key : ∀ (rd' : Nat → Prop) (v' : Nat → Nat) (a6 : (Nat → Int32)), aw_P6 rd' v' a6 → aw_RK m FN FA t x n B Dn v0 rd' v' → (∀ j, rd j → rd' j ∧ v' j ≤ v j) → (aw_T m a t → rd' b ∧ v' b ≤ v0 n + 99) → wX_relax_101 post (wX_relax_15 post (nI n) (nI t) f0 f1 f2 f3 f4 f) (nI n) (nI t) (nI a) (nI k) f0 f1 f2 f3 f4 m a2 a3 a4 a5 a6 a7 a8 a9 a10 a11 a12 a13 := by
      intro rd' v' a6 h6' hK' hm' hb'
      refine aw_ac a rfl ⟨pk_in (105 + 10 * a + 0) 340 (by omega) e5, nm_r (e' := m (105 + 10 * a + 0)) (by rw [pk_cl (105 + 10 * a + 0) e5]) (nm_r (nI_1 k) ?_)⟩
      refine ih _ (k + 1) f rd' v' a6 hc.2.2 (fun y hy => hl y (List.mem_cons_of_mem _ hy)) (by omega) (by omega) h6' hK' (fun rd2 v2 c6 g1 g2 g3 g4 => ?_)
      refine H rd2 v2 c6 g1 g2 (fun j hj => ?_) (fun y hy hT j hj ej => ?_)
      · have p1 := hm' j hj
        have p2 := g3 j p1.1
        exact ⟨p2.1, by omega⟩
      · rcases List.mem_cons.mp hy with z | z
        · rw [z] at hT ej
          rw [eb] at ej
          have e : b = j := (nI_eq (by omega) (by omega)).mp ej
          rw [← e]
          have p1 := hb' hT
          have p2 := g3 b p1.1
          exact ⟨p2.1, by omega⟩
        · exact g4 y z hT j hj ej
    have put : b ∉ Dn → aw_T m a t → (rd b → v0 n + w ≤ v b) → wX_relax_92 post (wX_relax_15 post (nI n) (nI t) f0 f1 f2 f3 f4 f) (nI n) (nI t) (nI a) (nI k) (nI b) (nI (v0 n + w)) f0 f1 f2 f3 f4 m a2 a3 a4 a5 a6 a7 a8 a9 a10 a11 a12 a13 := by
      intro hbD hT hle
      refine ⟨pk_in b 12 hb12, nm_r (e' := upd a6 b (nI (v0 n + w))) (by rw [cb]) ?_⟩
      have hG : aw_G m FA t n b := ⟨hn12, hb12, a, ha, haC.2.1, haC.2.2, eb, hT⟩
      obtain ⟨_, _, i, hi⟩ := hK.2.2 n vn.1
      refine key (fun j => rd j ∨ j = b) (fun j => if j = b then v0 n + w else v j) _ (fun j hj => ?_) ⟨fun d hd => ?_, fun j hj hjr => ?_, fun j hjr => ?_⟩ (fun j hj => ?_) (fun _ => ?_)
      · dsimp only
        by_cases e : j = b
        · rw [if_pos e, e]
          exact ⟨fun _ => pk_us, fun z => absurd (Or.inr rfl) z⟩
        · rw [if_neg e, pk_un e]
          exact ⟨fun z => (h6 j hj).1 (z.elim id (fun q => absurd q e)), fun z => (h6 j hj).2 (fun q => z (Or.inl q))⟩
      · have e : d ≠ b := fun q => hbD (q ▸ hd)
        refine ⟨Or.inl (hK.1 d hd).1, ?_⟩
        show (if d = b then v0 n + w else v d) = v0 d
        rw [if_neg e]; exact (hK.1 d hd).2
      · show v0 n ≤ if j = b then v0 n + w else v j
        by_cases e : j = b
        · rw [if_pos e]; omega
        · rw [if_neg e]; exact hK.2.1 j hj (hjr.elim id (fun q => absurd q e))
      · show aw_U FN j ∧ (if j = b then v0 n + w else v j) ≤ B ∧ _
        by_cases e : j = b
        · rw [if_pos e, e]; exact ⟨hbu, by omega, i + 1, n, hi, hG⟩
        · rw [if_neg e]; exact hK.2.2 j (hjr.elim id (fun q => absurd q e))
      · refine ⟨Or.inl hj, ?_⟩
        show (if j = b then v0 n + w else v j) ≤ v j
        by_cases e : j = b
        · rw [if_pos e]; rw [e] at hj ⊢; exact hle hj
        · rw [if_neg e]; exact Nat.le_refl _
      · refine ⟨Or.inr rfl, ?_⟩
        show (if b = b then v0 n + w else v b) ≤ v0 n + 99
        rw [if_pos rfl]; omega
    rw [hm]
    refine br_f (nI_ge (b := 24) (by omega) (by decide)) (br_f (nI_pos (by omega)) (aw_ac a rfl ⟨pk_in (101 + 10 * a + 1) 340 (by omega) e2, nm_r (e' := nI b) (by rw [pk_cl (101 + 10 * a + 1) e2]; exact eb) ⟨pk_in n 12 hn12, aw_ac a rfl ⟨pk_in (104 + 10 * a) 340 (by omega) e4, nm_r (e' := nI (v0 n + w)) (by rw [cn, e6n, pk_cl (104 + 10 * a) e4, ew, nI_add]) ?_⟩⟩⟩))
    refine aw_isOf (m := m) a t rfl rfl ha ht rfl (fun hT => br_f (by decide) ⟨pk_in b 12 hb12, ?_⟩) (fun hT => br_t rfl (key rd v a6 h6 hK (fun j hj => ⟨hj, Nat.le_refl _⟩) (fun z => absurd z hT)))
    rw [cb]
    by_cases cr : rd b
    · have e6b := (h6 b hb12).1 cr
      have hvb := (hK.2.2 b cr).2.1
      rw [e6b]
      refine br_f (nI_pos (by omega)) ⟨pk_in b 12 hb12, pk_le (v b) (v0 n + w) (fun z => key rd v a6 h6 hK (fun j hj => ⟨hj, Nat.le_refl _⟩) (fun _ => ⟨cr, by omega⟩)) (fun z => put (fun q => ?_) hT (fun _ => by omega))⟩
      have p1 := (hK.1 b q).2
      have p2 := hvn b q
      omega
    · have e6b := (h6 b hb12).2 cr
      rw [e6b]
      exact br_t (by decide) (put (fun q => cr (hK.1 b q).1) hT (fun z => absurd z cr))
def aw_CI (m : (Nat → Int32)) (FN FA : List Nat) (t x : Nat) (Dn : List Nat) (rd : Nat → Prop) (v : Nat → Nat) : Prop :=
  Dn.Nodup ∧ (∀ d ∈ Dn, aw_U FN d ∧ rd d) ∧ (rd x ∧ v x = 0) ∧ (∀ j, rd j → aw_U FN j ∧ v j ≤ 99 * Dn.length ∧ ∃ i, aw_wk (aw_G m FA t) x i j) ∧ (∀ d ∈ Dn, ∀ j, rd j → j ∉ Dn → v d ≤ v j) ∧ ∀ d ∈ Dn, ∀ b, aw_G m FA t d b → rd b ∧ v b ≤ v d + 99
/-- what cheapest answers -/
def aw_cp (m : (Nat → Int32)) (FA : List Nat) (t x y : Nat) (r : Int32) : Prop := (r = -2 ∧ ∀ i, ¬ aw_wk (aw_G m FA t) x i y) ∨ ∃ w, w ≤ 1188 ∧ r = nI w ∧ (∃ i, aw_wk (aw_G m FA t) x i y) ∧ ∀ i, aw_wk (aw_G m FA t) x i y → w ≤ 99 * i
theorem aw_cheapest_100 {m : (Nat → Int32)} {FN FA : List Nat} {t e : Nat} {post : Int32 → St1 → Prop} {S : List (Nat → Int32)} {f1 f2 f3 f4 : Int32} {a2 a3 a4 a5 a6 a7 a8 a9 a10 a11 a12 a13 : Nat → Int32} {Dn : List Nat} {rd : Nat → Prop} {v : Nat → Nat} (he : e < 144) (H : ∀ r, aw_cp m FA t (e / 12) (e % 12) r → aw_K S m (post r)) (hR : aw_R S m (nI S.length, f1, f2, f3, f4, m, a2, a3, a4, a5, a6, a7, a8, a9, a10, a11, a12, a13)) (h6 : aw_P6 rd v a6) (hI : aw_CI m FN FA t (e / 12) Dn rd v) (hall : ∀ j, j < 12 → rd j → j ∈ Dn) :
    wX_cheapest_100 post (nI e) (nI S.length) f1 f2 f3 f4 m a2 a3 a4 a5 a6 a7 a8 a9 a10 a11 a12 a13 := by
  have hr : nI e - nI e / 12 * 12 = nI (e % 12) := pk_rem (a := e) (d := 12) (by omega) (by omega) (by omega)
  obtain ⟨g1, g2, g3, g4, g5, g6⟩ := hI
  have hle : Dn.length ≤ 12 := aw_pig g1 (fun d hd => (g2 d hd).1.1)
  have wk : ∀ i b, aw_wk (aw_G m FA t) (e / 12) i b → rd b ∧ v b ≤ 99 * i := by
    intro i
    induction i with
    | zero => intro b h; rw [show b = e / 12 from h]; exact ⟨g3.1, by rw [g3.2]; omega⟩
    | succ i ih =>
      intro b h
      obtain ⟨c, q1, q2⟩ := h
      obtain ⟨p1, p2⟩ := ih c q1
      obtain ⟨p3, p4⟩ := g6 c (hall c q2.1 p1) b q2
      exact ⟨p3, by omega⟩
  refine ⟨by decide, pk_in (e % 12) 12 (by omega) hr, nm_r (e' := a6 (e % 12)) (by rw [pk_cl (e % 12) hr]) ?_⟩
  by_cases c : rd (e % 12)
  · have q := g4 _ c
    rw [(h6 _ (by omega)).1 c]
    exact br_t (nI_pos' (by omega)) (H _ (Or.inr ⟨v (e % 12), by omega, rfl, q.2.2, fun i hi => (wk i _ hi).2⟩) f1 f2 f3 f4 a2 a3 a4 a5 a6 a7 a8 a9 a10 a11 a12 a13 hR)
  · rw [(h6 _ (by omega)).2 c]
    exact br_f (by decide) (H _ (Or.inl ⟨rfl, fun i hi => c (wk i _ hi).1⟩) f1 f2 f3 f4 a2 a3 a4 a5 a6 a7 a8 a9 a10 a11 a12 a13 hR)
theorem aw_cheapest_65 {m : (Nat → Int32)} {FN FA : List Nat} {C : Nat → Nat → List Nat} {t e : Nat} {post : Int32 → St1 → Prop} {S : List (Nat → Int32)} (hJ : aw_J m FN FA C) (ht : t ≤ 4) (he : e < 144) (H : ∀ r, aw_cp m FA t (e / 12) (e % 12) r → aw_K S m (post r)) :
    ∀ (f : Nat) (Dn : List Nat) (rd : Nat → Prop) (v : Nat → Nat) (r : Int32), ∀ (f1 f2 f3 f4 : Int32) (a2 a3 a4 a5 a6 a7 a8 a9 a10 a11 a12 a13 : Nat → Int32), 12 - Dn.length < f → aw_R S m (nI S.length, f1, f2, f3, f4, m, a2, a3, a4, a5, a6, a7, a8, a9, a10, a11, a12, a13) → aw_P6 rd v a6 → aw_P7 Dn a7 → aw_CI m FN FA t (e / 12) Dn rd v → aw_nr Dn rd v r 12 →
    wX_cheapest_65 post (nI e) (nI t) f r (nI Dn.length) (nI S.length) f1 f2 f3 f4 m a2 a3 a4 a5 a6 a7 a8 a9 a10 a11 a12 a13 := by
  intro f
  induction f with
  | zero => intro Dn rd v r f1 f2 f3 f4 a2 a3 a4 a5 a6 a7 a8 a9 a10 a11 a12 a13 hf; exact absurd hf (by omega)
  | succ f ih =>
    intro Dn rd v r f1 f2 f3 f4 a2 a3 a4 a5 a6 a7 a8 a9 a10 a11 a12 a13 hf hR h6 h7 hI hr
    have hI' := hI
    obtain ⟨g1, g2, g3, g4, g5, g6⟩ := hI'
    have hle : Dn.length ≤ 12 := aw_pig g1 (fun d hd => (g2 d hd).1.1)
    refine pk_le 12 Dn.length (fun z => ?_) (fun z => ?_)
    · refine aw_cheapest_100 he H hR h6 hI (fun j hj _ => Classical.byContradiction (fun q => ?_))
      have := aw_pig1 g1 (fun d hd => (g2 d hd).1.1) hj q
      omega
    · rcases hr with ⟨h1, h2⟩ | ⟨n, h1, h2, h3, h4, h5⟩
      · rw [h1]
        exact br_t (by decide) (aw_cheapest_100 he H hR h6 hI (fun j hj hjr => Classical.byContradiction (fun q => h2 j hj q hjr)))
      · rw [h2]
        have hnu := (g4 n h4).1
        have cn : (nI n).toNatClampNeg = n := nI_clamp (by omega)
        have hd := hJ.2.2.2.2.2.2.1 n hnu 0 (by omega)
        have hp := aw_pig hd.2.1 (aw_dl_lt hd.1)
        have e3 : nI (16 + 7 * n) + 3 = nI (19 + 7 * n + 0) := aw_e2 (16 + 7 * n) 3 _ (by omega)
        refine br_f (nI_pos (by omega)) ⟨pk_in n 12 h1, nm_r (e' := upd a7 n 1) (by rw [cn]) ?_⟩
        have h7' : aw_P7 (n :: Dn) (upd a7 n 1) := by
          intro j hj
          by_cases q : j = n
          · rw [q, pk_us]
            exact ⟨fun _ => by decide, fun z => absurd (List.mem_cons_self ..) z⟩
          · rw [pk_un q]
            exact ⟨fun z => (h7 j hj).1 ((List.mem_cons.mp z).elim (fun y => absurd y q) id), fun z => (h7 j hj).2 (fun y => z (List.mem_cons_of_mem _ y))⟩
        unfold wpX_relax
        refine aw_na n rfl ?_
        refine ⟨pk_in (19 + 7 * n + 0) 340 (by omega) e3, nm_r (e' := m (19 + 7 * n + 0)) (by rw [pk_cl (19 + 7 * n + 0) e3]) ⟨25, ?_⟩⟩
        have hvn : v n ≤ 99 * Dn.length := (g4 n h4).2.1
        refine aw_relax_l (x := e / 12) (B := 99 * (Dn.length + 1)) (Dn := n :: Dn) (v0 := v) hJ ht hnu (List.mem_cons_self ..) (fun d hd => ?_) (by omega) (by omega) (C 0 n) _ 0 25 rd v a6 (aw_dl_ch hd.1) (fun a ha => ha) (by omega) (by omega) h6 ⟨fun d hd => ?_, fun j hj hjr => ?_, fun j hjr => ?_⟩ (fun rd' v' c6 k1 k2 k3 k4 => ?_)
        · rcases List.mem_cons.mp hd with q | q
          · rw [q]; exact Nat.le_refl _
          · exact g5 d q n h4 h3
        · rcases List.mem_cons.mp hd with q | q
          · rw [q]; exact ⟨h4, rfl⟩
          · exact ⟨(g2 d q).2, rfl⟩
        · exact h5 j (g4 j hjr).1.1 (fun q => hj (List.mem_cons_of_mem _ q)) hjr
        · obtain ⟨p1, p2, p3⟩ := g4 j hjr
          exact ⟨p1, by omega, p3⟩
        · have hv' : ∀ j, rd' j → v' j < 10000 := fun j hj => by have := (k2.2.2 j hj).2.1; omega
          refine aw_nearest (m := m) k1 h7' hv' (fun r' hr' => nm_r (nI_1 Dn.length) ?_)
          refine ih (n :: Dn) rd' v' r' f1 f2 f3 f4 a2 a3 a4 a5 c6 _ a8 a9 a10 a11 a12 a13 (by rw [List.length_cons]; omega) (aw_Rs hR) k1 h7' ⟨List.nodup_cons.mpr ⟨h3, g1⟩, fun d hd => ?_, ?_, ?_, ?_, ?_⟩ hr'
          · refine ⟨?_, (k2.1 d hd).1⟩
            rcases List.mem_cons.mp hd with q | q
            · rw [q]; exact hnu
            · exact (g2 d q).1
          · have p := k3 _ g3.1
            refine ⟨p.1, ?_⟩
            have := g3.2
            omega
          · intro j hj
            rw [List.length_cons]
            exact k2.2.2 j hj
          · intro d hd j hjr hj
            rw [(k2.1 d hd).2]
            have p1 := k2.2.1 j hj hjr
            rcases List.mem_cons.mp hd with q | q
            · rw [q]; exact p1
            · have p2 := g5 d q n h4 h3
              omega
          · intro d hd b hG
            rw [(k2.1 d hd).2]
            rcases List.mem_cons.mp hd with q | q
            · rw [q] at hG ⊢
              obtain ⟨y1, y2, a, y3, y4, y5, y6, y7⟩ := hG
              exact k4 a ((aw_C_mem hJ hnu (by omega)).mpr ⟨y3, y4, y5⟩) y7 b y2 y6
            · obtain ⟨p1, p2⟩ := g6 d q b hG
              have p3 := k3 b p1
              exact ⟨p3.1, by omega⟩
theorem aw_cheapest_19 {m : (Nat → Int32)} {FN FA : List Nat} {C : Nat → Nat → List Nat} {t e : Nat} {post : Int32 → St1 → Prop} {S : List (Nat → Int32)} (hJ : aw_J m FN FA C) (ht : t ≤ 4) (he : e < 144) (hxu : aw_U FN (e / 12)) (H : ∀ r, aw_cp m FA t (e / 12) (e % 12) r → aw_K S m (post r)) :
    ∀ (d n f : Nat), ∀ (f1 f2 f3 f4 : Int32) (a2 a3 a4 a5 a6 a7 a8 a9 a10 a11 a12 a13 : Nat → Int32), n + d = 12 → d < f → aw_R S m (nI S.length, f1, f2, f3, f4, m, a2, a3, a4, a5, a6, a7, a8, a9, a10, a11, a12, a13) → (∀ j, j < n → (j = e / 12 → a6 j = nI 0) ∧ (¬ j = e / 12 → a6 j = -1) ∧ a7 j = 0) → wX_cheapest_19 post (nI e) (nI t) (nI S.length) f1 f2 f3 f4 f (nI n) m a2 a3 a4 a5 a6 a7 a8 a9 a10 a11 a12 a13 := by
  have hdv : nI e / 12 = nI (e / 12) := pk_div (a := e) (d := 12) (by omega) (by omega) (by omega)
  intro d
  induction d with
  | zero =>
    intro n f f1 f2 f3 f4 a2 a3 a4 a5 a6 a7 a8 a9 a10 a11 a12 a13 hd hf hR hz
    obtain ⟨f, rfl⟩ : ∃ g, f = g + 1 := ⟨f - 1, by omega⟩
    have en : n = 12 := by omega
    subst en
    have h6 : aw_P6 (fun j => j = e / 12) (fun _ => 0) a6 := fun j hj => ⟨(hz j hj).1, (hz j hj).2.1⟩
    have h7 : aw_P7 [] a7 := fun j hj => ⟨fun q => (by cases q), fun _ => (hz j hj).2.2⟩
    refine br_t (by decide) (aw_nearest (m := m) h6 h7 (fun j _ => by show 0 < 10000; omega) (fun r hr => ⟨13, ?_⟩))
    refine aw_cheapest_65 hJ ht he H 13 [] _ _ r f1 f2 f3 f4 a2 a3 a4 a5 a6 a7 a8 a9 a10 a11 a12 a13 (by simp) hR h6 h7 ⟨List.nodup_nil, fun d hd => (by cases hd), ⟨rfl, rfl⟩, fun j hj => ?_, fun d hd => (by cases hd), fun d hd => (by cases hd)⟩ hr
    have hj' : j = e / 12 := hj
    rw [hj']
    exact ⟨hxu, Nat.zero_le _, 0, rfl⟩
  | succ d ih =>
    intro n f f1 f2 f3 f4 a2 a3 a4 a5 a6 a7 a8 a9 a10 a11 a12 a13 hd hf hR hz
    obtain ⟨f, rfl⟩ : ∃ g, f = g + 1 := ⟨f - 1, by omega⟩
    have hn : n < 12 := by omega
    have cn : (nI n).toNatClampNeg = n := nI_clamp (by omega)
    have key : ∀ z0 : Int32, (n = e / 12 → z0 = nI 0) → (¬ n = e / 12 → z0 = -1) → wX_cheapest_43 post (wX_cheapest_19 post (nI e) (nI t) (nI S.length) f1 f2 f3 f4 f) (nI e) (nI t) (nI n) z0 (nI n) (nI S.length) f1 f2 f3 f4 m a2 a3 a4 a5 a6 a7 a8 a9 a10 a11 a12 a13 := by
      intro z0 hz1 hz2
      refine ⟨pk_in n 12 hn, nm_r (e' := upd a6 n z0) (by rw [cn]) ⟨pk_in n 12 hn, nm_r (e' := upd a7 n 0) (by rw [cn]) (nm_r (nI_1 n) ?_)⟩⟩
      refine ih (n + 1) f f1 f2 f3 f4 _ _ _ _ _ _ _ _ _ _ _ _ (by omega) (by omega) (aw_Rs hR) (fun j hj => ?_)
      by_cases q : j = n
      · rw [q, pk_us, pk_us]; exact ⟨hz1, hz2, rfl⟩
      · rw [pk_un q, pk_un q]; exact hz j (by omega)
    refine br_f (nI_ge (b := 12) hn (by decide)) ⟨by decide, ?_⟩
    rw [hdv]
    exact pk_eq n (e / 12) (fun q => key 0 (fun _ => rfl) (fun y => absurd q y)) (fun q => key (-1) (fun y => absurd y q) (fun _ => rfl))
theorem aw_cheapest {m : (Nat → Int32)} {FN FA : List Nat} {C : Nat → Nat → List Nat} {t e : Nat} {post : Int32 → St1 → Prop} {S : List (Nat → Int32)} {u : St1} (hJ : aw_J m FN FA C) (ht : t ≤ 4) (he : e < 144) (hR : aw_R S m u)
    (H1 : aw_U FN (e / 12) → aw_U FN (e % 12) → ∀ r, aw_cp m FA t (e / 12) (e % 12) r → aw_K S m (post r)) (H0 : ¬ (aw_U FN (e / 12) ∧ aw_U FN (e % 12)) → aw_K S m (post (-1))) : wpX_cheapest post u (nI e) (nI t) := by
  obtain ⟨f0, f1, f2, f3, f4, a1, a2, a3, a4, a5, a6, a7, a8, a9, a10, a11, a12, a13⟩ := u
  have hR' := hR
  obtain ⟨rfl, rfl, _⟩ := hR'
  unfold wpX_cheapest
  refine aw_areEnds e rfl he rfl hJ (fun h1 h2 => br_f (by decide) (aw_isType t rfl ht (br_f (by decide) ⟨13, ?_⟩))) (fun z => br_t rfl (H0 z f1 f2 f3 f4 a2 a3 a4 a5 a6 a7 a8 a9 a10 a11 a12 a13 hR))
  exact aw_cheapest_19 hJ ht he h1 (H1 h1 h2) 12 0 13 f1 f2 f3 f4 a2 a3 a4 a5 a6 a7 a8 a9 a10 a11 a12 a13 (by omega) (by omega) hR (fun j hj => absurd hj (by omega))
end
section
/-! ===== the constructor ===== -/
def aw_i1 : Nat → (Nat → Int32)
  | 0 => fun _ => 0
  | k + 1 => upd (aw_i1 k) (16 + 7 * k + 5) (if 12 ≤ k + 1 then -1 else nI (k + 1))
def aw_i2 : Nat → (Nat → Int32)
  | 0 => aw_i1 12
  | k + 1 => upd (aw_i2 k) (100 + 10 * k + 5) (if 24 ≤ k + 1 then -1 else nI (k + 1))
def aw_m0 : (Nat → Int32) := aw_i2 24
theorem aw_ch_range {m : (Nat → Int32)} {f : Nat → Nat} {N : Nat} : ∀ (d k c : Nat), m c = (if d = 0 then -1 else nI k) → (∀ j, j < k + d → k ≤ j → m (f j) = if j + 1 = k + d then -1 else nI (j + 1)) → k + d ≤ N → aw_ch m f N c (List.range' k d) := by
  intro d
  induction d with
  | zero => intro k c h _ _; rw [if_pos rfl] at h; exact h
  | succ d ih =>
    intro k c h hf hN
    rw [if_neg (by omega)] at h
    refine ⟨h, by omega, ih (k + 1) (f k) ?_ (fun j h1 h2 => ?_) (by omega)⟩
    · rw [hf k (by omega) (by omega)]
      by_cases z : d = 0
      · rw [if_pos z, if_pos (by omega)]
      · rw [if_neg z, if_neg (by omega)]
    · rw [hf j (by omega) (by omega)]
      by_cases z : j + 1 = k + (d + 1)
      · rw [if_pos z, if_pos (by omega)]
      · rw [if_neg z, if_neg (by omega)]
theorem aw_V0 : aw_V aw_m0 := by
  have m12 : ∀ n, n < 12 → n ∈ List.range' 0 12 := by decide
  have m24 : ∀ n, n < 24 → n ∈ List.range' 0 24 := by decide
  refine ⟨List.range' 0 12, List.range' 0 24, fun _ _ => [], [], ⟨⟨?_, by decide⟩, ⟨?_, by decide⟩, ?_, ?_, ?_, ?_, ?_, ?_, ?_, ?_⟩, ⟨?_, trivial, List.Pairwise.nil, fun n hn => (by cases hn)⟩, fun n => ⟨fun hn => (by cases hn), fun hn => absurd (m12 n hn.1) hn.2⟩⟩
  · refine aw_ch_range 12 0 0 (by decide +kernel) (fun j hj _ => ?_) (by omega)
    exact (by decide +kernel : ∀ j, j < 12 → aw_m0 (16 + 7 * j + 5) = if j + 1 = 0 + 12 then -1 else nI (j + 1)) j (by omega)
  · refine aw_ch_range 24 0 1 (by decide +kernel) (fun j hj _ => ?_) (by omega)
    exact (by decide +kernel : ∀ j, j < 24 → aw_m0 (100 + 10 * j + 5) = if j + 1 = 0 + 24 then -1 else nI (j + 1)) j (by omega)
  · intro n hn
    rw [if_pos (m12 n hn)]
    exact (by decide +kernel : ∀ j, j < 12 → aw_m0 (16 + 7 * j) = 0) n hn
  · intro a ha
    rw [if_pos (m24 a ha)]
    exact (by decide +kernel : ∀ j, j < 24 → aw_m0 (100 + 10 * j) = 0) a ha
  · decide +kernel
  · intro a ha haF
    exact absurd (m24 a ha) haF
  · intro n hn
    exact absurd (m12 n hn.1) hn.2
  · intro n hn
    exact absurd (m12 n hn.1) hn.2
  · intro n hn
    exact absurd (m12 n hn.1) hn.2
  · intro n hn
    exact absurd (m12 n hn.1) hn.2
  · decide +kernel
theorem aw_init_153 {post : St1 → Prop} {mc ms kc ks : Nat} (H : aw_K [] aw_m0 post) : ∀ (d a f : Nat), a + d = 24 → d < f → wX_init_153 post mc ms kc ks 0 0 0 0 0 f (nI a) (aw_i2 a) (fun _ => 0) (fun _ => 0) (fun _ => 0) (fun _ => 0) (fun _ => 0) (fun _ => 0) (fun _ => 0) (fun _ => 0) (fun _ => 0) (fun _ => 0) (fun _ => 0) (fun _ => 0) := by
  intro d
  induction d with
  | zero =>
    intro a f h hf
    obtain ⟨f, rfl⟩ : ∃ g, f = g + 1 := ⟨f - 1, by omega⟩
    have e : a = 24 := by omega
    subst e
    refine br_t (by decide) (H 0 0 0 0 _ _ _ _ _ _ _ _ _ _ _ _ ⟨rfl, rfl, by simp, trivial, fun j _ _ => ⟨rfl, fun x _ => rfl⟩⟩)
  | succ d ih =>
    intro a f h hf
    obtain ⟨f, rfl⟩ : ∃ g, f = g + 1 := ⟨f - 1, by omega⟩
    have ha : a < 24 := by omega
    have e5 : nI (100 + 10 * a) + 5 = nI (100 + 10 * a + 5) := nI_add _ 5
    have go := ih (a + 1) f (by omega) (by omega)
    have es : aw_i2 (a + 1) = upd (aw_i2 a) (100 + 10 * a + 5) (if 24 ≤ a + 1 then -1 else nI (a + 1)) := rfl
    rw [es] at go
    refine br_f (nI_ge (b := 24) ha (by decide)) (aw_ac a rfl ?_)
    refine pk_le 24 (a + 1) (fun z => ⟨pk_in (100 + 10 * a + 5) 340 (by omega) e5, nm_r (e' := upd (aw_i2 a) (100 + 10 * a + 5) (-1)) (by rw [pk_cl (100 + 10 * a + 5) e5]) (nm_r (nI_1 a) ?_)⟩) (fun z => ⟨pk_in (100 + 10 * a + 5) 340 (by omega) e5, nm_r (e' := upd (aw_i2 a) (100 + 10 * a + 5) (nI (a + 1))) (by rw [pk_cl (100 + 10 * a + 5) e5, nI_1]) (nm_r (nI_1 a) ?_)⟩) rfl (nI_1 a)
    · rw [if_pos z] at go; exact go
    · rw [if_neg (by omega)] at go; exact go
theorem aw_init_113 {post : St1 → Prop} {mc ms kc ks : Nat} (H : aw_K [] aw_m0 post) : ∀ (d n f : Nat), n + d = 12 → d < f → wX_init_113 post mc ms kc ks 0 0 0 0 0 f (nI n) (aw_i1 n) (fun _ => 0) (fun _ => 0) (fun _ => 0) (fun _ => 0) (fun _ => 0) (fun _ => 0) (fun _ => 0) (fun _ => 0) (fun _ => 0) (fun _ => 0) (fun _ => 0) (fun _ => 0) := by
  intro d
  induction d with
  | zero =>
    intro n f h hf
    obtain ⟨f, rfl⟩ : ∃ g, f = g + 1 := ⟨f - 1, by omega⟩
    have e : n = 12 := by omega
    subst e
    exact br_t (by decide) ⟨25, aw_init_153 H 24 0 25 (by omega) (by omega)⟩
  | succ d ih =>
    intro n f h hf
    obtain ⟨f, rfl⟩ : ∃ g, f = g + 1 := ⟨f - 1, by omega⟩
    have hn : n < 12 := by omega
    have e5 : nI (16 + 7 * n) + 5 = nI (16 + 7 * n + 5) := nI_add _ 5
    have go := ih (n + 1) f (by omega) (by omega)
    have es : aw_i1 (n + 1) = upd (aw_i1 n) (16 + 7 * n + 5) (if 12 ≤ n + 1 then -1 else nI (n + 1)) := rfl
    rw [es] at go
    refine br_f (nI_ge (b := 12) hn (by decide)) (aw_na n rfl ?_)
    refine pk_le 12 (n + 1) (fun z => ⟨pk_in (16 + 7 * n + 5) 340 (by omega) e5, nm_r (e' := upd (aw_i1 n) (16 + 7 * n + 5) (-1)) (by rw [pk_cl (16 + 7 * n + 5) e5]) (nm_r (nI_1 n) ?_)⟩) (fun z => ⟨pk_in (16 + 7 * n + 5) 340 (by omega) e5, nm_r (e' := upd (aw_i1 n) (16 + 7 * n + 5) (nI (n + 1))) (by rw [pk_cl (16 + 7 * n + 5) e5, nI_1]) (nm_r (nI_1 n) ?_)⟩) rfl (nI_1 n)
    · rw [if_pos z] at go; exact go
    · rw [if_neg (by omega)] at go; exact go
theorem aw_init {post : St1 → Prop} (H : aw_K [] aw_m0 post) : wpX_init post 13 4520 (0, 0, 0, 0, 0) := by
  unfold wpX_init
  refine ⟨by decide, by decide, by decide, by decide, by decide, by decide, by decide, by decide, by decide, by decide, by decide, by decide, by decide, by decide, by decide, by decide, by decide, by decide, by decide, by decide, by decide, by decide, by decide, by decide, by decide, by decide, 13, ?_⟩
  exact aw_init_113 H 12 0 13 (by omega) (by omega)
end
section
/-! ===== the law ===== -/
theorem aw_law_222 {L : Nat} {xs m : (Nat → Int32)} {kc ks : Nat} (hL : L ≤ 260) (hV : aw_V m) : ∀ (d i f : Nat), ∀ (f1 f2 f3 f4 : Int32) (a2 a3 a4 a5 a6 a7 a8 a9 a10 a11 a12 a13 : Nat → Int32), ∀ (e1 e2 e3 e4 : Int32) (b2 b3 b4 b5 b6 b7 b8 b9 b10 b11 b12 b13 : Nat → Int32), i + d = 36 → d < f → aw_R [] m (nI ([] : List (Nat → Int32)).length, f1, f2, f3, f4, m, a2, a3, a4, a5, a6, a7, a8, a9, a10, a11, a12, a13) → aw_R [] m (nI ([] : List (Nat → Int32)).length, e1, e2, e3, e4, m, b2, b3, b4, b5, b6, b7, b8, b9, b10, b11, b12, b13) →
    wL_law_222 (fun r => r = 1) L xs kc ks f (nI i) (nI ([] : List (Nat → Int32)).length) f1 f2 f3 f4 m a2 a3 a4 a5 a6 a7 a8 a9 a10 a11 a12 a13 (nI ([] : List (Nat → Int32)).length) e1 e2 e3 e4 m b2 b3 b4 b5 b6 b7 b8 b9 b10 b11 b12 b13 := by
  have hV' := hV
  obtain ⟨FN, FA, C, RW, hJ, hRow, hU⟩ := hV'
  intro d
  induction d with
  | zero =>
    intro i f f1 f2 f3 f4 a2 a3 a4 a5 a6 a7 a8 a9 a10 a11 a12 a13 e1 e2 e3 e4 b2 b3 b4 b5 b6 b7 b8 b9 b10 b11 b12 b13 h hf hc hd
    obtain ⟨f, rfl⟩ : ∃ g, f = g + 1 := ⟨f - 1, by omega⟩
    have e : i = 36 := by omega
    subst e
    refine br_t (by decide) ?_
    refine aw_crash hc (fun f1 f2 f3 f4 a2 a3 a4 a5 a6 a7 a8 a9 a10 a11 a12 a13 c1 => br_t rfl ?_)
    exact aw_same hV c1 hd (fun f1 f2 f3 f4 a2 a3 a4 a5 a6 a7 a8 a9 a10 a11 a12 a13 e1 e2 e3 e4 b2 b3 b4 b5 b6 b7 b8 b9 b10 b11 b12 b13 c2 d2 => br_f (by decide) rfl)
  | succ d ih =>
    intro i f f1 f2 f3 f4 a2 a3 a4 a5 a6 a7 a8 a9 a10 a11 a12 a13 e1 e2 e3 e4 b2 b3 b4 b5 b6 b7 b8 b9 b10 b11 b12 b13 h hf hc hd
    obtain ⟨f, rfl⟩ : ∃ g, f = g + 1 := ⟨f - 1, by omega⟩
    have hi : i < 36 := by omega
    have g4 : (12 : Int32) * (nI i / 6) + (nI i - nI i / 6 * 6) = nI (12 * (i / 6) + i % 6) := by
      have h1 : nI i / 6 = nI (i / 6) := pk_div (a := i) (d := 6) (by omega) (by omega) (by omega)
      have h2 : nI i - nI i / 6 * 6 = nI (i % 6) := pk_rem (a := i) (d := 6) (by omega) (by omega) (by omega)
      rw [h2, h1]
      show nI 12 * nI (i / 6) + nI (i % 6) = _
      rw [pk_mul, nI_add]
    obtain ⟨j, hj, ej⟩ := pk_andE (aw_cv xs L 55 + nI i) (m := 2147483647) 31 (by decide)
    have g5 : ((aw_cv xs L 55 + nI i) &&& 2147483647) - ((aw_cv xs L 55 + nI i) &&& 2147483647) / 5 * 5 = nI (j % 5) := by
      rw [ej]; exact pk_rem (a := j) (d := 5) hj (by omega) (by omega)
    have he : 12 * (i / 6) + i % 6 < 144 := by omega
    have ht : j % 5 ≤ 4 := by omega
    generalize 12 * (i / 6) + i % 6 = e at g4 he
    generalize j % 5 = t at g5 ht
    refine br_f (nI_ge (b := 36) hi (by decide)) ⟨by decide, by decide, nm_r g4 (aw_cell 55 rfl hL (by omega) ⟨by decide, nm_r g5 ?_⟩)⟩
    refine aw_distance hJ ht he hc (fun u1 u2 r hr => fun f1 f2 f3 f4 a2 a3 a4 a5 a6 a7 a8 a9 a10 a11 a12 a13 c1 => ?_) (fun hn => fun f1 f2 f3 f4 a2 a3 a4 a5 a6 a7 a8 a9 a10 a11 a12 a13 c1 => ?_)
    · refine aw_cheapest hJ ht he c1 (fun _ _ q hq => fun f1 f2 f3 f4 a2 a3 a4 a5 a6 a7 a8 a9 a10 a11 a12 a13 c2 => ?_) (fun z => absurd ⟨u1, u2⟩ z)
      have go := ih (i + 1) f f1 f2 f3 f4 a2 a3 a4 a5 a6 a7 a8 a9 a10 a11 a12 a13 e1 e2 e3 e4 b2 b3 b4 b5 b6 b7 b8 b9 b10 b11 b12 b13 (by omega) (by omega) c2 hd
      rcases hr with ⟨h1, h2⟩ | ⟨k, h1, h2, h3⟩
      · rcases hq with ⟨q1, _⟩ | ⟨w, _, _, ⟨k, q3⟩, _⟩
        · rw [h1, q1]
          exact br_t (by decide) (br_t rfl (nm_r (nI_1 i) go))
        · exact absurd q3 (h2 k)
      · rcases hq with ⟨_, q2⟩ | ⟨w, q1, q2, _, q4⟩
        · exact absurd h3 (q2 k)
        · have hle := q4 k h3
          rw [h2, q2]
          refine br_f (nI_pos (by omega)) (br_f (nI_pos (by omega)) (br_t ?_ (nm_r (nI_1 i) go)))
          have e99 : (99 : Int32) * nI k = nI (99 * k) := pk_mul 99 k
          rw [e99]
          exact nI_le hle (by omega)
    · refine aw_cheapest hJ ht he c1 (fun u1 u2 _ _ => absurd ⟨u1, u2⟩ hn) (fun _ => fun f1 f2 f3 f4 a2 a3 a4 a5 a6 a7 a8 a9 a10 a11 a12 a13 c2 => ?_)
      have go := ih (i + 1) f f1 f2 f3 f4 a2 a3 a4 a5 a6 a7 a8 a9 a10 a11 a12 a13 e1 e2 e3 e4 b2 b3 b4 b5 b6 b7 b8 b9 b10 b11 b12 b13 (by omega) (by omega) c2 hd
      exact br_t (by decide) (br_t rfl (nm_r (nI_1 i) go))
theorem i_vc (xs : Nat → Int32) (L : Nat) (hL : L ≤ 260) : wpL_law (fun r => r = 1) L xs := by
  obtain ⟨m1, V1, W1⟩ := aw_run (xs := xs) hL aw_V0 0 20 (by omega) (by omega)
  obtain ⟨m2, V2, W2⟩ := aw_run (xs := xs) hL V1 20 34 (by omega) (by omega)
  obtain ⟨m3, V3, W3⟩ := aw_run (xs := xs) hL V1 34 44 (by omega) (by omega)
  obtain ⟨m4, V4, W4⟩ := aw_run (xs := xs) hL V3 20 30 (by omega) (by omega)
  obtain ⟨m5, V5, W5⟩ := aw_run (xs := xs) hL V1 44 54 (by omega) (by omega)
  unfold wpL_law
  refine ⟨13, 4520, by decide, by decide, ?_⟩
  refine aw_init (fun f1 f2 f3 f4 a2 a3 a4 a5 a6 a7 a8 a9 a10 a11 a12 a13 c0 => ⟨by decide, by decide, 13, 4520, by decide, by decide, ?_⟩)
  refine aw_init (fun e1 e2 e3 e4 b2 b3 b4 b5 b6 b7 b8 b9 b10 b11 b12 b13 d0 => ?_)
  refine W1 [] _ _ (by simp) c0 (fun r => fun f1 f2 f3 f4 a2 a3 a4 a5 a6 a7 a8 a9 a10 a11 a12 a13 c1 => ?_)
  refine W1 [] _ _ (by simp) d0 (fun r => fun e1 e2 e3 e4 b2 b3 b4 b5 b6 b7 b8 b9 b10 b11 b12 b13 d1 => ?_)
  refine aw_same V1 c1 d1 (fun f1 f2 f3 f4 a2 a3 a4 a5 a6 a7 a8 a9 a10 a11 a12 a13 e1 e2 e3 e4 b2 b3 b4 b5 b6 b7 b8 b9 b10 b11 b12 b13 c2 d2 => br_f (by decide) ?_)
  refine aw_sums V1 c2 (fun f1 f2 f3 f4 a2 a3 a4 a5 a6 a7 a8 a9 a10 a11 a12 a13 c3 => br_f (by decide) ?_)
  refine aw_begin c3 (by simp) (fun f1 f2 f3 f4 a2 a3 a4 a5 a6 a7 a8 a9 a10 a11 a12 a13 c4 => br_t rfl ?_)
  refine W2 [m1] _ _ (by simp) c4 (fun r => fun f1 f2 f3 f4 a2 a3 a4 a5 a6 a7 a8 a9 a10 a11 a12 a13 c5 => ?_)
  refine aw_sums V2 c5 (fun f1 f2 f3 f4 a2 a3 a4 a5 a6 a7 a8 a9 a10 a11 a12 a13 c6 => br_f (by decide) ?_)
  refine aw_undo c6 (fun f1 f2 f3 f4 a2 a3 a4 a5 a6 a7 a8 a9 a10 a11 a12 a13 c7 => br_t rfl ?_)
  refine aw_same V1 c7 d2 (fun f1 f2 f3 f4 a2 a3 a4 a5 a6 a7 a8 a9 a10 a11 a12 a13 e1 e2 e3 e4 b2 b3 b4 b5 b6 b7 b8 b9 b10 b11 b12 b13 c8 d3 => br_f (by decide) ?_)
  refine aw_sums V1 c8 (fun f1 f2 f3 f4 a2 a3 a4 a5 a6 a7 a8 a9 a10 a11 a12 a13 c9 => br_f (by decide) ?_)
  refine aw_begin c9 (by simp) (fun f1 f2 f3 f4 a2 a3 a4 a5 a6 a7 a8 a9 a10 a11 a12 a13 c10 => br_t rfl ?_)
  refine W3 [m1] _ _ (by simp) c10 (fun r => fun f1 f2 f3 f4 a2 a3 a4 a5 a6 a7 a8 a9 a10 a11 a12 a13 c11 => ?_)
  refine aw_begin c11 (by simp) (fun f1 f2 f3 f4 a2 a3 a4 a5 a6 a7 a8 a9 a10 a11 a12 a13 c12 => ?_)
  refine W4 [m3, m1] _ _ (by simp) c12 (fun r => fun f1 f2 f3 f4 a2 a3 a4 a5 a6 a7 a8 a9 a10 a11 a12 a13 c13 => ?_)
  refine aw_faults V4 c13 (fun f1 f2 f3 f4 a2 a3 a4 a5 a6 a7 a8 a9 a10 a11 a12 a13 c14 => br_t rfl ?_)
  refine aw_crash c14 (fun f1 f2 f3 f4 a2 a3 a4 a5 a6 a7 a8 a9 a10 a11 a12 a13 c15 => br_t rfl ?_)
  refine aw_same V1 c15 d3 (fun f1 f2 f3 f4 a2 a3 a4 a5 a6 a7 a8 a9 a10 a11 a12 a13 e1 e2 e3 e4 b2 b3 b4 b5 b6 b7 b8 b9 b10 b11 b12 b13 c16 d4 => br_f (by decide) ?_)
  refine aw_begin c16 (by simp) (fun f1 f2 f3 f4 a2 a3 a4 a5 a6 a7 a8 a9 a10 a11 a12 a13 c17 => br_t rfl ?_)
  refine W5 [m1] _ _ (by simp) c17 (fun r => fun f1 f2 f3 f4 a2 a3 a4 a5 a6 a7 a8 a9 a10 a11 a12 a13 c18 => ?_)
  refine W5 [] _ _ (by simp) d4 (fun r => fun e1 e2 e3 e4 b2 b3 b4 b5 b6 b7 b8 b9 b10 b11 b12 b13 d5 => ?_)
  refine aw_same V5 c18 d5 (fun f1 f2 f3 f4 a2 a3 a4 a5 a6 a7 a8 a9 a10 a11 a12 a13 e1 e2 e3 e4 b2 b3 b4 b5 b6 b7 b8 b9 b10 b11 b12 b13 c19 d6 => br_f (by decide) ?_)
  refine aw_end c19 (fun f1 f2 f3 f4 a2 a3 a4 a5 a6 a7 a8 a9 a10 a11 a12 a13 c20 => br_t rfl ?_)
  refine aw_same V5 c20 d6 (fun f1 f2 f3 f4 a2 a3 a4 a5 a6 a7 a8 a9 a10 a11 a12 a13 e1 e2 e3 e4 b2 b3 b4 b5 b6 b7 b8 b9 b10 b11 b12 b13 c21 d7 => br_f (by decide) ?_)
  refine aw_sums V5 c21 (fun f1 f2 f3 f4 a2 a3 a4 a5 a6 a7 a8 a9 a10 a11 a12 a13 c22 => br_f (by decide) ⟨37, ?_⟩)
  exact aw_law_222 hL V5 36 0 37 f1 f2 f3 f4 a2 a3 a4 a5 a6 a7 a8 a9 a10 a11 a12 a13 e1 e2 e3 e4 b2 b3 b4 b5 b6 b7 b8 b9 b10 b11 b12 b13 (by omega) (by omega) c22 d7
end
