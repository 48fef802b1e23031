section
/-! rows pasted from the kit's PURE-ROWS, then the encoders: naturals, page codes, booleans as the arrays hold them -/
theorem pk_us {f : Nat → Int32} {k : Nat} {x : Int32} : upd f k x k = x := if_pos rfl
theorem pk_un {f : Nat → Int32} {k j : Nat} {x : Int32} (h : j ≠ k) : upd f k x j = f j := if_neg h
theorem pk_sub {a b : Nat} (h : b ≤ a) : nI a - nI b = nI (a - b) := by
  obtain ⟨c, rfl⟩ : ∃ c, a = c + b := ⟨a - b, by omega⟩
  rw [← nI_add, Int32.add_sub_cancel, Nat.add_sub_cancel]
theorem pk_m1 (n : Nat) : nI (n + 1) + (-1) = nI n := by
  rw [← nI_1, Int32.add_assoc, show (1 : Int32) + (-1) = 0 from rfl, Int32.add_zero]
theorem pk_mul (a b : Nat) : nI a * nI b = nI (a * b) := (Int32.ofNat_mul a b).symm
theorem pk_sub_toInt {a b : Nat} (ha : a < 2 ^ 30) (hb : b < 2 ^ 30) : (nI a - nI b).toInt = (a : Int) - b := by
  rw [Int32.toInt_sub, nI_toInt (by omega), nI_toInt (by omega)]
  exact Int.bmod_eq_of_le (by omega) (by omega)
theorem pk_sneg {a b : Nat} (hb : b < 2 ^ 30) (h : a < b) : nI a - nI b < 0 := by
  rw [Int32.lt_iff_toInt_lt, pk_sub_toInt (by omega) hb, show (0 : Int32).toInt = 0 from by decide]
  omega
theorem pk_ix (x : Int32) {n : Nat} (hn : n < 2 ^ 31) : x < 0 ∨ nI n ≤ x ∨ ∃ j : Nat, j < n ∧ x = nI j := by
  by_cases h : x < 0
  · exact Or.inl h
  · obtain ⟨j, hj, rfl⟩ := nI_of h
    by_cases h2 : j < n
    · exact Or.inr (Or.inr ⟨j, h2, rfl⟩)
    · exact Or.inr (Or.inl (nI_le (by omega) hj))
theorem pk_le {x y : Int32} {A B : Prop} (a b : Nat) (f : a ≤ b → A) (g : b < a → B) (hx : x = nI a := by rfl) (hy : y = nI b := by rfl) (ha : a < 2 ^ 31 := by omega) (hb : b < 2 ^ 31 := by omega) : (x ≤ y → A) ∧ (¬ x ≤ y → B) := by
  subst hx hy
  rw [nI_leI ha hb]
  exact ⟨f, fun z => g (by omega)⟩
theorem pk_lt {x y : Int32} {A B : Prop} (a b : Nat) (f : a < b → A) (g : b ≤ a → B) (hx : x = nI a := by rfl) (hy : y = nI b := by rfl) (ha : a < 2 ^ 31 := by omega) (hb : b < 2 ^ 31 := by omega) : (x < y → A) ∧ (¬ x < y → B) := by
  subst hx hy
  rw [nI_ltI ha hb]
  exact ⟨f, fun z => g (by omega)⟩
theorem pk_eq {x y : Int32} {A B : Prop} (a b : Nat) (f : a = b → A) (g : a ≠ b → B) (hx : x = nI a := by rfl) (hy : y = nI b := by rfl) (ha : a < 2 ^ 31 := by omega) (hb : b < 2 ^ 31 := by omega) : (x = y → A) ∧ (¬ x = y → B) := by
  subst hx hy
  rw [nI_eq ha hb]
  exact ⟨f, g⟩
theorem pk_in {x : Int32} (n N : Nat) (h : n < N) (hx : x = nI n := by rfl) (hN : N < 2 ^ 31 := by omega) : vp_in x N := by
  subst hx
  exact vp_in_nI h hN
theorem pk_cl {x : Int32} (n : Nat) (hx : x = nI n := by rfl) (h : n < 2 ^ 31 := by omega) : x.toNatClampNeg = n := by
  subst hx
  exact nI_clamp h
def un_f {α : Type} (f : Nat → α) (k : Nat) (x : α) : Nat → α := fun j => if j = k then x else f j
theorem un_s {α : Type} {f : Nat → α} {k : Nat} {x : α} : un_f f k x k = x := if_pos rfl
theorem un_n {α : Type} {f : Nat → α} {k j : Nat} {x : α} (h : j ≠ k) : un_f f k x j = f j := if_neg h
theorem un_id {α : Type} {f : Nat → α} {k : Nat} {x : α} (h : f k = x) : un_f f k x = f := by
  funext j
  by_cases e : j = k
  · subst e; rw [un_s, h]
  · rw [un_n e]
/-- a page's code: below 100 the page, 100 nothing (-1), above that closed (-2) -/
def eu_p (n : Nat) : Int32 := if n < 100 then nI n else if n = 100 then -1 else -2
def eu_b (b : Bool) : Int32 := cond b (nI 1) (nI 0)
def eu_N (f : Nat → Nat) : Nat → Int32 := fun j => nI (f j)
def eu_P (f : Nat → Nat) : Nat → Int32 := fun j => eu_p (f j)
def eu_B (f : Nat → Bool) : Nat → Int32 := fun j => eu_b (f j)
theorem ea_0 : (0 : Int32) = nI 0 := by decide +kernel
theorem ea_1 : (1 : Int32) = nI 1 := by decide +kernel
theorem ea_2 : (2 : Int32) = nI 2 := by decide +kernel
theorem ea_3 : (3 : Int32) = nI 3 := by decide +kernel
theorem ea_4 : (4 : Int32) = nI 4 := by decide +kernel
theorem ea_5 : (5 : Int32) = nI 5 := by decide +kernel
theorem ea_6 : (6 : Int32) = nI 6 := by decide +kernel
theorem ea_24 : (24 : Int32) = nI 24 := by decide +kernel
theorem ea_99 : (99 : Int32) = nI 99 := by decide +kernel
theorem ea_100 : (100 : Int32) = nI 100 := by decide +kernel
theorem ea_300 : (300 : Int32) = nI 300 := by decide +kernel
theorem ea_n1 : -nI 1 = eu_p 100 := by decide +kernel
theorem ea_n2 : -nI 2 = eu_p 101 := by decide +kernel
theorem ea_e1 : (-1 : Int32) = eu_p 100 := by decide +kernel
theorem ea_e2 : (-2 : Int32) = eu_p 101 := by decide +kernel
theorem ea_inT {n N : Nat} (h : n < N) (hN : N < 2 ^ 31) : vp_in (nI n) N = True := eq_true (vp_in_nI h hN)
theorem ea_m1 {n : Nat} (h : 1 ≤ n) : nI n + eu_p 100 = nI (n - 1) := by
  obtain ⟨m, rfl⟩ : ∃ m, n = m + 1 := ⟨n - 1, by omega⟩
  rw [← ea_e1]
  exact pk_m1 m
theorem ea_in {n N : Nat} (h : n < 2 ^ 31) : vp_in (nI n) N ↔ n < N := by
  rw [vp_in_iff, nI_toInt h]
  omega
theorem eu_Nr (f : Nat → Nat) (j : Nat) : eu_N f j = nI (f j) := rfl
theorem eu_Pr (f : Nat → Nat) (j : Nat) : eu_P f j = eu_p (f j) := rfl
theorem eu_Br (f : Nat → Bool) (j : Nat) : eu_B f j = eu_b (f j) := rfl
theorem eu_pn {n : Nat} (h : n < 100) : eu_p n = nI n := if_pos h
theorem eu_i8 {n : Nat} (h : n < 128) : (nI n).toInt8.toInt32 = nI n := lg_i2b_small (by rw [nI_toInt (by omega)]; omega) (by rw [nI_toInt (by omega)]; omega)
theorem eu_nb {n : Nat} (h : n < 128) : vp_nar .byte (nI n) = nI n := by rw [vp_nar_byte]; exact eu_i8 h
theorem eu_pi (n : Nat) : (eu_p n).toInt8.toInt32 = eu_p n := by
  unfold eu_p
  split
  · exact eu_i8 (by omega)
  · split <;> decide +kernel
theorem eu_pb (n : Nat) : vp_nar .byte (eu_p n) = eu_p n := by rw [vp_nar_byte]; exact eu_pi n
theorem eu_vb0 : vp_nar .boolean (nI 0) = nI 0 := by decide +kernel
theorem eu_vb1 : vp_nar .boolean (nI 1) = nI 1 := by decide +kernel
theorem eu_vbb (b : Bool) : vp_nar .boolean (eu_b b) = eu_b b := by cases b; exact eu_vb0; exact eu_vb1
theorem eu_Nu (f : Nat → Nat) (k n : Nat) : upd (eu_N f) k (nI n) = eu_N (un_f f k n) := by
  funext j; unfold upd eu_N un_f; split <;> rfl
theorem eu_Pu (f : Nat → Nat) (k n : Nat) : upd (eu_P f) k (eu_p n) = eu_P (un_f f k n) := by
  funext j; unfold upd eu_P un_f; split <;> rfl
theorem eu_Pun (f : Nat → Nat) (k : Nat) {n : Nat} (h : n < 100) : upd (eu_P f) k (nI n) = eu_P (un_f f k n) := by
  rw [← eu_pn h]; exact eu_Pu f k n
theorem eu_Bu (f : Nat → Bool) (k : Nat) (b : Bool) : upd (eu_B f) k (eu_b b) = eu_B (un_f f k b) := by
  funext j; unfold upd eu_B un_f; split <;> rfl
theorem eu_Bu0 (f : Nat → Bool) (k : Nat) : upd (eu_B f) k (nI 0) = eu_B (un_f f k false) := eu_Bu f k false
theorem eu_Bu1 (f : Nat → Bool) (k : Nat) : upd (eu_B f) k (nI 1) = eu_B (un_f f k true) := eu_Bu f k true
theorem eu_pl (n : Nat) : eu_p n < nI 0 ↔ 100 ≤ n := by
  unfold eu_p
  split
  · rw [nI_ltI (by omega) (by omega)]; omega
  · rename_i h
    split
    · constructor
      · intro _; omega
      · intro _; decide +kernel
    · constructor
      · intro _; omega
      · intro _; decide +kernel
theorem eu_pg (n : Nat) : nI 0 ≤ eu_p n ↔ n < 100 := by
  have h := eu_pl n
  rw [← Int32.not_lt, h]
  omega
theorem eu_p2 (n : Nat) : eu_p n = eu_p 101 ↔ 101 ≤ n := by
  unfold eu_p
  split
  · rename_i h
    constructor
    · intro q
      have a := congrArg Int32.toInt q
      rw [nI_toInt (by omega)] at a
      rw [show (if 101 < 100 then nI 101 else if 101 = 100 then (-1 : Int32) else -2).toInt = -2 by decide +kernel] at a
      omega
    · intro q; omega
  · rename_i h
    split
    · rename_i h2
      subst h2
      constructor
      · intro q; exact absurd q (by decide +kernel)
      · intro q; omega
    · constructor
      · intro _; omega
      · intro _; rfl
theorem eu_b0 (b : Bool) : eu_b b = nI 0 ↔ b = false := by
  cases b
  · exact ⟨fun _ => rfl, fun _ => rfl⟩
  · exact ⟨fun h => absurd h (by decide +kernel), fun h => nomatch h⟩
theorem eu_N0 : (fun _ => 0 : Nat → Int32) = eu_N (fun _ => 0) := by funext j; exact ea_0
theorem eu_P0 : (fun _ => 0 : Nat → Int32) = eu_P (fun _ => 0) := by funext j; exact ea_0
theorem eu_B0 : (fun _ => 0 : Nat → Int32) = eu_B (fun _ => false) := by funext j; exact ea_0
end
section
/-! lists: a run of an array as a list, keys woven between the lists below -/
def sg_l {α : Type} (f : Nat → α) : Nat → Nat → List α
  | _, 0 => []
  | a, n + 1 => f a :: sg_l f (a + 1) n
theorem sg_len {α : Type} (f : Nat → α) : ∀ n a, (sg_l f a n).length = n := by
  intro n
  induction n with
  | zero => intro a; rfl
  | succ n ih => intro a; show (sg_l f (a + 1) n).length + 1 = n + 1; rw [ih]
theorem sg_app {α : Type} (f : Nat → α) (m : Nat) : ∀ n a, sg_l f a (n + m) = sg_l f a n ++ sg_l f (a + n) m := by
  intro n
  induction n with
  | zero => intro a; rw [Nat.zero_add]; rfl
  | succ n ih =>
    intro a
    rw [show n + 1 + m = (n + m) + 1 by omega]
    show f a :: sg_l f (a + 1) (n + m) = f a :: (sg_l f (a + 1) n ++ sg_l f (a + (n + 1)) m)
    rw [ih, show a + 1 + n = a + (n + 1) by omega]
theorem sg_cong {α : Type} {f g : Nat → α} : ∀ n a b, (∀ i, i < n → f (a + i) = g (b + i)) → sg_l f a n = sg_l g b n := by
  intro n
  induction n with
  | zero => intro a b _; rfl
  | succ n ih =>
    intro a b h
    show f a :: sg_l f (a + 1) n = g b :: sg_l g (b + 1) n
    rw [ih (a + 1) (b + 1) (fun i hi => by rw [show a + 1 + i = a + (i + 1) by omega, show b + 1 + i = b + (i + 1) by omega]; exact h (i + 1) (by omega))]
    rw [show f a = g b from h 0 (by omega)]
theorem sg_get {α : Type} (f : Nat → α) : ∀ n a i, i < n → (sg_l f a n)[i]? = some (f (a + i)) := by
  intro n
  induction n with
  | zero => intro a i h; omega
  | succ n ih =>
    intro a i h
    cases i with
    | zero => rfl
    | succ i =>
      show (sg_l f (a + 1) n)[i]? = _
      rw [ih (a + 1) i (by omega), show a + 1 + i = a + (i + 1) by omega]
theorem sg_mem {α : Type} {f : Nat → α} {x : α} : ∀ n a, x ∈ sg_l f a n ↔ ∃ i, i < n ∧ x = f (a + i) := by
  intro n
  induction n with
  | zero => intro a; exact ⟨fun h => (nomatch h), fun ⟨i, h, _⟩ => by omega⟩
  | succ n ih =>
    intro a
    show x ∈ f a :: sg_l f (a + 1) n ↔ _
    rw [List.mem_cons, ih]
    constructor
    · rintro (h | ⟨i, h, e⟩)
      · exact ⟨0, by omega, h⟩
      · exact ⟨i + 1, by omega, by rw [e, show a + 1 + i = a + (i + 1) by omega]⟩
    · rintro ⟨i, h, e⟩
      cases i with
      | zero => exact Or.inl e
      | succ i => exact Or.inr ⟨i, by omega, by rw [e, show a + 1 + i = a + (i + 1) by omega]⟩
theorem sg_mid {α : Type} (f : Nat → α) {n i : Nat} (a : Nat) (h : i < n) : sg_l f a n = sg_l f a i ++ f (a + i) :: sg_l f (a + i + 1) (n - i - 1) := by
  have e : n = i + ((n - i - 1) + 1) := by omega
  conv => lhs; rw [e, sg_app]
  rfl
theorem sg_cut {α : Type} (f : Nat → α) {n i : Nat} (a : Nat) (h : i ≤ n) : sg_l f a n = sg_l f a i ++ sg_l f (a + i) (n - i) := by
  have e : n = i + (n - i) := by omega
  conv => lhs; rw [e, sg_app]
theorem ls_gs {α : Type} {x : α} : ∀ {l : List α} {i : Nat}, l[i]? = some x → ∃ A B, l = A ++ x :: B ∧ A.length = i := by
  intro l
  induction l with
  | nil => intro i h; simp at h
  | cons y l ih =>
    intro i h
    cases i with
    | zero => exact ⟨[], l, by simp at h; rw [h]; rfl, rfl⟩
    | succ i =>
      obtain ⟨A, B, e, hl⟩ := ih (i := i) (by simpa using h)
      exact ⟨y :: A, B, by rw [e]; rfl, by rw [← hl]; rfl⟩
theorem ls_cut {α : Type} (l : List α) (i : Nat) (h : i ≤ l.length) : ∃ A B, l = A ++ B ∧ A.length = i :=
  ⟨l.take i, l.drop i, (List.take_append_drop i l).symm, by rw [List.length_take]; omega⟩
theorem ls_app {α : Type} {A B C D : List α} (h : A ++ B = C ++ D) (hl : A.length = C.length) : A = C ∧ B = D := List.append_inj h hl
abbrev kv_T := Nat × Int32
def wr_l : List kv_T → List (List kv_T) → List kv_T
  | e :: es, l :: ls => e :: l ++ wr_l es ls
  | [], _ => []
  | _ :: _, [] => []
def wl_l : List kv_T → List (List kv_T) → List kv_T
  | e :: es, l :: ls => l ++ e :: wl_l es ls
  | [], _ => []
  | _ :: _, [] => []
def wv_l (E : List kv_T) : List (List kv_T) → List kv_T
  | [] => []
  | l :: L => l ++ wr_l E L
theorem wr_app {E2 : List kv_T} {L2 : List (List kv_T)} : ∀ {E1 : List kv_T} {L1 : List (List kv_T)}, E1.length = L1.length → wr_l (E1 ++ E2) (L1 ++ L2) = wr_l E1 L1 ++ wr_l E2 L2 := by
  intro E1
  induction E1 with
  | nil =>
    intro L1 h
    cases L1 with
    | nil => rfl
    | cons l L1 => simp at h
  | cons e E1 ih =>
    intro L1 h
    cases L1 with
    | nil => simp at h
    | cons l L1 =>
      show e :: l ++ wr_l (E1 ++ E2) (L1 ++ L2) = (e :: l ++ wr_l E1 L1) ++ wr_l E2 L2
      rw [ih (by simpa using h), List.append_assoc]
theorem wr_wv {e : kv_T} {E : List kv_T} {L : List (List kv_T)} (h : L ≠ []) : wr_l (e :: E) L = e :: wv_l E L := by
  cases L with
  | nil => exact absurd rfl h
  | cons l L => rfl
theorem wv_mid {E2 : List kv_T} {l : List kv_T} {L2 : List (List kv_T)} : ∀ {E1 : List kv_T} {L1 : List (List kv_T)}, E1.length = L1.length → wv_l (E1 ++ E2) (L1 ++ l :: L2) = wl_l E1 L1 ++ (l ++ wr_l E2 L2) := by
  intro E1
  induction E1 with
  | nil =>
    intro L1 h
    cases L1 with
    | nil => rfl
    | cons l L1 => simp at h
  | cons e E1 ih =>
    intro L1 h
    cases L1 with
    | nil => simp at h
    | cons l1 L1 =>
      show l1 ++ wr_l (e :: (E1 ++ E2)) (L1 ++ l :: L2) = (l1 ++ e :: wl_l E1 L1) ++ (l ++ wr_l E2 L2)
      rw [wr_wv (by simp), ih (by simpa using h), List.append_assoc]
      rfl
theorem wv_mids {E1 Em E2 : List kv_T} {L1 Lm L2 : List (List kv_T)} (h1 : E1.length = L1.length) (hm : Lm.length = Em.length + 1) : wv_l (E1 ++ (Em ++ E2)) (L1 ++ (Lm ++ L2)) = wl_l E1 L1 ++ (wv_l Em Lm ++ wr_l E2 L2) := by
  cases Lm with
  | nil => simp at hm
  | cons l Lm =>
    show wv_l (E1 ++ (Em ++ E2)) (L1 ++ l :: (Lm ++ L2)) = _
    rw [wv_mid h1, wr_app (by simp at hm; omega)]
    show _ = wl_l E1 L1 ++ ((l ++ wr_l Em Lm) ++ wr_l E2 L2)
    rw [List.append_assoc]
theorem wv_spl {A B : List kv_T} {m : kv_T} {P Q : List (List kv_T)} (hP : P.length = A.length + 1) (hQ : Q ≠ []) : wv_l (A ++ m :: B) (P ++ Q) = wv_l A P ++ m :: wv_l B Q := by
  have h := wv_mids (E1 := []) (Em := A) (E2 := m :: B) (L1 := []) (Lm := P) (L2 := Q) rfl hP
  rw [List.nil_append, List.nil_append, wr_wv hQ] at h
  rw [h]
  rfl
/-- strictly rising keys -/
def so_l (l : List kv_T) : Prop := l.Pairwise (fun a b => a.1 < b.1)
theorem so_app {A B : List kv_T} : so_l (A ++ B) ↔ so_l A ∧ so_l B ∧ ∀ a, a ∈ A → ∀ b, b ∈ B → a.1 < b.1 := by
  unfold so_l
  rw [List.pairwise_append]
theorem so_cons {a : kv_T} {B : List kv_T} : so_l (a :: B) ↔ (∀ b, b ∈ B → a.1 < b.1) ∧ so_l B := by
  unfold so_l
  rw [List.pairwise_cons]
/-- all that is woven left of a place stands at or below the last key there -/
theorem wl_last : ∀ {E : List kv_T} {L : List (List kv_T)}, E.length = L.length → so_l (wl_l E L) → ∀ x, x ∈ wl_l E L → ∃ e, e ∈ E ∧ x.1 ≤ e.1 := by
  intro E
  induction E with
  | nil => intro L _ _ x hx; exact (nomatch hx)
  | cons e E ih =>
    intro L h hs x hx
    cases L with
    | nil => simp at h
    | cons l L =>
      have hs' : so_l (l ++ e :: wl_l E L) := hs
      have hx' : x ∈ l ++ e :: wl_l E L := hx
      rw [so_app, so_cons] at hs'
      rw [List.mem_append, List.mem_cons] at hx'
      rcases hx' with h1 | h1 | h1
      · exact ⟨e, List.mem_cons_self .., Nat.le_of_lt (hs'.2.2 x h1 e (List.mem_cons_self ..))⟩
      · exact ⟨e, List.mem_cons_self .., by rw [h1]; exact Nat.le_refl _⟩
      · obtain ⟨f, hf, hle⟩ := ih (by simpa using h) hs'.2.1.2 x h1
        exact ⟨f, List.mem_cons_of_mem _ hf, hle⟩
theorem wr_first : ∀ {E : List kv_T} {L : List (List kv_T)}, E.length = L.length → so_l (wr_l E L) → ∀ x, x ∈ wr_l E L → ∃ e, e ∈ E ∧ e.1 ≤ x.1 := by
  intro E
  induction E with
  | nil => intro L _ _ x hx; exact (nomatch hx)
  | cons e E ih =>
    intro L h hs x hx
    cases L with
    | nil => simp at h
    | cons l L =>
      have hs' : so_l (e :: (l ++ wr_l E L)) := hs
      have hx' : x ∈ e :: (l ++ wr_l E L) := hx
      rw [so_cons] at hs'
      rw [List.mem_cons] at hx'
      rcases hx' with h1 | h1
      · exact ⟨e, List.mem_cons_self .., by rw [h1]; exact Nat.le_refl _⟩
      · exact ⟨e, List.mem_cons_self .., Nat.le_of_lt (hs'.1 x h1)⟩
theorem wl_mem : ∀ {E : List kv_T} {L : List (List kv_T)} {e : kv_T}, E.length = L.length → e ∈ E → e ∈ wl_l E L := by
  intro E
  induction E with
  | nil => intro L e _ h; exact (nomatch h)
  | cons f E ih =>
    intro L e h he
    cases L with
    | nil => simp at h
    | cons l L =>
      show e ∈ l ++ f :: wl_l E L
      rw [List.mem_append, List.mem_cons]
      rcases List.mem_cons.mp he with h1 | h1
      · exact Or.inr (Or.inl h1)
      · exact Or.inr (Or.inr (ih (by simpa using h) h1))
theorem wr_mem : ∀ {E : List kv_T} {L : List (List kv_T)} {e : kv_T}, E.length = L.length → e ∈ E → e ∈ wr_l E L := by
  intro E
  induction E with
  | nil => intro L e _ h; exact (nomatch h)
  | cons f E ih =>
    intro L e h he
    cases L with
    | nil => simp at h
    | cons l L =>
      show e ∈ f :: (l ++ wr_l E L)
      rw [List.mem_cons, List.mem_append]
      rcases List.mem_cons.mp he with h1 | h1
      · exact Or.inl h1
      · exact Or.inr (Or.inr (ih (by simpa using h) h1))
end
section
/-! trees of pages: g p is page p's entries and the pages below it -/
abbrev pg_T := List (Nat × Int32) × List Nat
def tr_fl (g : Nat → pg_T) : Nat → Nat → List kv_T
  | 0, p => (g p).1
  | h + 1, p => wv_l (g p).1 ((g p).2.map (tr_fl g h))
def tr_pg (g : Nat → pg_T) : Nat → Nat → List Nat
  | 0, p => [p]
  | h + 1, p => p :: (g p).2.flatMap (tr_pg g h)
def tr_sh (g : Nat → pg_T) : Nat → Nat → Prop
  | 0, p => p < 100 ∧ (g p).2 = []
  | h + 1, p => p < 100 ∧ (g p).2.length = (g p).1.length + 1 ∧ ∀ c, c ∈ (g p).2 → tr_sh g h c
/-- the same by a page's content -/
def tr_pf (g : Nat → pg_T) : Nat → pg_T → List kv_T
  | 0, c => c.1
  | h + 1, c => wv_l c.1 (c.2.map (tr_fl g h))
def tr_pp (g : Nat → pg_T) : Nat → pg_T → List Nat
  | 0, _ => []
  | h + 1, c => c.2.flatMap (tr_pg g h)
def tr_ps (g : Nat → pg_T) : Nat → pg_T → Prop
  | 0, c => c.2 = []
  | h + 1, c => c.2.length = c.1.length + 1 ∧ ∀ x, x ∈ c.2 → tr_sh g h x
theorem tr_fle (g : Nat → pg_T) (h p : Nat) : tr_fl g h p = tr_pf g h (g p) := by cases h <;> rfl
theorem tr_pge (g : Nat → pg_T) (h p : Nat) : tr_pg g h p = p :: tr_pp g h (g p) := by cases h <;> rfl
theorem tr_she (g : Nat → pg_T) (h p : Nat) : tr_sh g h p ↔ p < 100 ∧ tr_ps g h (g p) := by cases h <;> exact Iff.rfl
theorem tr_pgs (g : Nat → pg_T) (h p : Nat) : p ∈ tr_pg g h p := by rw [tr_pge]; exact List.mem_cons_self ..
theorem tr_100 {g : Nat → pg_T} {h p : Nat} (hs : tr_sh g h p) : p < 100 := ((tr_she g h p).mp hs).1
theorem fm_cong {α β : Type} {f g : α → List β} {l : List α} (h : ∀ a, a ∈ l → f a = g a) : l.flatMap f = l.flatMap g := by
  rw [List.flatMap_def, List.flatMap_def, List.map_congr_left h]
theorem tr_fr {g g' : Nat → pg_T} : ∀ h p, (∀ q, q ∈ tr_pg g h p → g' q = g q) → tr_fl g' h p = tr_fl g h p ∧ tr_pg g' h p = tr_pg g h p ∧ (tr_sh g h p → tr_sh g' h p) := by
  intro h
  induction h with
  | zero =>
    intro p hq
    have e := hq p (tr_pgs g 0 p)
    refine ⟨?_, rfl, ?_⟩
    · show (g' p).1 = (g p).1
      rw [e]
    · show (p < 100 ∧ (g p).2 = []) → (p < 100 ∧ (g' p).2 = [])
      rw [e]
      exact id
  | succ h ih =>
    intro p hq
    have e := hq p (tr_pgs g (h + 1) p)
    have hc : ∀ c, c ∈ (g p).2 → ∀ q, q ∈ tr_pg g h c → g' q = g q := fun c hc q hqc => hq q (List.mem_cons_of_mem _ (List.mem_flatMap.mpr ⟨c, hc, hqc⟩))
    refine ⟨?_, ?_, ?_⟩
    · show wv_l (g' p).1 ((g' p).2.map (tr_fl g' h)) = wv_l (g p).1 ((g p).2.map (tr_fl g h))
      rw [e, List.map_congr_left (fun c hcm => (ih c (hc c hcm)).1)]
    · show p :: (g' p).2.flatMap (tr_pg g' h) = p :: (g p).2.flatMap (tr_pg g h)
      rw [e, fm_cong (fun c hcm => (ih c (hc c hcm)).2.1)]
    · show (p < 100 ∧ (g p).2.length = (g p).1.length + 1 ∧ ∀ c, c ∈ (g p).2 → tr_sh g h c) → (p < 100 ∧ (g' p).2.length = (g' p).1.length + 1 ∧ ∀ c, c ∈ (g' p).2 → tr_sh g' h c)
      rw [e]
      exact fun ⟨a, b, c⟩ => ⟨a, b, fun x hx => (ih x (hc x hx)).2.2 (c x hx)⟩
/-- the same for a list of pages, and for a content -/
theorem tr_frl {g g' : Nat → pg_T} {h : Nat} {C : List Nat} (hq : ∀ q, q ∈ C.flatMap (tr_pg g h) → g' q = g q) : C.map (tr_fl g' h) = C.map (tr_fl g h) ∧ C.flatMap (tr_pg g' h) = C.flatMap (tr_pg g h) ∧ ((∀ c, c ∈ C → tr_sh g h c) → ∀ c, c ∈ C → tr_sh g' h c) := by
  have hc : ∀ c, c ∈ C → ∀ q, q ∈ tr_pg g h c → g' q = g q := fun c hc q hqc => hq q (List.mem_flatMap.mpr ⟨c, hc, hqc⟩)
  exact ⟨List.map_congr_left (fun c hcm => (tr_fr h c (hc c hcm)).1), fm_cong (fun c hcm => (tr_fr h c (hc c hcm)).2.1), fun hs c hcm => (tr_fr h c (hc c hcm)).2.2 (hs c hcm)⟩
theorem tr_frc {g g' : Nat → pg_T} {h : Nat} {c : pg_T} (hq : ∀ q, q ∈ tr_pp g h c → g' q = g q) : tr_pf g' h c = tr_pf g h c ∧ tr_pp g' h c = tr_pp g h c ∧ (tr_ps g h c → tr_ps g' h c) := by
  cases h with
  | zero => exact ⟨rfl, rfl, id⟩
  | succ h =>
    have k := tr_frl (g := g) (g' := g') (h := h) (C := c.2) hq
    refine ⟨?_, k.2.1, fun ⟨a, b⟩ => ⟨a, k.2.2 b⟩⟩
    show wv_l c.1 (c.2.map (tr_fl g' h)) = wv_l c.1 (c.2.map (tr_fl g h))
    rw [k.1]
/-- a place in a tree: what stands left and right of it, and the pages around it -/
def tr_cx (g : Nat → pg_T) (H r h a : Nat) (lf rt : List kv_T) (ps : List Nat) : Prop :=
  ∀ g' : Nat → pg_T, (∀ q, q ∈ ps → g' q = g q) → tr_fl g' H r = lf ++ (tr_fl g' h a ++ rt) ∧ (tr_pg g' H r).Perm (ps ++ tr_pg g' h a) ∧ (tr_sh g' h a → tr_sh g' H r)
theorem tr_cx0 {g : Nat → pg_T} {H r : Nat} : tr_cx g H r H r [] [] [] :=
  fun g' _ => ⟨by rw [List.append_nil]; rfl, List.Perm.refl _, id⟩
theorem tr_cxs {g : Nat → pg_T} {H r h a x : Nat} {lf rt : List kv_T} {ps : List Nat} {E1 E2 : List kv_T} {C1 C2 : List Nat} (hc : tr_cx g H r (h + 1) a lf rt ps) (hs : tr_sh g (h + 1) a)
    (hg : g a = (E1 ++ E2, C1 ++ x :: C2)) (hl : E1.length = C1.length) :
    tr_cx g H r h x (lf ++ wl_l E1 (C1.map (tr_fl g h))) (wr_l E2 (C2.map (tr_fl g h)) ++ rt) (ps ++ (a :: (C1.flatMap (tr_pg g h) ++ C2.flatMap (tr_pg g h)))) := by
  intro g' hq
  obtain ⟨f1, p1, s1⟩ := hc g' (fun q m => hq q (List.mem_append_left _ m))
  have ea : g' a = (E1 ++ E2, C1 ++ x :: C2) := (hq a (List.mem_append_right _ (List.mem_cons_self ..))).trans hg
  have k1 := tr_frl (g := g) (g' := g') (h := h) (C := C1) (fun q m => hq q (List.mem_append_right _ (List.mem_cons_of_mem _ (List.mem_append_left _ m))))
  have k2 := tr_frl (g := g) (g' := g') (h := h) (C := C2) (fun q m => hq q (List.mem_append_right _ (List.mem_cons_of_mem _ (List.mem_append_right _ m))))
  have hs' : a < 100 ∧ (g a).2.length = (g a).1.length + 1 ∧ ∀ c, c ∈ (g a).2 → tr_sh g h c := hs
  rw [hg] at hs'
  refine ⟨?_, ?_, ?_⟩
  · rw [f1]
    show lf ++ (wv_l (g' a).1 ((g' a).2.map (tr_fl g' h)) ++ rt) = _
    rw [ea]
    dsimp only
    rw [List.map_append, List.map_cons, wv_mid (by rw [List.length_map]; exact hl), k1.1, k2.1]
    simp only [List.append_assoc]
  · refine p1.trans ?_
    show (ps ++ (a :: (g' a).2.flatMap (tr_pg g' h))).Perm _
    rw [ea]
    dsimp only
    rw [List.flatMap_append, List.flatMap_cons, k1.2.1, k2.2.1]
    simp only [List.append_assoc, List.cons_append]
    refine List.Perm.append_left _ (List.Perm.cons _ (List.Perm.append_left _ ?_))
    exact List.perm_append_comm
  · intro hx
    refine s1 ?_
    show a < 100 ∧ (g' a).2.length = (g' a).1.length + 1 ∧ ∀ c, c ∈ (g' a).2 → tr_sh g' h c
    rw [ea]
    refine ⟨hs'.1, hs'.2.1, fun c m => ?_⟩
    rcases List.mem_append.mp m with m | m
    · exact k1.2.2 (fun c m => hs'.2.2 c (List.mem_append_left _ m)) c m
    · rcases List.mem_cons.mp m with m | m
      · rw [m]; exact hx
      · exact k2.2.2 (fun c m => hs'.2.2 c (List.mem_append_right _ (List.mem_cons_of_mem _ m))) c m
/-- a way down: at each level the page and the place where it goes on -/
def tr_pt (g : Nat → pg_T) (wp wi : Nat → Nat) (l : Nat) : Prop := ∀ j, j < l → (g (wp j)).2[wi j]? = some (wp (j + 1))
theorem tr_shc {g : Nat → pg_T} {h a i x : Nat} (hs : tr_sh g (h + 1) a) (hi : (g a).2[i]? = some x) : tr_sh g h x ∧ i ≤ (g a).1.length ∧ ∃ E1 E2 C1 C2, g a = (E1 ++ E2, C1 ++ x :: C2) ∧ E1.length = i ∧ C1.length = i := by
  have hs' : a < 100 ∧ (g a).2.length = (g a).1.length + 1 ∧ ∀ c, c ∈ (g a).2 → tr_sh g h c := hs
  obtain ⟨C1, C2, e, hl⟩ := ls_gs hi
  have hlen : i ≤ (g a).1.length := by
    have := hs'.2.1
    rw [e, List.length_append, List.length_cons] at this
    omega
  obtain ⟨E1, E2, e1, hl1⟩ := ls_cut (g a).1 i hlen
  exact ⟨hs'.2.2 x (by rw [e]; exact List.mem_append_right _ (List.mem_cons_self ..)), hlen, E1, E2, C1, C2, by rw [← e1, ← e], hl1, hl⟩
theorem tr_ptc {g : Nat → pg_T} {wp wi : Nat → Nat} {H : Nat} (hs : tr_sh g H (wp 0)) : ∀ l, l ≤ H → tr_pt g wp wi l → (∃ lf rt ps, tr_cx g H (wp 0) (H - l) (wp l) lf rt ps) ∧ tr_sh g (H - l) (wp l) := by
  intro l
  induction l with
  | zero => intro _ _; exact ⟨⟨[], [], [], tr_cx0⟩, hs⟩
  | succ l ih =>
    intro hl hp
    obtain ⟨⟨lf, rt, ps, hc⟩, hsl⟩ := ih (by omega) (fun j hj => hp j (by omega))
    have e : H - l = (H - (l + 1)) + 1 := by omega
    rw [e] at hc hsl
    obtain ⟨hx, _, E1, E2, C1, C2, hg, l1, l2⟩ := tr_shc hsl (hp l (by omega))
    exact ⟨⟨_, _, _, tr_cxs hc hsl hg (l1.trans l2.symm)⟩, hx⟩
/-- the key belongs between the first i entries and the others -/
def sp_l (key : Nat) (E : List kv_T) (i : Nat) : Prop := (∀ e, e ∈ E.take i → e.1 < key) ∧ (∀ e, e ∈ E.drop i → key < e.1)
theorem tr_ptk {g : Nat → pg_T} {wp wi : Nat → Nat} {H key : Nat} (hs : tr_sh g H (wp 0)) (hso : so_l (tr_fl g H (wp 0))) : ∀ l, l ≤ H → tr_pt g wp wi l → (∀ j, j < l → sp_l key (g (wp j)).1 (wi j)) →
    ∃ lf rt ps, tr_cx g H (wp 0) (H - l) (wp l) lf rt ps ∧ tr_sh g (H - l) (wp l) ∧ (∀ e, e ∈ lf → e.1 < key) ∧ (∀ e, e ∈ rt → key < e.1) := by
  intro l
  induction l with
  | zero => intro _ _ _; exact ⟨[], [], [], tr_cx0, hs, fun e h => (nomatch h), fun e h => (nomatch h)⟩
  | succ l ih =>
    intro hl hp hk
    obtain ⟨lf, rt, ps, hc, hsl, k1, k2⟩ := ih (by omega) (fun j hj => hp j (by omega)) (fun j hj => hk j (by omega))
    have e : H - l = (H - (l + 1)) + 1 := by omega
    rw [e] at hc hsl
    obtain ⟨hx, _, E1, E2, C1, C2, hg, l1, l2⟩ := tr_shc hsl (hp l (by omega))
    have hc' := tr_cxs hc hsl hg (l1.trans l2.symm)
    have hlen : (g (wp l)).2.length = (g (wp l)).1.length + 1 := (show _ ∧ _ ∧ _ from hsl).2.1
    have hsp := hk l (by omega)
    rw [hg] at hsp hlen
    dsimp only at hsp hlen
    simp only [List.length_append, List.length_cons] at hlen
    unfold sp_l at hsp
    rw [← l1, List.take_left, List.drop_left] at hsp
    have hs1 := hso
    rw [(hc' g (fun _ _ => rfl)).1, so_app] at hs1
    have hs2 := hs1.1
    have hs3 := hs1.2.1
    rw [so_app] at hs2 hs3
    have hs4 := hs3.2.1
    rw [so_app] at hs4
    refine ⟨_, _, _, hc', hx, ?_, ?_⟩
    · intro e m
      rcases List.mem_append.mp m with m | m
      · exact k1 e m
      · obtain ⟨f, hf, hle⟩ := wl_last (by rw [List.length_map]; omega) hs2.2.1 e m
        exact Nat.lt_of_le_of_lt hle (hsp.1 f hf)
    · intro e m
      rcases List.mem_append.mp m with m | m
      · obtain ⟨f, hf, hle⟩ := wr_first (by rw [List.length_map]; omega) hs4.1 e m
        exact Nat.lt_of_lt_of_le (hsp.2 f hf) hle
      · exact k2 e m
/-! two ways to see the children of a page around a place: one child with the content J, or two with J cut at m -/
theorem tr_jn {g : Nat → pg_T} {h : Nat} {X1 X2 : List kv_T} {m : kv_T} {D1 D2 : List Nat} (s1 : tr_ps g h (X1, D1)) (s2 : tr_ps g h (X2, D2)) :
    tr_pf g h (X1 ++ m :: X2, D1 ++ D2) = tr_pf g h (X1, D1) ++ m :: tr_pf g h (X2, D2) ∧ tr_pp g h (X1 ++ m :: X2, D1 ++ D2) = tr_pp g h (X1, D1) ++ tr_pp g h (X2, D2) ∧ tr_ps g h (X1 ++ m :: X2, D1 ++ D2) := by
  cases h with
  | zero =>
    have e1 : D1 = [] := s1
    have e2 : D2 = [] := s2
    subst e1 e2
    exact ⟨rfl, rfl, rfl⟩
  | succ h =>
    have a1 : D1.length = X1.length + 1 ∧ ∀ x, x ∈ D1 → tr_sh g h x := s1
    have a2 : D2.length = X2.length + 1 ∧ ∀ x, x ∈ D2 → tr_sh g h x := s2
    refine ⟨?_, ?_, ?_⟩
    · show wv_l (X1 ++ m :: X2) ((D1 ++ D2).map (tr_fl g h)) = wv_l X1 (D1.map (tr_fl g h)) ++ m :: wv_l X2 (D2.map (tr_fl g h))
      rw [List.map_append]
      refine wv_spl (by rw [List.length_map]; exact a1.1) ?_
      intro hn
      have := congrArg List.length hn
      rw [List.length_map, a2.1] at this
      simp at this
    · show (D1 ++ D2).flatMap (tr_pg g h) = D1.flatMap (tr_pg g h) ++ D2.flatMap (tr_pg g h)
      rw [List.flatMap_append]
    · show (D1 ++ D2).length = (X1 ++ m :: X2).length + 1 ∧ ∀ x, x ∈ D1 ++ D2 → tr_sh g h x
      refine ⟨?_, fun x hx => ?_⟩
      · rw [List.length_append, List.length_append, List.length_cons, a1.1, a2.1]; omega
      · rcases List.mem_append.mp hx with q | q
        · exact a1.2 x q
        · exact a2.2 x q
theorem tr_un {g : Nat → pg_T} {h : Nat} {X1 X2 : List kv_T} {m : kv_T} {D1 D2 : List Nat} (s : tr_ps g h (X1 ++ m :: X2, D1 ++ D2)) (hl : D1.length = if h = 0 then 0 else X1.length + 1) : tr_ps g h (X1, D1) ∧ tr_ps g h (X2, D2) := by
  cases h with
  | zero =>
    have e : D1 ++ D2 = [] := s
    rw [List.append_eq_nil_iff] at e
    exact e
  | succ h =>
    have a : (D1 ++ D2).length = (X1 ++ m :: X2).length + 1 ∧ ∀ x, x ∈ D1 ++ D2 → tr_sh g h x := s
    rw [if_neg (by omega)] at hl
    rw [List.length_append, List.length_append, List.length_cons] at a
    exact ⟨⟨hl, fun x q => a.2 x (List.mem_append_left _ q)⟩, ⟨by show D2.length = X2.length + 1; omega, fun x q => a.2 x (List.mem_append_right _ q)⟩⟩
/-- the children of a, but for those around the place: unchanged, of height h -/
theorem tr_v1 {g : Nat → pg_T} {h a x : Nat} {J : pg_T} {E1 E2 : List kv_T} {C1 C2 : List Nat} (hg : g a = (E1 ++ E2, C1 ++ x :: C2)) (hx : g x = J) (hl : E1.length = C1.length) :
    tr_fl g (h + 1) a = wl_l E1 (C1.map (tr_fl g h)) ++ (tr_pf g h J ++ wr_l E2 (C2.map (tr_fl g h))) ∧
    tr_pg g (h + 1) a = a :: (C1.flatMap (tr_pg g h) ++ (x :: tr_pp g h J ++ C2.flatMap (tr_pg g h))) := by
  subst hx
  constructor
  · show wv_l (g a).1 ((g a).2.map (tr_fl g h)) = _
    rw [hg]
    dsimp only
    rw [List.map_append, List.map_cons, wv_mid (by rw [List.length_map]; exact hl), tr_fle g h x]
  · show a :: (g a).2.flatMap (tr_pg g h) = _
    rw [hg]
    dsimp only
    rw [List.flatMap_append, List.flatMap_cons, tr_pge g h x]
theorem tr_v2 {g : Nat → pg_T} {h a x y : Nat} {X1 X2 : List kv_T} {m : kv_T} {D1 D2 : List Nat} {E1 E2 : List kv_T} {C1 C2 : List Nat} (hg : g a = (E1 ++ m :: E2, C1 ++ x :: y :: C2)) (hx : g x = (X1, D1)) (hy : g y = (X2, D2)) (hl : E1.length = C1.length)
    (s1 : tr_ps g h (X1, D1)) (s2 : tr_ps g h (X2, D2)) :
    tr_fl g (h + 1) a = wl_l E1 (C1.map (tr_fl g h)) ++ (tr_pf g h (X1 ++ m :: X2, D1 ++ D2) ++ wr_l E2 (C2.map (tr_fl g h))) ∧
    (tr_pg g (h + 1) a).Perm (y :: a :: (C1.flatMap (tr_pg g h) ++ (x :: tr_pp g h (X1 ++ m :: X2, D1 ++ D2) ++ C2.flatMap (tr_pg g h)))) := by
  have j := tr_jn (m := m) s1 s2
  constructor
  · show wv_l (g a).1 ((g a).2.map (tr_fl g h)) = _
    rw [hg]
    dsimp only
    rw [List.map_append, List.map_cons, List.map_cons, wv_mid (by rw [List.length_map]; exact hl), tr_fle g h x, tr_fle g h y, hx, hy, j.1]
    show _ ++ (_ ++ ((m :: tr_pf g h (X2, D2)) ++ wr_l E2 (C2.map (tr_fl g h)))) = _
    simp only [List.append_assoc]
  · show (a :: (g a).2.flatMap (tr_pg g h)).Perm _
    rw [hg]
    dsimp only
    rw [List.flatMap_append, List.flatMap_cons, List.flatMap_cons, tr_pge g h x, tr_pge g h y, hx, hy, j.2.1]
    simp only [List.append_assoc, List.cons_append]
    refine (List.Perm.cons a ?_).trans (List.Perm.swap y a _)
    refine (List.Perm.append_left _ ?_).trans List.perm_middle
    refine (List.Perm.cons x ?_).trans (List.Perm.swap y x _)
    exact List.perm_middle
end
section
/-! the pages' content out of the arrays; sorted runs; counts -/
def gp_c (kc ks : Nat → Nat) (vs : Nat → Int32) (bl : Nat → Nat) : Nat → pg_T := fun p => (sg_l (fun j => (ks j, vs j)) (5 * p) (kc p), if bl (6 * p) < 100 then sg_l bl (6 * p) (kc p + 1) else [])
def gs_b (kc ks : Nat → Nat) : Prop := (∀ p, kc p ≤ 5) ∧ (∀ j, ks j < 100)
theorem gp_1 {kc ks : Nat → Nat} {vs : Nat → Int32} {bl : Nat → Nat} (p : Nat) : (gp_c kc ks vs bl p).1 = sg_l (fun j => (ks j, vs j)) (5 * p) (kc p) := rfl
theorem gp_2 {kc ks : Nat → Nat} {vs : Nat → Int32} {bl : Nat → Nat} {p : Nat} (h : bl (6 * p) < 100) : (gp_c kc ks vs bl p).2 = sg_l bl (6 * p) (kc p + 1) := if_pos h
theorem gp_3 {kc ks : Nat → Nat} {vs : Nat → Int32} {bl : Nat → Nat} {p : Nat} (h : 100 ≤ bl (6 * p)) : (gp_c kc ks vs bl p).2 = [] := if_neg (by omega)
theorem gp_len {kc ks : Nat → Nat} {vs : Nat → Int32} {bl : Nat → Nat} (p : Nat) : (gp_c kc ks vs bl p).1.length = kc p := sg_len _ _ _
theorem gp_at {kc ks : Nat → Nat} {vs : Nat → Int32} {bl : Nat → Nat} {p i : Nat} (h : i < kc p) : (gp_c kc ks vs bl p).1[i]? = some (ks (5 * p + i), vs (5 * p + i)) := sg_get _ _ _ _ h
theorem gp_below {kc ks : Nat → Nat} {vs : Nat → Int32} {bl : Nat → Nat} {p i : Nat} (hb : bl (6 * p) < 100) (h : i ≤ kc p) : (gp_c kc ks vs bl p).2[i]? = some (bl (6 * p + i)) := by
  rw [gp_2 hb]
  exact sg_get _ _ _ _ (by omega)
theorem gp_leaf {kc ks : Nat → Nat} {vs : Nat → Int32} {bl : Nat → Nat} {p : Nat} (h : tr_sh (gp_c kc ks vs bl) 0 p) : p < 100 ∧ 100 ≤ bl (6 * p) := by
  have h' : p < 100 ∧ (gp_c kc ks vs bl p).2 = [] := h
  refine ⟨h'.1, ?_⟩
  refine Nat.le_of_not_lt (fun hn => ?_)
  rw [gp_2 hn] at h'
  exact (nomatch h'.2)
theorem gp_node {kc ks : Nat → Nat} {vs : Nat → Int32} {bl : Nat → Nat} {h p : Nat} (hs : tr_sh (gp_c kc ks vs bl) (h + 1) p) : p < 100 ∧ bl (6 * p) < 100 ∧ ∀ i, i ≤ kc p → tr_sh (gp_c kc ks vs bl) h (bl (6 * p + i)) := by
  have h' : p < 100 ∧ (gp_c kc ks vs bl p).2.length = (gp_c kc ks vs bl p).1.length + 1 ∧ ∀ c, c ∈ (gp_c kc ks vs bl p).2 → tr_sh (gp_c kc ks vs bl) h c := hs
  have hb : bl (6 * p) < 100 := by
    refine Nat.lt_of_not_le (fun hn => ?_)
    rw [gp_3 hn] at h'
    exact (nomatch h'.2.1)
  refine ⟨h'.1, hb, fun i hi => h'.2.2 _ ?_⟩
  rw [gp_2 hb, sg_mem]
  exact ⟨i, by omega, rfl⟩
/-- two stores of arrays with one content at a page -/
theorem gp_eq {kc ks kc' ks' : Nat → Nat} {vs vs' : Nat → Int32} {bl bl' : Nat → Nat} {p q : Nat} (h1 : kc' p = kc q) (h2 : ∀ i, i < kc q → ks' (5 * p + i) = ks (5 * q + i) ∧ vs' (5 * p + i) = vs (5 * q + i)) (h3 : ∀ i, i ≤ kc q → bl' (6 * p + i) = bl (6 * q + i)) :
    gp_c kc' ks' vs' bl' p = gp_c kc ks vs bl q := by
  unfold gp_c
  rw [h1]
  refine Prod.ext ?_ ?_
  · exact sg_cong _ _ _ (fun i hi => Prod.ext (h2 i hi).1 (h2 i hi).2)
  · dsimp only
    rw [show bl' (6 * p) = bl (6 * q) from h3 0 (by omega), sg_cong (f := bl') (g := bl) (kc q + 1) (6 * p) (6 * q) (fun i hi => h3 i (by omega))]
theorem sp_sg {ks : Nat → Nat} {vs : Nat → Int32} {key a n i : Nat} (hi : i ≤ n) (h1 : ∀ j, j < i → ks (a + j) < key) (h2 : ∀ j, i ≤ j → j < n → key < ks (a + j)) : sp_l key (sg_l (fun j => (ks j, vs j)) a n) i := by
  have hc := sg_cut (fun j => (ks j, vs j)) a hi
  have hl : (sg_l (fun j => (ks j, vs j)) a i).length = i := sg_len _ _ _
  unfold sp_l
  rw [hc]
  constructor
  · intro e m
    rw [List.take_left' hl] at m
    obtain ⟨j, hj, rfl⟩ := (sg_mem _ _).mp m
    exact h1 j hj
  · intro e m
    rw [List.drop_left' hl] at m
    obtain ⟨j, hj, rfl⟩ := (sg_mem _ _).mp m
    have := h2 (i + j) (by omega) (by omega)
    rw [← Nat.add_assoc] at this
    exact this
theorem so_sg {ks : Nat → Nat} {vs : Nat → Int32} : ∀ {n a : Nat}, so_l (sg_l (fun j => (ks j, vs j)) a n) → ∀ i j, i < j → j < n → ks (a + i) < ks (a + j) := by
  intro n
  induction n with
  | zero => intro a _ i j _ h; omega
  | succ n ih =>
    intro a hs i j hij hj
    have hs' : so_l ((ks a, vs a) :: sg_l (fun j => (ks j, vs j)) (a + 1) n) := hs
    rw [so_cons] at hs'
    cases i with
    | zero =>
      have := hs'.1 (ks (a + j), vs (a + j)) ((sg_mem _ _).mpr ⟨j - 1, by omega, by rw [show a + 1 + (j - 1) = a + j by omega]⟩)
      exact this
    | succ i =>
      have := ih hs'.2 i (j - 1) (by omega) (by omega)
      rw [show a + 1 + i = a + (i + 1) by omega, show a + 1 + (j - 1) = a + j by omega] at this
      exact this
theorem wr_sub : ∀ {E : List kv_T} {L : List (List kv_T)}, L.length = E.length → E.Sublist (wr_l E L) := by
  intro E
  induction E with
  | nil => intro L _; exact List.nil_sublist _
  | cons e E ih =>
    intro L h
    cases L with
    | nil => simp at h
    | cons l L =>
      show (e :: E).Sublist (e :: (l ++ wr_l E L))
      exact List.Sublist.cons₂ e ((ih (by simpa using h)).trans (List.sublist_append_right ..))
theorem wv_sub {E : List kv_T} {L : List (List kv_T)} (h : L.length = E.length + 1) : E.Sublist (wv_l E L) := by
  cases L with
  | nil => simp at h
  | cons l L =>
    show E.Sublist (l ++ wr_l E L)
    exact (wr_sub (by simpa using h)).trans (List.sublist_append_right ..)
theorem so_sub {A B : List kv_T} (h : A.Sublist B) (hs : so_l B) : so_l A := List.Pairwise.sublist h hs
/-- a sorted tree: its page's entries are sorted, and so is each tree below -/
theorem so_es {g : Nat → pg_T} {h p : Nat} (hs : tr_sh g h p) (so : so_l (tr_fl g h p)) : so_l (g p).1 := by
  cases h with
  | zero => exact so
  | succ h =>
    have hl := (show _ ∧ _ ∧ _ from hs).2.1
    exact so_sub (wv_sub (by rw [List.length_map]; exact hl)) so
theorem so_ch {g : Nat → pg_T} {h p i x : Nat} (hs : tr_sh g (h + 1) p) (so : so_l (tr_fl g (h + 1) p)) (hi : (g p).2[i]? = some x) : so_l (tr_fl g h x) := by
  obtain ⟨_, _, E1, E2, C1, C2, hg, l1, l2⟩ := tr_shc hs hi
  rw [(tr_v1 (h := h) hg rfl (l1.trans l2.symm)).1, so_app, so_app, ← tr_fle] at so
  exact so.2.1.1
theorem wr_len : ∀ {E : List kv_T} {L : List (List kv_T)}, L.length = E.length → (wr_l E L).length = E.length + (L.map List.length).sum := by
  intro E
  induction E with
  | nil =>
    intro L h
    cases L with
    | nil => rfl
    | cons l L => simp at h
  | cons e E ih =>
    intro L h
    cases L with
    | nil => simp at h
    | cons l L =>
      show (e :: (l ++ wr_l E L)).length = _
      rw [List.length_cons, List.length_append, ih (by simpa using h), List.map_cons, List.sum_cons, List.length_cons]
      omega
theorem wv_len {E : List kv_T} {L : List (List kv_T)} (h : L.length = E.length + 1) : (wv_l E L).length = E.length + (L.map List.length).sum := by
  cases L with
  | nil => simp at h
  | cons l L =>
    show (l ++ wr_l E L).length = _
    rw [List.length_append, wr_len (by simpa using h), List.map_cons, List.sum_cons]
    omega
def ct_s (g : Nat → pg_T) (l : List Nat) : Nat := (l.map (fun q => (g q).1.length)).sum
theorem ct_app (g : Nat → pg_T) (A B : List Nat) : ct_s g (A ++ B) = ct_s g A + ct_s g B := by
  unfold ct_s
  rw [List.map_append, List.sum_append_nat]
theorem ct_cons (g : Nat → pg_T) (a : Nat) (B : List Nat) : ct_s g (a :: B) = (g a).1.length + ct_s g B := by
  unfold ct_s
  rw [List.map_cons, List.sum_cons]
theorem ct_fl {g : Nat → pg_T} : ∀ h p, tr_sh g h p → (tr_fl g h p).length = ct_s g (tr_pg g h p) := by
  intro h
  induction h with
  | zero => intro p _; show (g p).1.length = (g p).1.length + 0; omega
  | succ h ih =>
    intro p hs
    have hs' : p < 100 ∧ (g p).2.length = (g p).1.length + 1 ∧ ∀ c, c ∈ (g p).2 → tr_sh g h c := hs
    show (wv_l (g p).1 ((g p).2.map (tr_fl g h))).length = ct_s g (p :: (g p).2.flatMap (tr_pg g h))
    rw [wv_len (by rw [List.length_map]; exact hs'.2.1), ct_cons]
    congr 1
    have : ∀ C : List Nat, (∀ c, c ∈ C → tr_sh g h c) → ((C.map (tr_fl g h)).map List.length).sum = ct_s g (C.flatMap (tr_pg g h)) := by
      intro C
      induction C with
      | nil => intro _; rfl
      | cons c C ihC =>
        intro hC
        rw [List.map_cons, List.map_cons, List.sum_cons, List.flatMap_cons, ct_app, ihC (fun x hx => hC x (List.mem_cons_of_mem _ hx)), ih c (hC c (List.mem_cons_self ..))]
    exact this _ hs'.2.2
theorem ct_low {g : Nat → pg_T} : ∀ l : List Nat, (∀ q, q ∈ l → 2 ≤ (g q).1.length) → 2 * l.length ≤ ct_s g l := by
  intro l
  induction l with
  | nil => intro _; exact Nat.zero_le _
  | cons a l ih =>
    intro h
    have h1 := ih (fun q m => h q (List.mem_cons_of_mem _ m))
    have h2 := h a (List.mem_cons_self ..)
    rw [ct_cons, List.length_cons]
    omega
theorem fm_low {f : Nat → List Nat} {m : Nat} : ∀ C : List Nat, (∀ c, c ∈ C → m ≤ (f c).length) → C.length * m ≤ (C.flatMap f).length := by
  intro C
  induction C with
  | nil => intro _; simp
  | cons c C ih =>
    intro h
    have h1 := ih (fun q m => h q (List.mem_cons_of_mem _ m))
    have h2 := h c (List.mem_cons_self ..)
    rw [List.flatMap_cons, List.length_append, List.length_cons, Nat.succ_mul]
    omega
theorem tr_high {g : Nat → pg_T} : ∀ h p, tr_sh g h p → (∀ q, q ∈ tr_pg g h p → 1 ≤ (g q).1.length) → 2 ^ (h + 1) ≤ (tr_pg g h p).length + 1 := by
  intro h
  induction h with
  | zero => intro p _ _; show 2 ^ (0 + 1) ≤ 1 + 1; omega
  | succ h ih =>
    intro p hs hb
    have hs' : p < 100 ∧ (g p).2.length = (g p).1.length + 1 ∧ ∀ c, c ∈ (g p).2 → tr_sh g h c := hs
    have h1 := hb p (tr_pgs g (h + 1) p)
    have h2 := fm_low (f := tr_pg g h) (m := 2 ^ (h + 1) - 1) (g p).2 (fun c hc => by
      have := ih c (hs'.2.2 c hc) (fun q hq => hb q (List.mem_cons_of_mem _ (List.mem_flatMap.mpr ⟨c, hc, hq⟩)))
      omega)
    show 2 ^ (h + 1 + 1) ≤ (p :: (g p).2.flatMap (tr_pg g h)).length + 1
    rw [List.length_cons, Nat.pow_succ 2 (h + 1)]
    have h3 : 2 * (2 ^ (h + 1) - 1) ≤ (g p).2.length * (2 ^ (h + 1) - 1) := Nat.mul_le_mul_right _ (by omega)
    have h4 : 1 ≤ 2 ^ (h + 1) := Nat.one_le_two_pow
    omega
/-- a good tree, by its root's code -/
def gt_I (g : Nat → pg_T) (h c : Nat) : Prop := c < 100 → tr_sh g h c ∧ (tr_pg g h c).Nodup ∧ (∀ q, q ∈ tr_pg g h c → 1 ≤ (g q).1.length ∧ (g q).1.length ≤ 4 ∧ (q ≠ c → 2 ≤ (g q).1.length)) ∧ so_l (tr_fl g h c) ∧ (tr_fl g h c).length ≤ 24
theorem gt_12 {g : Nat → pg_T} {h c : Nat} (I : gt_I g h c) (hc : c < 100) : (tr_pg g h c).length ≤ 12 ∧ h ≤ 2 := by
  obtain ⟨hs, hn, hb, _, hl⟩ := I hc
  have h1 := ct_fl h c hs
  have e := tr_pge g h c
  have hn' := hn
  rw [e, List.nodup_cons] at hn'
  have h2 : 2 * (tr_pp g h (g c)).length ≤ ct_s g (tr_pp g h (g c)) := ct_low _ (fun q m => (hb q (by rw [e]; exact List.mem_cons_of_mem _ m)).2.2 (fun z => hn'.1 (z ▸ m)))
  have h3 := (hb c (tr_pgs g h c)).1
  have h4 : (tr_pg g h c).length ≤ 12 := by
    rw [h1, e, ct_cons] at hl
    rw [e, List.length_cons]
    omega
  refine ⟨h4, ?_⟩
  have h5 := tr_high h c hs (fun q m => (hb q m).1)
  refine Nat.le_of_not_lt (fun hh => ?_)
  have h6 : 2 ^ 4 ≤ 2 ^ (h + 1) := Nat.pow_le_pow_right (by omega) (by omega)
  omega
theorem ls_room {L : List Nat} (h : L.length ≤ 98) : ∃ z, z < 99 ∧ z ∉ L := by
  refine Classical.byContradiction (fun hn => ?_)
  have h1 : List.range 99 ⊆ L := by
    intro z hz
    refine Classical.byContradiction (fun hz' => hn ⟨z, List.mem_range.mp hz, hz'⟩)
  have h2 := List.Nodup.length_le_of_subset (List.nodup_range (n := 99)) h1
  rw [List.length_range] at h2
  omega
theorem sg_kv {ks ks' : Nat → Nat} {vs vs' : Nat → Int32} {n a b : Nat} (h : ∀ i, i < n → ks' (a + i) = ks (b + i) ∧ vs' (a + i) = vs (b + i)) : sg_l (fun j => (ks' j, vs' j)) a n = sg_l (fun j => (ks j, vs j)) b n :=
  sg_cong n a b (fun i hi => Prod.ext (h i hi).1 (h i hi).2)
end
section
/-! X's walks: a leaf, the way, looking for a key, the next key -/
theorem xw_isLeaf {we : Nat} {kc : Nat → Nat} {ks : Nat → Nat} {vs : Nat → Int32} {bl : Nat → Nat} {fr : Nat → Bool} {us : Nat → Bool} {mr : Nat → Nat} {ms : Nat → Nat} {mn : Nat → Nat} {mv : Nat → Bool} {ro : Nat → Nat} {sz : Nat → Nat} {nu : Nat → Nat} {wp : Nat → Nat} {wi : Nat → Nat} {wa : Nat → Nat} {post : Int32 → Prop} {x : Nat} (hx : x < 100) (h1 : bl (6 * x) < 100 → post 0) (h2 : 100 ≤ bl (6 * x) → post 1) : wpX_isLeaf post ((nI we), (eu_N kc), (eu_N ks), vs, (eu_P bl), (eu_B fr), (eu_B us), (eu_P mr), (eu_N ms), (eu_N mn), (eu_B mv), (eu_P ro), (eu_N sz), (eu_N nu), (eu_N wp), (eu_N wi), (eu_P wa)) (nI x) := by
  unfold wpX_isLeaf
  simp (disch := omega) only [forall_eq, true_implies, false_implies, not_true_eq_false, not_false_eq_true, and_true, true_and, ea_0, ea_1, ea_2, ea_3, ea_4, ea_5, ea_6, ea_24, ea_99, ea_100, ea_300, ea_n1, ea_n2, pk_mul, nI_add, pk_sub, ea_m1, nI_clamp, eu_Nr, eu_Br, eu_Pr, eu_pn, eu_nb, eu_i8, eu_pb, eu_pi, eu_vb0, eu_vb1, eu_vbb, eu_Nu, eu_Pu, eu_Pun, eu_Bu, eu_Bu0, eu_Bu1, ea_inT, nI_leI, Nat.zero_le, nI_ltI, nI_eq, eu_pl, eu_pg, eu_p2, eu_b0]
  exact ⟨h1, fun h => h2 (by omega)⟩
theorem xw_pushWay {we : Nat} {kc : Nat → Nat} {ks : Nat → Nat} {vs : Nat → Int32} {bl : Nat → Nat} {fr : Nat → Bool} {us : Nat → Bool} {mr : Nat → Nat} {ms : Nat → Nat} {mn : Nat → Nat} {mv : Nat → Bool} {ro : Nat → Nat} {sz : Nat → Nat} {nu : Nat → Nat} {wp : Nat → Nat} {wi : Nat → Nat} {wa : Nat → Nat} {post : SX → Prop} {x i : Nat} (hw : we < 8) (hx : x < 128) (hi : i < 128) (h : post ((nI (we + 1)), (eu_N kc), (eu_N ks), vs, (eu_P bl), (eu_B fr), (eu_B us), (eu_P mr), (eu_N ms), (eu_N mn), (eu_B mv), (eu_P ro), (eu_N sz), (eu_N nu), (eu_N (un_f wp we x)), (eu_N (un_f wi we i)), (eu_P wa))) : wpX_pushWay post ((nI we), (eu_N kc), (eu_N ks), vs, (eu_P bl), (eu_B fr), (eu_B us), (eu_P mr), (eu_N ms), (eu_N mn), (eu_B mv), (eu_P ro), (eu_N sz), (eu_N nu), (eu_N wp), (eu_N wi), (eu_P wa)) (nI x) (nI i) := by
  unfold wpX_pushWay
  simp (disch := omega) only [forall_eq, true_implies, false_implies, not_true_eq_false, not_false_eq_true, and_true, true_and, ea_0, ea_1, ea_2, ea_3, ea_4, ea_5, ea_6, ea_24, ea_99, ea_100, ea_300, ea_n1, ea_n2, pk_mul, nI_add, pk_sub, ea_m1, nI_clamp, eu_Nr, eu_Br, eu_Pr, eu_pn, eu_nb, eu_i8, eu_pb, eu_pi, eu_vb0, eu_vb1, eu_vbb, eu_Nu, eu_Pu, eu_Pun, eu_Bu, eu_Bu0, eu_Bu1, ea_inT, nI_leI, Nat.zero_le, nI_ltI, nI_eq, eu_pl, eu_pg, eu_p2, eu_b0]
  exact h
theorem xw_find14 {we : Nat} {kc : Nat → Nat} {ks : Nat → Nat} {vs : Nat → Int32} {bl : Nat → Nat} {fr : Nat → Bool} {us : Nat → Bool} {mr : Nat → Nat} {ms : Nat → Nat} {mn : Nat → Nat} {mv : Nat → Bool} {ro : Nat → Nat} {sz : Nat → Nat} {nu : Nat → Nat} {wp : Nat → Nat} {wi : Nat → Nat} {wa : Nat → Nat} {post : Int32 → SX → Prop} {J7 : Int32 → Int32 → (Nat → Int32) → (Nat → Int32) → (Nat → Int32) → (Nat → Int32) → (Nat → Int32) → (Nat → Int32) → (Nat → Int32) → (Nat → Int32) → (Nat → Int32) → (Nat → Int32) → (Nat → Int32) → (Nat → Int32) → (Nat → Int32) → (Nat → Int32) → (Nat → Int32) → (Nat → Int32) → Prop} {key x : Nat} (hk : key < 100) (hx : x < 100) (gs : gs_b kc ks)
    (K : ∀ i, i ≤ kc x → (∀ j, j < i → ks (5 * x + j) < key) → (i < kc x → key ≤ ks (5 * x + i)) → wX_find_46 post J7 (nI key) (nI x) (nI i) (nI we) (eu_N kc) (eu_N ks) vs (eu_P bl) (eu_B fr) (eu_B us) (eu_P mr) (eu_N ms) (eu_N mn) (eu_B mv) (eu_P ro) (eu_N sz) (eu_N nu) (eu_N wp) (eu_N wi) (eu_P wa)) :
    ∀ d i, i + d = kc x → (∀ j, j < i → ks (5 * x + j) < key) → wX_find_14 post J7 (nI key) (nI x) (nI we) (eu_N kc) (eu_N ks) vs (eu_P bl) (eu_B fr) (eu_B us) (eu_P mr) (eu_N ms) (eu_N mn) (eu_B mv) (eu_P ro) (eu_N sz) (eu_N nu) (eu_N wp) (eu_N wi) (eu_P wa) (d + 1) (nI i) := by
  have h5 := gs.1 x
  intro d
  induction d with
  | zero =>
    intro i hi hlt
    have h100 := gs.2 (5 * x + i)
    rw [wX_find_14]
    simp (disch := omega) only [forall_eq, true_implies, false_implies, not_true_eq_false, not_false_eq_true, and_true, true_and, ea_0, ea_1, ea_2, ea_3, ea_4, ea_5, ea_6, ea_24, ea_99, ea_100, ea_300, ea_n1, ea_n2, pk_mul, nI_add, pk_sub, ea_m1, nI_clamp, eu_Nr, eu_Br, eu_Pr, eu_pn, eu_nb, eu_i8, eu_pb, eu_pi, eu_vb0, eu_vb1, eu_vbb, eu_Nu, eu_Pu, eu_Pun, eu_Bu, eu_Bu0, eu_Bu1, ea_inT, nI_leI, Nat.zero_le, nI_ltI, nI_eq, eu_pl, eu_pg, eu_p2, eu_b0]
    exact ⟨fun _ => K i (by omega) hlt (by omega), fun h => absurd h (by omega)⟩
  | succ d ih =>
    intro i hi hlt
    have h100 := gs.2 (5 * x + i)
    rw [wX_find_14]
    simp (disch := omega) only [forall_eq, true_implies, false_implies, not_true_eq_false, not_false_eq_true, and_true, true_and, ea_0, ea_1, ea_2, ea_3, ea_4, ea_5, ea_6, ea_24, ea_99, ea_100, ea_300, ea_n1, ea_n2, pk_mul, nI_add, pk_sub, ea_m1, nI_clamp, eu_Nr, eu_Br, eu_Pr, eu_pn, eu_nb, eu_i8, eu_pb, eu_pi, eu_vb0, eu_vb1, eu_vbb, eu_Nu, eu_Pu, eu_Pun, eu_Bu, eu_Bu0, eu_Bu1, ea_inT, nI_leI, Nat.zero_le, nI_ltI, nI_eq, eu_pl, eu_pg, eu_p2, eu_b0]
    refine ⟨fun h => absurd h (by omega), fun _ => ⟨fun h => K i (by omega) hlt (fun _ => h), fun h => ?_⟩⟩
    refine ih (i + 1) (by omega) (fun j hj => ?_)
    by_cases e : j = i
    · subst e; omega
    · exact hlt j (by omega)
theorem xw_find46 {we : Nat} {kc : Nat → Nat} {ks : Nat → Nat} {vs : Nat → Int32} {bl : Nat → Nat} {fr : Nat → Bool} {us : Nat → Bool} {mr : Nat → Nat} {ms : Nat → Nat} {mn : Nat → Nat} {mv : Nat → Bool} {ro : Nat → Nat} {sz : Nat → Nat} {nu : Nat → Nat} {wp : Nat → Nat} {wi : Nat → Nat} {wa : Nat → Nat} {post : Int32 → SX → Prop} {J7 : Int32 → Int32 → (Nat → Int32) → (Nat → Int32) → (Nat → Int32) → (Nat → Int32) → (Nat → Int32) → (Nat → Int32) → (Nat → Int32) → (Nat → Int32) → (Nat → Int32) → (Nat → Int32) → (Nat → Int32) → (Nat → Int32) → (Nat → Int32) → (Nat → Int32) → (Nat → Int32) → (Nat → Int32) → Prop} {key x i : Nat} (hk : key < 100) (hx : x < 100) (gs : gs_b kc ks) (hi : i ≤ kc x) (hw : we < 8)
    (h1 : i < kc x → ks (5 * x + i) = key → post 1 ((nI (we + 1)), (eu_N kc), (eu_N ks), vs, (eu_P bl), (eu_B fr), (eu_B us), (eu_P mr), (eu_N ms), (eu_N mn), (eu_B mv), (eu_P ro), (eu_N sz), (eu_N nu), (eu_N (un_f wp we x)), (eu_N (un_f wi we i)), (eu_P wa)))
    (h2 : (i < kc x → ks (5 * x + i) ≠ key) → bl (6 * x) < 100 → J7 (eu_p (bl (6 * x + i))) (nI (we + 1)) (eu_N kc) (eu_N ks) vs (eu_P bl) (eu_B fr) (eu_B us) (eu_P mr) (eu_N ms) (eu_N mn) (eu_B mv) (eu_P ro) (eu_N sz) (eu_N nu) (eu_N (un_f wp we x)) (eu_N (un_f wi we i)) (eu_P wa))
    (h3 : (i < kc x → ks (5 * x + i) ≠ key) → 100 ≤ bl (6 * x) → J7 (-1) (nI (we + 1)) (eu_N kc) (eu_N ks) vs (eu_P bl) (eu_B fr) (eu_B us) (eu_P mr) (eu_N ms) (eu_N mn) (eu_B mv) (eu_P ro) (eu_N sz) (eu_N nu) (eu_N (un_f wp we x)) (eu_N (un_f wi we i)) (eu_P wa)) :
    wX_find_46 post J7 (nI key) (nI x) (nI i) (nI we) (eu_N kc) (eu_N ks) vs (eu_P bl) (eu_B fr) (eu_B us) (eu_P mr) (eu_N ms) (eu_N mn) (eu_B mv) (eu_P ro) (eu_N sz) (eu_N nu) (eu_N wp) (eu_N wi) (eu_P wa) := by
  have h5 := gs.1 x
  have h100 := gs.2 (5 * x + i)
  have k81 : (i < kc x → ks (5 * x + i) ≠ key) → wX_find_81 post J7 (nI key) (nI x) (nI i) (nI (we + 1)) (eu_N kc) (eu_N ks) vs (eu_P bl) (eu_B fr) (eu_B us) (eu_P mr) (eu_N ms) (eu_N mn) (eu_B mv) (eu_P ro) (eu_N sz) (eu_N nu) (eu_N (un_f wp we x)) (eu_N (un_f wi we i)) (eu_P wa) := by
    intro hn
    unfold wX_find_81
    refine xw_isLeaf hx (fun hb => ?_) (fun hb => ?_)
    · refine br_t rfl ?_
      simp (disch := omega) only [forall_eq, true_and, ea_6, pk_mul, nI_add, nI_clamp, eu_Pr, ea_inT]
      exact h2 hn hb
    · exact br_f (by decide) (h3 hn hb)
  unfold wX_find_46
  refine xw_pushWay hw (by omega) (by omega) ?_
  dsimp only
  simp (disch := omega) only [forall_eq, true_implies, false_implies, not_true_eq_false, not_false_eq_true, and_true, true_and, ea_0, ea_1, ea_2, ea_3, ea_4, ea_5, ea_6, ea_24, ea_99, ea_100, ea_300, ea_n1, ea_n2, pk_mul, nI_add, pk_sub, ea_m1, nI_clamp, eu_Nr, eu_Br, eu_Pr, eu_pn, eu_nb, eu_i8, eu_pb, eu_pi, eu_vb0, eu_vb1, eu_vbb, eu_Nu, eu_Pu, eu_Pun, eu_Bu, eu_Bu0, eu_Bu1, ea_inT, nI_leI, Nat.zero_le, nI_ltI, nI_eq, eu_pl, eu_pg, eu_p2, eu_b0]
  refine ⟨fun h => k81 (fun z => absurd h (by omega)), fun h => ⟨vp_in_nI (by omega) (by omega), fun e => h1 (by omega) e, fun e => k81 (fun _ => e)⟩⟩
theorem xw_find7 {kc : Nat → Nat} {ks : Nat → Nat} {vs : Nat → Int32} {bl : Nat → Nat} {fr : Nat → Bool} {us : Nat → Bool} {mr : Nat → Nat} {ms : Nat → Nat} {mn : Nat → Nat} {mv : Nat → Bool} {ro : Nat → Nat} {sz : Nat → Nat} {nu : Nat → Nat} {wa : Nat → Nat} {post : Int32 → SX → Prop} {key : Nat} (hk : key < 100) (gs : gs_b kc ks) : ∀ (h c we : Nat) (wp wi : Nat → Nat), tr_sh (gp_c kc ks vs bl) h c → so_l (tr_fl (gp_c kc ks vs bl) h c) → we + h + 1 ≤ 8 →
    (∀ (m : Nat) (wp' wi' : Nat → Nat), we ≤ m → m ≤ we + h → (∀ j, j < we → wp' j = wp j ∧ wi' j = wi j) → wp' we = c → (∀ j, we ≤ j → j < m → ((gp_c kc ks vs bl (wp' j)).2[wi' j]? = some (wp' (j + 1)) ∧ sp_l key (gp_c kc ks vs bl (wp' j)).1 (wi' j))) →
      ((∃ v, (gp_c kc ks vs bl (wp' m)).1[wi' m]? = some (key, v)) → post 1 ((nI (m + 1)), (eu_N kc), (eu_N ks), vs, (eu_P bl), (eu_B fr), (eu_B us), (eu_P mr), (eu_N ms), (eu_N mn), (eu_B mv), (eu_P ro), (eu_N sz), (eu_N nu), (eu_N wp'), (eu_N wi'), (eu_P wa))) ∧ (m = we + h → wi' m ≤ kc (wp' m) → sp_l key (gp_c kc ks vs bl (wp' m)).1 (wi' m) → post 0 ((nI (m + 1)), (eu_N kc), (eu_N ks), vs, (eu_P bl), (eu_B fr), (eu_B us), (eu_P mr), (eu_N ms), (eu_N mn), (eu_B mv), (eu_P ro), (eu_N sz), (eu_N nu), (eu_N wp'), (eu_N wi'), (eu_P wa)))) →
    wX_find_7 post (nI key) (h + 2) (nI c) (nI we) (eu_N kc) (eu_N ks) vs (eu_P bl) (eu_B fr) (eu_B us) (eu_P mr) (eu_N ms) (eu_N mn) (eu_B mv) (eu_P ro) (eu_N sz) (eu_N nu) (eu_N wp) (eu_N wi) (eu_P wa) := by
  intro h
  induction h with
  | zero =>
    intro c we wp wi hs so hw K
    obtain ⟨hc, hb⟩ := gp_leaf hs
    have hso := so_es hs so
    rw [wX_find_7]
    refine br_f (nI_pos (by omega)) ⟨kc c + 1, ?_⟩
    refine xw_find14 hk hc gs (fun i hi hlt hle => ?_) (kc c) 0 (by omega) (fun j hj => absurd hj (by omega))
    refine xw_find46 hk hc gs hi (by omega) (fun hi' e => ?_) (fun _ h => absurd h (by omega)) (fun hn _ => ?_)
    · refine (K we (un_f wp we c) (un_f wi we i) (by omega) (by omega) (fun j hj => ⟨un_n (by omega), un_n (by omega)⟩) un_s (fun j h1 h2 => absurd h1 (by omega))).1 ⟨vs (5 * c + i), ?_⟩
      rw [un_s, un_s, gp_at hi', e]
    · rw [wX_find_7]
      refine br_t (by decide) ?_
      refine (K we (un_f wp we c) (un_f wi we i) (by omega) (by omega) (fun j hj => ⟨un_n (by omega), un_n (by omega)⟩) un_s (fun j h1 h2 => absurd h1 (by omega))).2 rfl (by rw [un_s, un_s]; exact hi) ?_
      rw [un_s, un_s, gp_1]
      refine sp_sg hi hlt (fun j h1 h2 => ?_)
      have h3 := hle (by omega)
      have h4 := hn (by omega)
      by_cases e : j = i
      · subst e; omega
      · have := so_sg hso i j (by omega) h2
        omega
  | succ h ih =>
    intro c we wp wi hs so hw K
    obtain ⟨hc, hb, hch⟩ := gp_node hs
    have hso := so_es hs so
    rw [wX_find_7]
    refine br_f (nI_pos (by omega)) ⟨kc c + 1, ?_⟩
    refine xw_find14 hk hc gs (fun i hi hlt hle => ?_) (kc c) 0 (by omega) (fun j hj => absurd hj (by omega))
    refine xw_find46 hk hc gs hi (by omega) (fun hi' e => ?_) (fun hn _ => ?_) (fun _ h => absurd h (by omega))
    · refine (K we (un_f wp we c) (un_f wi we i) (by omega) (by omega) (fun j hj => ⟨un_n (by omega), un_n (by omega)⟩) un_s (fun j h1 h2 => absurd h1 (by omega))).1 ⟨vs (5 * c + i), ?_⟩
      rw [un_s, un_s, gp_at hi', e]
    · have hx := hch i hi
      have hget := gp_below (ks := ks) (vs := vs) hb hi
      have hsp : sp_l key (gp_c kc ks vs bl c).1 i := by
        rw [gp_1]
        refine sp_sg hi hlt (fun j h1 h2 => ?_)
        have h3 := hle (by omega)
        have h4 := hn (by omega)
        by_cases e : j = i
        · subst e; omega
        · have := so_sg hso i j (by omega) h2
          omega
      rw [eu_pn (tr_100 hx)]
      refine ih (bl (6 * c + i)) (we + 1) (un_f wp we c) (un_f wi we i) hx (so_ch hs so hget) (by omega) (fun m wp' wi' h1 h2 h3 h4 h5 => ?_)
      have e1 : wp' we = c := (h3 we (by omega)).1.trans un_s
      have e2 : wi' we = i := (h3 we (by omega)).2.trans un_s
      have KK := K m wp' wi' (by omega) (by omega) (fun j hj => ⟨(h3 j (by omega)).1.trans (un_n (by omega)), (h3 j (by omega)).2.trans (un_n (by omega))⟩) e1 (fun j j1 j2 => by
        by_cases ej : j = we
        · subst ej
          rw [e1, e2, h4]
          exact ⟨hget, hsp⟩
        · exact h5 j (by omega) j2)
      exact ⟨KK.1, fun hm => KK.2 (by omega)⟩
theorem xw_find {we : Nat} {kc : Nat → Nat} {ks : Nat → Nat} {vs : Nat → Int32} {bl : Nat → Nat} {fr : Nat → Bool} {us : Nat → Bool} {mr : Nat → Nat} {ms : Nat → Nat} {mn : Nat → Nat} {mv : Nat → Bool} {ro : Nat → Nat} {sz : Nat → Nat} {nu : Nat → Nat} {wp : Nat → Nat} {wi : Nat → Nat} {wa : Nat → Nat} {post : Int32 → SX → Prop} {key c h : Nat} (hk : key < 100) (gs : gs_b kc ks) (hc : c < 100 → tr_sh (gp_c kc ks vs bl) h c ∧ so_l (tr_fl (gp_c kc ks vs bl) h c) ∧ h ≤ 2)
    (K0 : 100 ≤ c → post 0 ((nI 0), (eu_N kc), (eu_N ks), vs, (eu_P bl), (eu_B fr), (eu_B us), (eu_P mr), (eu_N ms), (eu_N mn), (eu_B mv), (eu_P ro), (eu_N sz), (eu_N nu), (eu_N wp), (eu_N wi), (eu_P wa)))
    (K1 : c < 100 → ∀ (m : Nat) (wp' wi' : Nat → Nat), m ≤ h → wp' 0 = c → tr_pt (gp_c kc ks vs bl) wp' wi' m → (∀ j, j < m → sp_l key (gp_c kc ks vs bl (wp' j)).1 (wi' j)) → (∃ v, (gp_c kc ks vs bl (wp' m)).1[wi' m]? = some (key, v)) → post 1 ((nI (m + 1)), (eu_N kc), (eu_N ks), vs, (eu_P bl), (eu_B fr), (eu_B us), (eu_P mr), (eu_N ms), (eu_N mn), (eu_B mv), (eu_P ro), (eu_N sz), (eu_N nu), (eu_N wp'), (eu_N wi'), (eu_P wa)))
    (K2 : c < 100 → ∀ (wp' wi' : Nat → Nat), wp' 0 = c → tr_pt (gp_c kc ks vs bl) wp' wi' h → wi' h ≤ kc (wp' h) → (∀ j, j ≤ h → sp_l key (gp_c kc ks vs bl (wp' j)).1 (wi' j)) → post 0 ((nI (h + 1)), (eu_N kc), (eu_N ks), vs, (eu_P bl), (eu_B fr), (eu_B us), (eu_P mr), (eu_N ms), (eu_N mn), (eu_B mv), (eu_P ro), (eu_N sz), (eu_N nu), (eu_N wp'), (eu_N wi'), (eu_P wa))) :
    wpX_find post ((nI we), (eu_N kc), (eu_N ks), vs, (eu_P bl), (eu_B fr), (eu_B us), (eu_P mr), (eu_N ms), (eu_N mn), (eu_B mv), (eu_P ro), (eu_N sz), (eu_N nu), (eu_N wp), (eu_N wi), (eu_P wa)) (eu_p c) (nI key) := by
  unfold wpX_find
  dsimp only
  by_cases h100 : c < 100
  · obtain ⟨h1, h2, h3⟩ := hc h100
    refine ⟨h + 2, ?_⟩
    rw [eu_pn h100, ea_0]
    refine xw_find7 hk gs h c 0 wp wi h1 h2 (by omega) (fun m wp' wi' _ m2 _ m4 m5 => ⟨fun hv => ?_, fun hm hle hsp => ?_⟩)
    · exact K1 h100 m wp' wi' (by omega) m4 (fun j hj => (m5 j (by omega) hj).1) (fun j hj => (m5 j (by omega) hj).2) hv
    · have e : m = h := by omega
      subst e
      refine K2 h100 wp' wi' m4 (fun j hj => (m5 j (by omega) hj).1) hle (fun j hj => ?_)
      by_cases ej : j = m
      · subst ej; exact hsp
      · exact (m5 j (by omega) (by omega)).2
  · refine ⟨1, ?_⟩
    rw [wX_find_7]
    refine br_t ?_ (K0 (by omega))
    rw [ea_0, eu_pl]
    omega
end
section
/-! X's walk: the next key -/
theorem ea_ltz (key : Int32) {k : Nat} (h : k < 2 ^ 31) : key < nI k ↔ key.toInt < (k : Int) := by
  rw [Int32.lt_iff_toInt_lt, nI_toInt h]
theorem xw_next28 {we : Nat} {kc : Nat → Nat} {ks : Nat → Nat} {vs : Nat → Int32} {bl : Nat → Nat} {fr : Nat → Bool} {us : Nat → Bool} {mr : Nat → Nat} {ms : Nat → Nat} {mn : Nat → Nat} {mv : Nat → Bool} {ro : Nat → Nat} {sz : Nat → Nat} {nu : Nat → Nat} {wp : Nat → Nat} {wi : Nat → Nat} {wa : Nat → Nat} {post : Int32 → Prop} {J21 : Int32 → Int32 → Prop} {key b : Int32} {x : Nat} (hx : x < 100) (gs : gs_b kc ks)
    (K : ∀ i, i ≤ kc x → (∀ j, j < i → (ks (5 * x + j) : Int) ≤ key.toInt) → (i < kc x → key.toInt < (ks (5 * x + i) : Int)) → wX_next_60 post J21 key (nI x) b (nI i) (nI we) (eu_N kc) (eu_N ks) vs (eu_P bl) (eu_B fr) (eu_B us) (eu_P mr) (eu_N ms) (eu_N mn) (eu_B mv) (eu_P ro) (eu_N sz) (eu_N nu) (eu_N wp) (eu_N wi) (eu_P wa)) :
    ∀ d i, i + d = kc x → (∀ j, j < i → (ks (5 * x + j) : Int) ≤ key.toInt) → wX_next_28 post J21 key (nI x) b (nI we) (eu_N kc) (eu_N ks) vs (eu_P bl) (eu_B fr) (eu_B us) (eu_P mr) (eu_N ms) (eu_N mn) (eu_B mv) (eu_P ro) (eu_N sz) (eu_N nu) (eu_N wp) (eu_N wi) (eu_P wa) (d + 1) (nI i) := by
  have h5 := gs.1 x
  intro d
  induction d with
  | zero =>
    intro i hi hlt
    have h100 := gs.2 (5 * x + i)
    rw [wX_next_28]
    simp (disch := omega) only [forall_eq, true_implies, false_implies, not_true_eq_false, not_false_eq_true, and_true, true_and, ea_0, ea_1, ea_2, ea_3, ea_4, ea_5, ea_6, ea_24, ea_99, ea_100, ea_300, ea_n1, ea_n2, pk_mul, nI_add, pk_sub, ea_m1, nI_clamp, eu_Nr, eu_Br, eu_Pr, eu_pn, eu_nb, eu_i8, eu_pb, eu_pi, eu_vb0, eu_vb1, eu_vbb, eu_Nu, eu_Pu, eu_Pun, eu_Bu, eu_Bu0, eu_Bu1, ea_inT, nI_leI, Nat.zero_le, nI_ltI, nI_eq, eu_pl, eu_pg, eu_p2, eu_b0]
    exact ⟨fun _ => K i (by omega) hlt (by omega), fun h => absurd h (by omega)⟩
  | succ d ih =>
    intro i hi hlt
    have h100 := gs.2 (5 * x + i)
    rw [wX_next_28]
    simp (disch := omega) only [forall_eq, true_implies, false_implies, not_true_eq_false, not_false_eq_true, and_true, true_and, ea_0, ea_1, ea_2, ea_3, ea_4, ea_5, ea_6, ea_24, ea_99, ea_100, ea_300, ea_n1, ea_n2, pk_mul, nI_add, pk_sub, ea_m1, nI_clamp, eu_Nr, eu_Br, eu_Pr, eu_pn, eu_nb, eu_i8, eu_pb, eu_pi, eu_vb0, eu_vb1, eu_vbb, eu_Nu, eu_Pu, eu_Pun, eu_Bu, eu_Bu0, eu_Bu1, ea_inT, nI_leI, Nat.zero_le, nI_ltI, nI_eq, eu_pl, eu_pg, eu_p2, eu_b0, ea_ltz]
    refine ⟨fun h => absurd h (by omega), fun _ => ⟨fun h => K i (by omega) hlt (fun _ => h), fun h => ?_⟩⟩
    refine ih (i + 1) (by omega) (fun j hj => ?_)
    by_cases e : j = i
    · subst e; omega
    · exact hlt j (by omega)
theorem xw_next60 {we : Nat} {kc : Nat → Nat} {ks : Nat → Nat} {vs : Nat → Int32} {bl : Nat → Nat} {fr : Nat → Bool} {us : Nat → Bool} {mr : Nat → Nat} {ms : Nat → Nat} {mn : Nat → Nat} {mv : Nat → Bool} {ro : Nat → Nat} {sz : Nat → Nat} {nu : Nat → Nat} {wp : Nat → Nat} {wi : Nat → Nat} {wa : Nat → Nat} {post : Int32 → Prop} {J21 : Int32 → Int32 → Prop} {key b : Int32} {x i : Nat} (hx : x < 100) (gs : gs_b kc ks) (hi : i ≤ kc x)
    (h1 : bl (6 * x) < 100 → J21 (eu_p (bl (6 * x + i))) (if i < kc x then nI (ks (5 * x + i)) else b))
    (h2 : 100 ≤ bl (6 * x) → J21 (-1) (if i < kc x then nI (ks (5 * x + i)) else b)) :
    wX_next_60 post J21 key (nI x) b (nI i) (nI we) (eu_N kc) (eu_N ks) vs (eu_P bl) (eu_B fr) (eu_B us) (eu_P mr) (eu_N ms) (eu_N mn) (eu_B mv) (eu_P ro) (eu_N sz) (eu_N nu) (eu_N wp) (eu_N wi) (eu_P wa) := by
  have h5 := gs.1 x
  have h100 := gs.2 (5 * x + i)
  have k84 : ∀ b', b' = (if i < kc x then nI (ks (5 * x + i)) else b) → wX_next_84 post J21 key (nI x) b' (nI i) (nI we) (eu_N kc) (eu_N ks) vs (eu_P bl) (eu_B fr) (eu_B us) (eu_P mr) (eu_N ms) (eu_N mn) (eu_B mv) (eu_P ro) (eu_N sz) (eu_N nu) (eu_N wp) (eu_N wi) (eu_P wa) := by
    intro b' e
    subst e
    unfold wX_next_84
    simp (disch := omega) only [forall_eq, true_and, ea_0, ea_6, pk_mul, nI_add, nI_clamp, eu_Pr, ea_inT, eu_pg]
    exact ⟨h1, fun h => h2 (by omega)⟩
  unfold wX_next_60
  simp (disch := omega) only [forall_eq, true_and, ea_5, pk_mul, nI_add, nI_clamp, eu_Nr, ea_inT, nI_leI]
  refine ⟨fun h => k84 b (if_neg (by omega)).symm, fun h => ⟨vp_in_nI (by omega) (by omega), k84 _ (if_pos (by omega)).symm⟩⟩
def nx_h (B : List kv_T) (b : Int32) : Int32 := match B with
  | [] => b
  | e :: _ => nI e.1
theorem nx_app (A B : List kv_T) (b : Int32) : nx_h (A ++ B) b = nx_h A (nx_h B b) := by cases A <;> rfl
theorem nx_wr {E : List kv_T} {L : List (List kv_T)} (h : E.length = L.length) (b : Int32) : nx_h (wr_l E L) b = nx_h E b := by
  cases E with
  | nil => rfl
  | cons e E =>
    cases L with
    | nil => simp at h
    | cons l L => rfl
theorem nx_sg {ks : Nat → Nat} {vs : Nat → Int32} {a n : Nat} {b : Int32} : nx_h (sg_l (fun j => (ks j, vs j)) a n) b = if 0 < n then nI (ks a) else b := by
  cases n <;> rfl
theorem xw_next21 {we : Nat} {kc : Nat → Nat} {ks : Nat → Nat} {vs : Nat → Int32} {bl : Nat → Nat} {fr : Nat → Bool} {us : Nat → Bool} {mr : Nat → Nat} {ms : Nat → Nat} {mn : Nat → Nat} {mv : Nat → Bool} {ro : Nat → Nat} {sz : Nat → Nat} {nu : Nat → Nat} {wp : Nat → Nat} {wi : Nat → Nat} {wa : Nat → Nat} {post : Int32 → Prop} {key : Int32} (gs : gs_b kc ks) : ∀ (h c : Nat) (b : Int32), tr_sh (gp_c kc ks vs bl) h c → so_l (tr_fl (gp_c kc ks vs bl) h c) →
    (∀ A B, tr_fl (gp_c kc ks vs bl) h c = A ++ B → (∀ e, e ∈ A → (e.1 : Int) ≤ key.toInt) → (∀ e, e ∈ B → key.toInt < (e.1 : Int)) → post (nx_h B b)) →
    wX_next_21 post key (nI we) (eu_N kc) (eu_N ks) vs (eu_P bl) (eu_B fr) (eu_B us) (eu_P mr) (eu_N ms) (eu_N mn) (eu_B mv) (eu_P ro) (eu_N sz) (eu_N nu) (eu_N wp) (eu_N wi) (eu_P wa) (h + 2) (nI c) b := by
  have key1 : ∀ c i, i ≤ kc c → so_l (gp_c kc ks vs bl c).1 → (∀ j, j < i → (ks (5 * c + j) : Int) ≤ key.toInt) → (i < kc c → key.toInt < (ks (5 * c + i) : Int)) →
      (∀ e, e ∈ sg_l (fun j => (ks j, vs j)) (5 * c) i → (e.1 : Int) ≤ key.toInt) ∧ (∀ e, e ∈ sg_l (fun j => (ks j, vs j)) (5 * c + i) (kc c - i) → key.toInt < (e.1 : Int)) := by
    intro c i hi hso hlt hle
    constructor
    · intro e m
      obtain ⟨j, hj, rfl⟩ := (sg_mem _ _).mp m
      exact hlt j hj
    · intro e m
      obtain ⟨j, hj, rfl⟩ := (sg_mem _ _).mp m
      have h1 := hle (by omega)
      dsimp only
      cases j with
      | zero => exact h1
      | succ j =>
        have h2 := so_sg hso i (i + (j + 1)) (by omega) (by omega)
        rw [← Nat.add_assoc] at h2
        omega
  intro h
  induction h with
  | zero =>
    intro c b hs so K
    obtain ⟨hc, hb⟩ := gp_leaf hs
    have hso := so_es hs so
    rw [wX_next_21]
    refine br_f (nI_pos (by omega)) ⟨kc c + 1, ?_⟩
    refine xw_next28 hc gs (fun i hi hlt hle => ?_) (kc c) 0 (by omega) (fun j hj => absurd hj (by omega))
    refine xw_next60 hc gs hi (fun h => absurd h (by omega)) (fun _ => ?_)
    rw [wX_next_21]
    refine br_t (by decide) ?_
    have k := key1 c i hi hso hlt hle
    have kk := K _ _ (sg_cut _ _ hi) k.1 k.2
    rw [nx_sg] at kk
    by_cases e : i < kc c
    · rw [if_pos (by omega)] at kk
      rw [if_pos e]
      exact kk
    · rw [if_neg (by omega)] at kk
      rw [if_neg e]
      exact kk
  | succ h ih =>
    intro c b hs so K
    obtain ⟨hc, hb, hch⟩ := gp_node hs
    have hso := so_es hs so
    rw [wX_next_21]
    refine br_f (nI_pos (by omega)) ⟨kc c + 1, ?_⟩
    refine xw_next28 hc gs (fun i hi hlt hle => ?_) (kc c) 0 (by omega) (fun j hj => absurd hj (by omega))
    refine xw_next60 hc gs hi (fun _ => ?_) (fun h => absurd h (by omega))
    have hx := hch i hi
    have hget := gp_below (ks := ks) (vs := vs) hb hi
    have k := key1 c i hi hso hlt hle
    have hg : gp_c kc ks vs bl c = (sg_l (fun j => (ks j, vs j)) (5 * c) i ++ sg_l (fun j => (ks j, vs j)) (5 * c + i) (kc c - i), sg_l bl (6 * c) i ++ bl (6 * c + i) :: sg_l bl (6 * c + i + 1) (kc c + 1 - i - 1)) := by
      refine Prod.ext ?_ ?_
      · exact sg_cut _ _ hi
      · rw [gp_2 hb]
        exact sg_mid _ _ (by omega)
    have hl : (sg_l (fun j => (ks j, vs j)) (5 * c) i).length = (sg_l bl (6 * c) i).length := by rw [sg_len, sg_len]
    have v := (tr_v1 (h := h) hg rfl hl).1
    rw [← tr_fle] at v
    have so' := so
    rw [v, so_app, so_app] at so'
    rw [eu_pn (tr_100 hx)]
    refine ih (bl (6 * c + i)) _ hx (so_ch hs so hget) (fun A B eAB hA hB => ?_)
    have kk := K (wl_l (sg_l (fun j => (ks j, vs j)) (5 * c) i) ((sg_l bl (6 * c) i).map (tr_fl (gp_c kc ks vs bl) h)) ++ A) (B ++ wr_l (sg_l (fun j => (ks j, vs j)) (5 * c + i) (kc c - i)) ((sg_l bl (6 * c + i + 1) (kc c + 1 - i - 1)).map (tr_fl (gp_c kc ks vs bl) h)))
      (by rw [v, eAB]; simp only [List.append_assoc]) (fun e m => ?_) (fun e m => ?_)
    · rw [nx_app, nx_wr (by rw [List.length_map, sg_len, sg_len]; omega), nx_sg] at kk
      by_cases e : i < kc c
      · rw [if_pos (by omega)] at kk
        rw [if_pos e]
        exact kk
      · rw [if_neg (by omega)] at kk
        rw [if_neg e]
        exact kk
    · rcases List.mem_append.mp m with m | m
      · obtain ⟨f, hf, hle'⟩ := wl_last (by rw [List.length_map, sg_len, sg_len]) so'.1 e m
        have := k.1 f hf
        omega
      · exact hA e m
    · rcases List.mem_append.mp m with m | m
      · exact hB e m
      · obtain ⟨f, hf, hle'⟩ := wr_first (by rw [List.length_map, sg_len, sg_len]; omega) so'.2.1.2.1 e m
        have := k.2 f hf
        omega
end
section
/-! X's walks: marking the trees, a new page, a fresh copy -/
theorem xw_mark49 {we : Nat} {kc : Nat → Nat} {ks : Nat → Nat} {vs : Nat → Int32} {bl : Nat → Nat} {fr : Nat → Bool} {us : Nat → Bool} {mr : Nat → Nat} {ms : Nat → Nat} {mn : Nat → Nat} {mv : Nat → Bool} {ro : Nat → Nat} {sz : Nat → Nat} {nu : Nat → Nat} {wp : Nat → Nat} {wi : Nat → Nat} {post : SX → Prop} {J10 : Int32 → (Nat → Int32) → (Nat → Int32) → (Nat → Int32) → (Nat → Int32) → (Nat → Int32) → (Nat → Int32) → (Nat → Int32) → (Nat → Int32) → (Nat → Int32) → (Nat → Int32) → (Nat → Int32) → (Nat → Int32) → (Nat → Int32) → (Nat → Int32) → (Nat → Int32) → (Nat → Int32) → Prop} {x cnt : Nat} (hx : x < 100) (gs : gs_b kc ks) (hcap : cnt + kc x + 1 ≤ 100) : ∀ (d i : Nat) (wa : Nat → Nat), i + d = kc x + 1 →
    (∀ wa' : Nat → Nat, (∀ j, j < cnt + i → wa' j = wa j) → (∀ j, i ≤ j → j ≤ kc x → wa' (cnt + j) = bl (6 * x + j)) → J10 (nI (cnt + (kc x + 1))) (eu_N kc) (eu_N ks) vs (eu_P bl) (eu_B fr) (eu_B us) (eu_P mr) (eu_N ms) (eu_N mn) (eu_B mv) (eu_P ro) (eu_N sz) (eu_N nu) (eu_N wp) (eu_N wi) (eu_P wa')) →
    wX_markTree_49 post J10 (nI x) (nI we) (d + 1) (nI (cnt + i)) (nI i) (eu_N kc) (eu_N ks) vs (eu_P bl) (eu_B fr) (eu_B us) (eu_P mr) (eu_N ms) (eu_N mn) (eu_B mv) (eu_P ro) (eu_N sz) (eu_N nu) (eu_N wp) (eu_N wi) (eu_P wa) := by
  have h5 := gs.1 x
  intro d
  induction d with
  | zero =>
    intro i wa hi K
    rw [wX_markTree_49]
    simp (disch := omega) only [forall_eq, true_implies, false_implies, not_true_eq_false, not_false_eq_true, and_true, true_and, ea_0, ea_1, ea_2, ea_3, ea_4, ea_5, ea_6, ea_24, ea_99, ea_100, ea_300, ea_n1, ea_n2, pk_mul, nI_add, pk_sub, ea_m1, nI_clamp, eu_Nr, eu_Br, eu_Pr, eu_pn, eu_nb, eu_i8, eu_pb, eu_pi, eu_vb0, eu_vb1, eu_vbb, eu_Nu, eu_Pu, eu_Pun, eu_Bu, eu_Bu0, eu_Bu1, ea_inT, nI_leI, Nat.zero_le, nI_ltI, nI_eq, eu_pl, eu_pg, eu_p2, eu_b0]
    refine ⟨fun _ => ?_, fun h => absurd h (by omega)⟩
    rw [show i = kc x + 1 by omega]
    exact K wa (fun _ _ => rfl) (fun j h1 h2 => absurd h1 (by omega))
  | succ d ih =>
    intro i wa hi K
    rw [wX_markTree_49]
    simp (disch := omega) only [forall_eq, true_implies, false_implies, not_true_eq_false, not_false_eq_true, and_true, true_and, ea_0, ea_1, ea_2, ea_3, ea_4, ea_5, ea_6, ea_24, ea_99, ea_100, ea_300, ea_n1, ea_n2, pk_mul, nI_add, pk_sub, ea_m1, nI_clamp, eu_Nr, eu_Br, eu_Pr, eu_pn, eu_nb, eu_i8, eu_pb, eu_pi, eu_vb0, eu_vb1, eu_vbb, eu_Nu, eu_Pu, eu_Pun, eu_Bu, eu_Bu0, eu_Bu1, ea_inT, nI_leI, Nat.zero_le, nI_ltI, nI_eq, eu_pl, eu_pg, eu_p2, eu_b0]
    refine ⟨fun h => absurd h (by omega), fun _ => ?_⟩
    rw [Nat.add_assoc]
    refine ih (i + 1) (un_f wa (cnt + i) (bl (6 * x + i))) (by omega) (fun wa' h1 h2 => K wa' (fun j hj => (h1 j (by omega)).trans (un_n (by omega))) (fun j j1 j2 => ?_))
    by_cases e : j = i
    · subst e
      exact (h1 _ (by omega)).trans un_s
    · exact h2 j (by omega) j2
theorem xw_mark {we : Nat} {kc : Nat → Nat} {ks : Nat → Nat} {vs : Nat → Int32} {bl : Nat → Nat} {fr : Nat → Bool} {mr : Nat → Nat} {ms : Nat → Nat} {mn : Nat → Nat} {mv : Nat → Bool} {ro : Nat → Nat} {sz : Nat → Nat} {nu : Nat → Nat} {wp : Nat → Nat} {wi : Nat → Nat} {post : SX → Prop} (gs : gs_b kc ks) : ∀ (h c : Nat), tr_sh (gp_c kc ks vs bl) h c → ∀ (n cnt : Nat) (us : Nat → Bool) (wa : Nat → Nat), cnt + (tr_pg (gp_c kc ks vs bl) h c).length ≤ 100 → wa cnt = c →
    (∀ (us' : Nat → Bool) (wa' : Nat → Nat), (∀ q, us' q = true ↔ (us q = true ∨ q ∈ tr_pg (gp_c kc ks vs bl) h c)) → (∀ j, j < cnt → wa' j = wa j) → wX_markTree_10 post (nI we) n (nI cnt) (eu_N kc) (eu_N ks) vs (eu_P bl) (eu_B fr) (eu_B us') (eu_P mr) (eu_N ms) (eu_N mn) (eu_B mv) (eu_P ro) (eu_N sz) (eu_N nu) (eu_N wp) (eu_N wi) (eu_P wa')) →
    wX_markTree_10 post (nI we) (n + (tr_pg (gp_c kc ks vs bl) h c).length) (nI (cnt + 1)) (eu_N kc) (eu_N ks) vs (eu_P bl) (eu_B fr) (eu_B us) (eu_P mr) (eu_N ms) (eu_N mn) (eu_B mv) (eu_P ro) (eu_N sz) (eu_N nu) (eu_N wp) (eu_N wi) (eu_P wa) := by
  intro h
  induction h with
  | zero =>
    intro c hs n cnt us wa hcap hwa K
    obtain ⟨hc, hb⟩ := gp_leaf hs
    have hl : (tr_pg (gp_c kc ks vs bl) 0 c).length = 1 := rfl
    rw [hl] at hcap ⊢
    rw [wX_markTree_10]
    refine br_f (nI_nle (by omega) (by omega)) ?_
    simp (disch := omega) only [forall_eq, true_implies, false_implies, not_true_eq_false, not_false_eq_true, and_true, true_and, ea_0, ea_1, ea_2, ea_3, ea_4, ea_5, ea_6, ea_24, ea_99, ea_100, ea_300, ea_n1, ea_n2, pk_mul, nI_add, pk_sub, ea_m1, nI_clamp, eu_Nr, eu_Br, eu_Pr, eu_pn, eu_nb, eu_i8, eu_pb, eu_pi, eu_vb0, eu_vb1, eu_vbb, eu_Nu, eu_Pu, eu_Pun, eu_Bu, eu_Bu0, eu_Bu1, ea_inT, nI_leI, Nat.zero_le, nI_ltI, nI_eq, eu_pl, eu_pg, eu_p2, eu_b0, Nat.add_sub_cancel, hwa]
    refine ⟨fun h => absurd h (by omega), fun _ => ?_⟩
    refine K _ _ (fun q => ?_) (fun _ _ => rfl)
    show _ ↔ (_ ∨ q ∈ [c])
    rw [List.mem_singleton]
    by_cases e : q = c
    · subst e
      rw [un_s]
      simp
    · rw [un_n e]
      simp [e]
  | succ h ih =>
    intro c hs n cnt us wa hcap hwa K
    obtain ⟨hc, hb, hch⟩ := gp_node hs
    have h5 := gs.1 c
    have e2 : (gp_c kc ks vs bl c).2 = sg_l bl (6 * c) (kc c + 1) := gp_2 hb
    have epg : tr_pg (gp_c kc ks vs bl) (h + 1) c = c :: (sg_l bl (6 * c) (kc c + 1)).flatMap (tr_pg (gp_c kc ks vs bl) h) := by rw [← e2]; rfl
    rw [epg, List.length_cons] at hcap ⊢
    have hlow := fm_low (f := tr_pg (gp_c kc ks vs bl) h) (m := 1) (sg_l bl (6 * c) (kc c + 1)) (fun x _ => by rw [tr_pge, List.length_cons]; omega)
    rw [sg_len] at hlow
    -- all children but the first k are done
    have inner : ∀ (k n : Nat) (us : Nat → Bool) (wa : Nat → Nat), k ≤ kc c + 1 → (∀ j, j < k → wa (cnt + j) = bl (6 * c + j)) →
        (∀ (us' : Nat → Bool) (wa' : Nat → Nat), (∀ q, us' q = true ↔ (us q = true ∨ q ∈ (sg_l bl (6 * c) k).flatMap (tr_pg (gp_c kc ks vs bl) h))) → (∀ j, j < cnt → wa' j = wa j) → wX_markTree_10 post (nI we) n (nI cnt) (eu_N kc) (eu_N ks) vs (eu_P bl) (eu_B fr) (eu_B us') (eu_P mr) (eu_N ms) (eu_N mn) (eu_B mv) (eu_P ro) (eu_N sz) (eu_N nu) (eu_N wp) (eu_N wi) (eu_P wa')) →
        cnt + ((sg_l bl (6 * c) k).flatMap (tr_pg (gp_c kc ks vs bl) h)).length ≤ 100 →
        wX_markTree_10 post (nI we) (n + ((sg_l bl (6 * c) k).flatMap (tr_pg (gp_c kc ks vs bl) h)).length) (nI (cnt + k)) (eu_N kc) (eu_N ks) vs (eu_P bl) (eu_B fr) (eu_B us) (eu_P mr) (eu_N ms) (eu_N mn) (eu_B mv) (eu_P ro) (eu_N sz) (eu_N nu) (eu_N wp) (eu_N wi) (eu_P wa) := by
      intro k
      induction k with
      | zero =>
        intro n us wa _ _ K _
        exact K us wa (fun q => by show _ ↔ (_ ∨ q ∈ []); simp) (fun _ _ => rfl)
      | succ k ihk =>
        intro n us wa hk hw K hcap
        have es : (sg_l bl (6 * c) (k + 1)).flatMap (tr_pg (gp_c kc ks vs bl) h) = (sg_l bl (6 * c) k).flatMap (tr_pg (gp_c kc ks vs bl) h) ++ tr_pg (gp_c kc ks vs bl) h (bl (6 * c + k)) := by
          rw [sg_app, List.flatMap_append]
          show _ ++ (tr_pg (gp_c kc ks vs bl) h (bl (6 * c + k)) ++ []) = _
          rw [List.append_nil]
        rw [es, List.length_append] at hcap ⊢
        rw [← Nat.add_assoc n]
        have hlow := fm_low (f := tr_pg (gp_c kc ks vs bl) h) (m := 1) (sg_l bl (6 * c) k) (fun x _ => by rw [tr_pge, List.length_cons]; omega)
        rw [sg_len] at hlow
        refine ih (bl (6 * c + k)) (hch k (by omega)) _ (cnt + k) us wa (by omega) (hw k (by omega)) (fun us1 wa1 u1 w1 => ?_)
        refine ihk n us1 wa1 (by omega) (fun j hj => (w1 _ (by omega)).trans (hw j (by omega))) (fun us2 wa2 u2 w2 => ?_) (by omega)
        refine K us2 wa2 (fun q => ?_) (fun j hj => (w2 j hj).trans (w1 j (by omega)))
        rw [u2, u1, es, List.mem_append, or_assoc, or_comm (a := q ∈ tr_pg _ _ _)]
    rw [← Nat.add_assoc n]
    rw [wX_markTree_10]
    refine br_f (nI_nle (by omega) (by omega)) ?_
    simp (disch := omega) only [forall_eq, true_implies, false_implies, not_true_eq_false, not_false_eq_true, and_true, true_and, ea_0, ea_1, ea_2, ea_3, ea_4, ea_5, ea_6, ea_24, ea_99, ea_100, ea_300, ea_n1, ea_n2, pk_mul, nI_add, pk_sub, ea_m1, nI_clamp, eu_Nr, eu_Br, eu_Pr, eu_pn, eu_nb, eu_i8, eu_pb, eu_pi, eu_vb0, eu_vb1, eu_vbb, eu_Nu, eu_Pu, eu_Pun, eu_Bu, eu_Bu0, eu_Bu1, ea_inT, nI_leI, Nat.zero_le, nI_ltI, nI_eq, eu_pl, eu_pg, eu_p2, eu_b0, Nat.add_sub_cancel, hwa]
    refine ⟨fun _ => ⟨kc c + 1 + 1, ?_⟩, fun h => absurd h (by omega)⟩
    refine xw_mark49 (cnt := cnt) hc gs (by omega) (kc c + 1) 0 wa (by omega) (fun wa1 w1 w2 => ?_)
    refine inner (kc c + 1) n (un_f us c true) wa1 (by omega) (fun j hj => w2 j (by omega) (by omega)) (fun us2 wa2 u2 w3 => ?_) (by omega)
    refine K us2 wa2 (fun q => ?_) (fun j hj => (w3 j hj).trans (w1 j (by omega)))
    rw [u2, epg, List.mem_cons]
    by_cases e : q = c
    · subst e
      rw [un_s]
      simp
    · rw [un_n e]
      simp [e]
theorem xw_markTree {we : Nat} {kc : Nat → Nat} {ks : Nat → Nat} {vs : Nat → Int32} {bl : Nat → Nat} {fr : Nat → Bool} {us : Nat → Bool} {mr : Nat → Nat} {ms : Nat → Nat} {mn : Nat → Nat} {mv : Nat → Bool} {ro : Nat → Nat} {sz : Nat → Nat} {nu : Nat → Nat} {wp : Nat → Nat} {wi : Nat → Nat} {wa : Nat → Nat} {post : SX → Prop} {h c : Nat} (gs : gs_b kc ks) (hs : tr_sh (gp_c kc ks vs bl) h c) (hcap : (tr_pg (gp_c kc ks vs bl) h c).length ≤ 100)
    (K : ∀ (us' : Nat → Bool) (wa' : Nat → Nat), (∀ q, us' q = true ↔ (us q = true ∨ q ∈ tr_pg (gp_c kc ks vs bl) h c)) → post ((nI we), (eu_N kc), (eu_N ks), vs, (eu_P bl), (eu_B fr), (eu_B us'), (eu_P mr), (eu_N ms), (eu_N mn), (eu_B mv), (eu_P ro), (eu_N sz), (eu_N nu), (eu_N wp), (eu_N wi), (eu_P wa'))) : wpX_markTree post ((nI we), (eu_N kc), (eu_N ks), vs, (eu_P bl), (eu_B fr), (eu_B us), (eu_P mr), (eu_N ms), (eu_N mn), (eu_B mv), (eu_P ro), (eu_N sz), (eu_N nu), (eu_N wp), (eu_N wi), (eu_P wa)) (eu_p c) := by
  unfold wpX_markTree
  simp (disch := omega) only [forall_eq, eu_pi, eu_pb, eu_Pu]
  refine ⟨1 + (tr_pg (gp_c kc ks vs bl) h c).length, ?_⟩
  rw [show (1 : Int32) = nI (0 + 1) by decide +kernel]
  refine xw_mark gs h c hs 1 0 us (un_f wa 0 c) (by omega) un_s (fun us' wa' u1 _ => ?_)
  rw [wX_markTree_10]
  exact br_t (by decide +kernel) (K us' wa' u1)
/-- the live roots: readers 0 to 2, the writer 3, the two metas 4 and 5 -/
def rc_f (ro : Nat → Nat) (mv : Nat → Bool) (mr : Nat → Nat) (s : Nat) : Nat := if s < 4 then ro s else cond (mv (s - 4)) (mr (s - 4)) 101
def li_ok (g : Nat → pg_T) (hs rc : Nat → Nat) : Prop := ∀ s, s < 6 → rc s < 100 → tr_sh g (hs s) (rc s) ∧ (tr_pg g (hs s) (rc s)).length ≤ 100
end
section
/-! X's walks: what the trees use, a new page, a fresh copy -/
theorem rc_lo {ro : Nat → Nat} {mv : Nat → Bool} {mr : Nat → Nat} {s : Nat} (h : s < 4) : rc_f ro mv mr s = ro s := if_pos h
theorem rc_hi {ro : Nat → Nat} {mv : Nat → Bool} {mr : Nat → Nat} (s : Nat) : rc_f ro mv mr (4 + s) = cond (mv s) (mr s) 101 := by
  unfold rc_f
  rw [if_neg (by omega), show 4 + s - 4 = s by omega]
theorem xw_fu55 {we : Nat} {kc : Nat → Nat} {ks : Nat → Nat} {vs : Nat → Int32} {bl : Nat → Nat} {fr : Nat → Bool} {mr : Nat → Nat} {ms : Nat → Nat} {mn : Nat → Nat} {mv : Nat → Bool} {ro : Nat → Nat} {sz : Nat → Nat} {nu : Nat → Nat} {wp : Nat → Nat} {wi : Nat → Nat} {post : SX → Prop} {hs : Nat → Nat} (gs : gs_b kc ks) (lv : li_ok (gp_c kc ks vs bl) hs (rc_f ro mv mr))
    (K : ∀ (us' : Nat → Bool) (wa' : Nat → Nat), (∀ q, q < 100 → (us' q = true ↔ ∃ s, s < 6 ∧ rc_f ro mv mr s < 100 ∧ q ∈ tr_pg (gp_c kc ks vs bl) (hs s) (rc_f ro mv mr s))) → post ((nI we), (eu_N kc), (eu_N ks), vs, (eu_P bl), (eu_B fr), (eu_B us'), (eu_P mr), (eu_N ms), (eu_N mn), (eu_B mv), (eu_P ro), (eu_N sz), (eu_N nu), (eu_N wp), (eu_N wi), (eu_P wa'))) :
    ∀ (d i : Nat) (us : Nat → Bool) (wa : Nat → Nat), i + d = 2 → (∀ q, q < 100 → (us q = true ↔ ∃ s, s < 4 + i ∧ rc_f ro mv mr s < 100 ∧ q ∈ tr_pg (gp_c kc ks vs bl) (hs s) (rc_f ro mv mr s))) →
    wX_findUsed_55 post (d + 1) (nI i) (nI we) (eu_N kc) (eu_N ks) vs (eu_P bl) (eu_B fr) (eu_B us) (eu_P mr) (eu_N ms) (eu_N mn) (eu_B mv) (eu_P ro) (eu_N sz) (eu_N nu) (eu_N wp) (eu_N wi) (eu_P wa) := by
  intro d
  induction d with
  | zero =>
    intro i us wa hi hu
    rw [wX_findUsed_55]
    refine br_t ?_ (K us wa ?_)
    · rw [ea_2]; exact nI_le (by omega) (by omega)
    · rw [show 4 + i = 6 by omega] at hu
      exact hu
  | succ d ih =>
    intro i us wa hi hu
    have hr : rc_f ro mv mr (4 + i) = cond (mv i) (mr i) 101 := rc_hi i
    have skip : 100 ≤ rc_f ro mv mr (4 + i) → (∀ q, q < 100 → (us q = true ↔ ∃ s, s < 4 + (i + 1) ∧ rc_f ro mv mr s < 100 ∧ q ∈ tr_pg (gp_c kc ks vs bl) (hs s) (rc_f ro mv mr s))) := by
      intro h q hq
      rw [hu q hq]
      constructor
      · rintro ⟨s, h1, h2, h3⟩; exact ⟨s, by omega, h2, h3⟩
      · rintro ⟨s, h1, h2, h3⟩
        refine ⟨s, ?_, h2, h3⟩
        by_cases e : s = 4 + i
        · subst e; omega
        · omega
    rw [wX_findUsed_55]
    refine br_f (by rw [ea_2]; exact nI_ge (by omega) (by omega)) ?_
    simp (disch := omega) only [forall_eq, true_implies, false_implies, not_true_eq_false, not_false_eq_true, and_true, true_and, ea_0, ea_1, ea_2, ea_3, ea_4, ea_5, ea_6, ea_24, ea_99, ea_100, ea_300, ea_n1, ea_n2, pk_mul, nI_add, pk_sub, ea_m1, nI_clamp, eu_Nr, eu_Br, eu_Pr, eu_pn, eu_nb, eu_i8, eu_pb, eu_pi, eu_vb0, eu_vb1, eu_vbb, eu_Nu, eu_Pu, eu_Pun, eu_Bu, eu_Bu0, eu_Bu1, ea_inT, nI_leI, Nat.zero_le, nI_ltI, nI_eq, eu_pl, eu_pg, eu_p2, eu_b0]
    refine ⟨fun hv => ih (i + 1) us wa (by omega) (skip (by rw [hr, hv]; show 100 ≤ 101; omega)), fun hv => ⟨fun hm => ih (i + 1) us wa (by omega) (skip ?_), fun hm => ?_⟩⟩
    · rw [hr]; cases mv i
      · show 100 ≤ 101; omega
      · exact hm
    · have hv' : mv i = true := by cases h : mv i; exact absurd h hv; rfl
      have hr' : rc_f ro mv mr (4 + i) = mr i := by rw [hr, hv']; rfl
      have l := lv (4 + i) (by omega) (by rw [hr']; omega)
      rw [hr'] at l
      refine xw_markTree gs l.1 l.2 (fun us' wa' hu' => ?_)
      refine ih (i + 1) us' wa' (by omega) (fun q hq => ?_)
      rw [hu' q, hu q hq]
      constructor
      · rintro (⟨s, h1, h2, h3⟩ | h)
        · exact ⟨s, by omega, h2, h3⟩
        · exact ⟨4 + i, by omega, by rw [hr']; omega, by rw [hr']; exact h⟩
      · rintro ⟨s, h1, h2, h3⟩
        by_cases e : s = 4 + i
        · subst e; rw [hr'] at h3; exact Or.inr h3
        · exact Or.inl ⟨s, by omega, h2, h3⟩
theorem xw_fu23 {we : Nat} {kc : Nat → Nat} {ks : Nat → Nat} {vs : Nat → Int32} {bl : Nat → Nat} {fr : Nat → Bool} {mr : Nat → Nat} {ms : Nat → Nat} {mn : Nat → Nat} {mv : Nat → Bool} {ro : Nat → Nat} {sz : Nat → Nat} {nu : Nat → Nat} {wp : Nat → Nat} {wi : Nat → Nat} {post : SX → Prop} {hs : Nat → Nat} (gs : gs_b kc ks) (lv : li_ok (gp_c kc ks vs bl) hs (rc_f ro mv mr))
    (K : ∀ (us' : Nat → Bool) (wa' : Nat → Nat), (∀ q, q < 100 → (us' q = true ↔ ∃ s, s < 6 ∧ rc_f ro mv mr s < 100 ∧ q ∈ tr_pg (gp_c kc ks vs bl) (hs s) (rc_f ro mv mr s))) → post ((nI we), (eu_N kc), (eu_N ks), vs, (eu_P bl), (eu_B fr), (eu_B us'), (eu_P mr), (eu_N ms), (eu_N mn), (eu_B mv), (eu_P ro), (eu_N sz), (eu_N nu), (eu_N wp), (eu_N wi), (eu_P wa'))) :
    ∀ (d i : Nat) (us : Nat → Bool) (wa : Nat → Nat), i + d = 4 → (∀ q, q < 100 → (us q = true ↔ ∃ s, s < i ∧ rc_f ro mv mr s < 100 ∧ q ∈ tr_pg (gp_c kc ks vs bl) (hs s) (rc_f ro mv mr s))) →
    wX_findUsed_23 post (d + 1) (nI i) (nI we) (eu_N kc) (eu_N ks) vs (eu_P bl) (eu_B fr) (eu_B us) (eu_P mr) (eu_N ms) (eu_N mn) (eu_B mv) (eu_P ro) (eu_N sz) (eu_N nu) (eu_N wp) (eu_N wi) (eu_P wa) := by
  intro d
  induction d with
  | zero =>
    intro i us wa hi hu
    rw [wX_findUsed_23]
    refine br_t ?_ ⟨3, ?_⟩
    · rw [ea_4]; exact nI_le (by omega) (by omega)
    · rw [ea_0]
      refine xw_fu55 gs lv K 2 0 us wa (by omega) ?_
      rw [show i = 4 by omega] at hu
      exact hu
  | succ d ih =>
    intro i us wa hi hu
    have hr : rc_f ro mv mr i = ro i := rc_lo (by omega)
    rw [wX_findUsed_23]
    refine br_f (by rw [ea_4]; exact nI_ge (by omega) (by omega)) ?_
    simp (disch := omega) only [forall_eq, true_implies, false_implies, not_true_eq_false, not_false_eq_true, and_true, true_and, ea_0, ea_1, ea_2, ea_3, ea_4, ea_5, ea_6, ea_24, ea_99, ea_100, ea_300, ea_n1, ea_n2, pk_mul, nI_add, pk_sub, ea_m1, nI_clamp, eu_Nr, eu_Br, eu_Pr, eu_pn, eu_nb, eu_i8, eu_pb, eu_pi, eu_vb0, eu_vb1, eu_vbb, eu_Nu, eu_Pu, eu_Pun, eu_Bu, eu_Bu0, eu_Bu1, ea_inT, nI_leI, Nat.zero_le, nI_ltI, nI_eq, eu_pl, eu_pg, eu_p2, eu_b0]
    refine ⟨fun hm => ih (i + 1) us wa (by omega) (fun q hq => ?_), fun hm => ?_⟩
    · rw [hu q hq]
      constructor
      · rintro ⟨s, h1, h2, h3⟩; exact ⟨s, by omega, h2, h3⟩
      · rintro ⟨s, h1, h2, h3⟩
        refine ⟨s, ?_, h2, h3⟩
        by_cases e : s = i
        · subst e; omega
        · omega
    · have l := lv i (by omega) (by rw [hr]; omega)
      rw [hr] at l
      refine xw_markTree gs l.1 l.2 (fun us' wa' hu' => ?_)
      refine ih (i + 1) us' wa' (by omega) (fun q hq => ?_)
      rw [hu' q, hu q hq]
      constructor
      · rintro (⟨s, h1, h2, h3⟩ | h)
        · exact ⟨s, by omega, h2, h3⟩
        · exact ⟨i, by omega, by rw [hr]; omega, by rw [hr]; exact h⟩
      · rintro ⟨s, h1, h2, h3⟩
        by_cases e : s = i
        · subst e; rw [hr] at h3; exact Or.inr h3
        · exact Or.inl ⟨s, by omega, h2, h3⟩
theorem xw_fu2 {we : Nat} {kc : Nat → Nat} {ks : Nat → Nat} {vs : Nat → Int32} {bl : Nat → Nat} {fr : Nat → Bool} {mr : Nat → Nat} {ms : Nat → Nat} {mn : Nat → Nat} {mv : Nat → Bool} {ro : Nat → Nat} {sz : Nat → Nat} {nu : Nat → Nat} {wp : Nat → Nat} {wi : Nat → Nat} {wa : Nat → Nat} {post : SX → Prop} (K : ∀ (us' : Nat → Bool), (∀ q, q < 100 → us' q = false) → ∃ n, wX_findUsed_23 post n 0 (nI we) (eu_N kc) (eu_N ks) vs (eu_P bl) (eu_B fr) (eu_B us') (eu_P mr) (eu_N ms) (eu_N mn) (eu_B mv) (eu_P ro) (eu_N sz) (eu_N nu) (eu_N wp) (eu_N wi) (eu_P wa)) :
    ∀ (d i : Nat) (us : Nat → Bool), i + d = 100 → (∀ j, j < i → us j = false) → wX_findUsed_2 post (nI we) (d + 1) (nI i) (eu_N kc) (eu_N ks) vs (eu_P bl) (eu_B fr) (eu_B us) (eu_P mr) (eu_N ms) (eu_N mn) (eu_B mv) (eu_P ro) (eu_N sz) (eu_N nu) (eu_N wp) (eu_N wi) (eu_P wa) := by
  intro d
  induction d with
  | zero =>
    intro i us hi hu
    rw [wX_findUsed_2]
    refine br_t ?_ (K us (fun q hq => hu q (by omega)))
    rw [ea_100]; exact nI_le (by omega) (by omega)
  | succ d ih =>
    intro i us hi hu
    rw [wX_findUsed_2]
    refine br_f (by rw [ea_100]; exact nI_ge (by omega) (by omega)) ?_
    simp (disch := omega) only [forall_eq, true_implies, false_implies, not_true_eq_false, not_false_eq_true, and_true, true_and, ea_0, ea_1, ea_2, ea_3, ea_4, ea_5, ea_6, ea_24, ea_99, ea_100, ea_300, ea_n1, ea_n2, pk_mul, nI_add, pk_sub, ea_m1, nI_clamp, eu_Nr, eu_Br, eu_Pr, eu_pn, eu_nb, eu_i8, eu_pb, eu_pi, eu_vb0, eu_vb1, eu_vbb, eu_Nu, eu_Pu, eu_Pun, eu_Bu, eu_Bu0, eu_Bu1, ea_inT, nI_leI, Nat.zero_le, nI_ltI, nI_eq, eu_pl, eu_pg, eu_p2, eu_b0]
    refine ih (i + 1) _ (by omega) (fun j hj => ?_)
    by_cases e : j = i
    · subst e; exact un_s
    · rw [un_n e]; exact hu j (by omega)
theorem xw_findUsed {we : Nat} {kc : Nat → Nat} {ks : Nat → Nat} {vs : Nat → Int32} {bl : Nat → Nat} {fr : Nat → Bool} {us : Nat → Bool} {mr : Nat → Nat} {ms : Nat → Nat} {mn : Nat → Nat} {mv : Nat → Bool} {ro : Nat → Nat} {sz : Nat → Nat} {nu : Nat → Nat} {wp : Nat → Nat} {wi : Nat → Nat} {wa : Nat → Nat} {post : SX → Prop} {hs : Nat → Nat} (gs : gs_b kc ks) (lv : li_ok (gp_c kc ks vs bl) hs (rc_f ro mv mr))
    (K : ∀ (us' : Nat → Bool) (wa' : Nat → Nat), (∀ q, q < 100 → (us' q = true ↔ ∃ s, s < 6 ∧ rc_f ro mv mr s < 100 ∧ q ∈ tr_pg (gp_c kc ks vs bl) (hs s) (rc_f ro mv mr s))) → post ((nI we), (eu_N kc), (eu_N ks), vs, (eu_P bl), (eu_B fr), (eu_B us'), (eu_P mr), (eu_N ms), (eu_N mn), (eu_B mv), (eu_P ro), (eu_N sz), (eu_N nu), (eu_N wp), (eu_N wi), (eu_P wa'))) : wpX_findUsed post ((nI we), (eu_N kc), (eu_N ks), vs, (eu_P bl), (eu_B fr), (eu_B us), (eu_P mr), (eu_N ms), (eu_N mn), (eu_B mv), (eu_P ro), (eu_N sz), (eu_N nu), (eu_N wp), (eu_N wi), (eu_P wa)) := by
  unfold wpX_findUsed
  dsimp only
  refine ⟨101, ?_⟩
  rw [ea_0]
  refine xw_fu2 (fun us' hu => ⟨5, ?_⟩) 100 0 us (by omega) (fun j hj => absurd hj (by omega))
  rw [ea_0]
  refine xw_fu23 gs lv K 4 0 us' wa (by omega) (fun q hq => ?_)
  rw [hu q hq]
  exact ⟨fun h => (nomatch h), fun ⟨s, h, _⟩ => absurd h (by omega)⟩
theorem xw_np36 {we : Nat} {kc : Nat → Nat} {ks : Nat → Nat} {vs : Nat → Int32} {bl : Nat → Nat} {fr : Nat → Bool} {us : Nat → Bool} {mr : Nat → Nat} {ms : Nat → Nat} {mn : Nat → Nat} {mv : Nat → Bool} {ro : Nat → Nat} {sz : Nat → Nat} {nu : Nat → Nat} {wp : Nat → Nat} {wi : Nat → Nat} {wa : Nat → Nat} {post : Int32 → SX → Prop} {x : Nat} (hx : x < 100) (h : post (nI x) ((nI we), (eu_N (un_f kc x 0)), (eu_N ks), vs, (eu_P (un_f bl (6 * x) 100)), (eu_B (un_f fr x true)), (eu_B us), (eu_P mr), (eu_N ms), (eu_N mn), (eu_B mv), (eu_P ro), (eu_N sz), (eu_N nu), (eu_N wp), (eu_N wi), (eu_P wa))) : wX_newPage_36 post (nI x) (nI we) (eu_N kc) (eu_N ks) vs (eu_P bl) (eu_B fr) (eu_B us) (eu_P mr) (eu_N ms) (eu_N mn) (eu_B mv) (eu_P ro) (eu_N sz) (eu_N nu) (eu_N wp) (eu_N wi) (eu_P wa) := by
  unfold wX_newPage_36
  simp (disch := omega) only [forall_eq, true_implies, false_implies, not_true_eq_false, not_false_eq_true, and_true, true_and, ea_0, ea_1, ea_2, ea_3, ea_4, ea_5, ea_6, ea_24, ea_99, ea_100, ea_300, ea_n1, ea_n2, pk_mul, nI_add, pk_sub, ea_m1, nI_clamp, eu_Nr, eu_Br, eu_Pr, eu_pn, eu_nb, eu_i8, eu_pb, eu_pi, eu_vb0, eu_vb1, eu_vbb, eu_Nu, eu_Pu, eu_Pun, eu_Bu, eu_Bu0, eu_Bu1, ea_inT, nI_leI, Nat.zero_le, nI_ltI, nI_eq, eu_pl, eu_pg, eu_p2, eu_b0]
  exact h
theorem xw_np6 {we : Nat} {kc : Nat → Nat} {ks : Nat → Nat} {vs : Nat → Int32} {bl : Nat → Nat} {fr : Nat → Bool} {us : Nat → Bool} {mr : Nat → Nat} {ms : Nat → Nat} {mn : Nat → Nat} {mv : Nat → Bool} {ro : Nat → Nat} {sz : Nat → Nat} {nu : Nat → Nat} {wp : Nat → Nat} {wi : Nat → Nat} {wa : Nat → Nat} {post : Int32 → SX → Prop} {z : Nat} (hz : z < 99) (z1 : us z = false) (z2 : fr z = false) (K : ∀ x, x < 100 → us x = false → fr x = false → wX_newPage_36 post (nI x) (nI we) (eu_N kc) (eu_N ks) vs (eu_P bl) (eu_B fr) (eu_B us) (eu_P mr) (eu_N ms) (eu_N mn) (eu_B mv) (eu_P ro) (eu_N sz) (eu_N nu) (eu_N wp) (eu_N wi) (eu_P wa)) :
    ∀ d i, i + d = z → wX_newPage_6 post (nI we) (eu_N kc) (eu_N ks) vs (eu_P bl) (eu_B fr) (eu_B us) (eu_P mr) (eu_N ms) (eu_N mn) (eu_B mv) (eu_P ro) (eu_N sz) (eu_N nu) (eu_N wp) (eu_N wi) (eu_P wa) (d + 1) (nI i) := by
  intro d
  induction d with
  | zero =>
    intro i hi
    have e : i = z := by omega
    subst e
    rw [wX_newPage_6]
    refine br_f (by rw [ea_99]; exact nI_ge (by omega) (by omega)) ?_
    simp (disch := omega) only [forall_eq, true_implies, false_implies, not_true_eq_false, not_false_eq_true, and_true, true_and, ea_0, ea_1, ea_2, ea_3, ea_4, ea_5, ea_6, ea_24, ea_99, ea_100, ea_300, ea_n1, ea_n2, pk_mul, nI_add, pk_sub, ea_m1, nI_clamp, eu_Nr, eu_Br, eu_Pr, eu_pn, eu_nb, eu_i8, eu_pb, eu_pi, eu_vb0, eu_vb1, eu_vbb, eu_Nu, eu_Pu, eu_Pun, eu_Bu, eu_Bu0, eu_Bu1, ea_inT, nI_leI, Nat.zero_le, nI_ltI, nI_eq, eu_pl, eu_pg, eu_p2, eu_b0, z1, z2]
    exact K i (by omega) z1 z2
  | succ d ih =>
    intro i hi
    rw [wX_newPage_6]
    refine br_f (by rw [ea_99]; exact nI_ge (by omega) (by omega)) ?_
    simp (disch := omega) only [forall_eq, true_implies, false_implies, not_true_eq_false, not_false_eq_true, and_true, true_and, ea_0, ea_1, ea_2, ea_3, ea_4, ea_5, ea_6, ea_24, ea_99, ea_100, ea_300, ea_n1, ea_n2, pk_mul, nI_add, pk_sub, ea_m1, nI_clamp, eu_Nr, eu_Br, eu_Pr, eu_pn, eu_nb, eu_i8, eu_pb, eu_pi, eu_vb0, eu_vb1, eu_vbb, eu_Nu, eu_Pu, eu_Pun, eu_Bu, eu_Bu0, eu_Bu1, ea_inT, nI_leI, Nat.zero_le, nI_ltI, nI_eq, eu_pl, eu_pg, eu_p2, eu_b0]
    exact ⟨fun h1 => ⟨fun h2 => K i (by omega) h1 h2, fun _ => ih (i + 1) (by omega)⟩, fun _ => ih (i + 1) (by omega)⟩
theorem xw_newPage {we : Nat} {kc : Nat → Nat} {ks : Nat → Nat} {vs : Nat → Int32} {bl : Nat → Nat} {fr : Nat → Bool} {us : Nat → Bool} {mr : Nat → Nat} {ms : Nat → Nat} {mn : Nat → Nat} {mv : Nat → Bool} {ro : Nat → Nat} {sz : Nat → Nat} {nu : Nat → Nat} {wp : Nat → Nat} {wi : Nat → Nat} {wa : Nat → Nat} {post : Int32 → SX → Prop} {hs : Nat → Nat} {L : List Nat} (gs : gs_b kc ks) (lv : li_ok (gp_c kc ks vs bl) hs (rc_f ro mv mr)) (hL : L.length ≤ 98)
    (h1 : ∀ s, s < 6 → rc_f ro mv mr s < 100 → ∀ q, q ∈ tr_pg (gp_c kc ks vs bl) (hs s) (rc_f ro mv mr s) → q ∈ L) (h2 : ∀ q, q < 100 → fr q = true → q ∈ L)
    (K : ∀ (x : Nat) (us' : Nat → Bool) (wa' : Nat → Nat), x < 100 → fr x = false → (∀ s, s < 6 → rc_f ro mv mr s < 100 → x ∉ tr_pg (gp_c kc ks vs bl) (hs s) (rc_f ro mv mr s)) →
      post (nI x) ((nI we), (eu_N (un_f kc x 0)), (eu_N ks), vs, (eu_P (un_f bl (6 * x) 100)), (eu_B (un_f fr x true)), (eu_B us'), (eu_P mr), (eu_N ms), (eu_N mn), (eu_B mv), (eu_P ro), (eu_N sz), (eu_N nu), (eu_N wp), (eu_N wi), (eu_P wa'))) : wpX_newPage post ((nI we), (eu_N kc), (eu_N ks), vs, (eu_P bl), (eu_B fr), (eu_B us), (eu_P mr), (eu_N ms), (eu_N mn), (eu_B mv), (eu_P ro), (eu_N sz), (eu_N nu), (eu_N wp), (eu_N wi), (eu_P wa)) := by
  unfold wpX_newPage
  dsimp only
  refine xw_findUsed gs lv (fun us' wa' hu => ?_)
  dsimp only
  obtain ⟨z, hz, hz'⟩ := ls_room hL
  have z1 : us' z = false := by
    cases h : us' z
    · rfl
    · obtain ⟨s, a, b, c⟩ := (hu z (by omega)).mp h
      exact absurd (h1 s a b z c) hz'
  have z2 : fr z = false := by
    cases h : fr z
    · rfl
    · exact absurd (h2 z (by omega) h) hz'
  refine ⟨z + 1, ?_⟩
  rw [ea_0]
  refine xw_np6 hz z1 z2 (fun x hx x1 x2 => xw_np36 hx (K x us' wa' hx x2 (fun s a b c => ?_))) z 0 (by omega)
  have := (hu x hx).mpr ⟨s, a, b, c⟩
  rw [x1] at this
  exact (nomatch this)
theorem xw_fc83 {we : Nat} {kc : Nat → Nat} {ks : Nat → Nat} {vs : Nat → Int32} {fr : Nat → Bool} {us : Nat → Bool} {mr : Nat → Nat} {ms : Nat → Nat} {mn : Nat → Nat} {mv : Nat → Bool} {ro : Nat → Nat} {sz : Nat → Nat} {nu : Nat → Nat} {wp : Nat → Nat} {wi : Nat → Nat} {wa : Nat → Nat} {post : Int32 → SX → Prop} {x c : Nat} (hx : x < 100) (hc : c < 100) (hxc : x ≠ c) : ∀ (d i : Nat) (bl : Nat → Nat), i + d = 6 →
    (∀ bl' : Nat → Nat, (∀ t, i ≤ t → t < 6 → bl' (6 * c + t) = bl (6 * x + t)) → (∀ j, (j < 6 * c + i ∨ 6 * c + 6 ≤ j) → bl' j = bl j) → post (nI c) ((nI we), (eu_N kc), (eu_N ks), vs, (eu_P bl'), (eu_B fr), (eu_B us), (eu_P mr), (eu_N ms), (eu_N mn), (eu_B mv), (eu_P ro), (eu_N sz), (eu_N nu), (eu_N wp), (eu_N wi), (eu_P wa))) →
    wX_freshCopy_83 post (nI x) (nI c) (nI we) (d + 1) (nI i) (eu_N kc) (eu_N ks) vs (eu_P bl) (eu_B fr) (eu_B us) (eu_P mr) (eu_N ms) (eu_N mn) (eu_B mv) (eu_P ro) (eu_N sz) (eu_N nu) (eu_N wp) (eu_N wi) (eu_P wa) := by
  intro d
  induction d with
  | zero =>
    intro i bl hi K
    rw [wX_freshCopy_83]
    refine br_t ?_ (K bl (fun t h1 h2 => absurd h1 (by omega)) (fun _ _ => rfl))
    rw [ea_6]; exact nI_le (by omega) (by omega)
  | succ d ih =>
    intro i bl hi K
    rw [wX_freshCopy_83]
    refine br_f (by rw [ea_6]; exact nI_ge (by omega) (by omega)) ?_
    simp (disch := omega) only [forall_eq, true_implies, false_implies, not_true_eq_false, not_false_eq_true, and_true, true_and, ea_0, ea_1, ea_2, ea_3, ea_4, ea_5, ea_6, ea_24, ea_99, ea_100, ea_300, ea_n1, ea_n2, pk_mul, nI_add, pk_sub, ea_m1, nI_clamp, eu_Nr, eu_Br, eu_Pr, eu_pn, eu_nb, eu_i8, eu_pb, eu_pi, eu_vb0, eu_vb1, eu_vbb, eu_Nu, eu_Pu, eu_Pun, eu_Bu, eu_Bu0, eu_Bu1, ea_inT, nI_leI, Nat.zero_le, nI_ltI, nI_eq, eu_pl, eu_pg, eu_p2, eu_b0]
    refine ih (i + 1) _ (by omega) (fun bl' b1 b2 => K bl' (fun t h1 h2 => ?_) (fun j hj => (b2 j (by omega)).trans (un_n (by omega))))
    by_cases e : t = i
    · subst e
      exact (b2 _ (by omega)).trans un_s
    · exact (b1 t (by omega) h2).trans (un_n (by omega))
theorem xw_fc30 {we : Nat} {kc : Nat → Nat} {bl : Nat → Nat} {fr : Nat → Bool} {us : Nat → Bool} {mr : Nat → Nat} {ms : Nat → Nat} {mn : Nat → Nat} {mv : Nat → Bool} {ro : Nat → Nat} {sz : Nat → Nat} {nu : Nat → Nat} {wp : Nat → Nat} {wi : Nat → Nat} {wa : Nat → Nat} {post : Int32 → SX → Prop} {x c : Nat} (hx : x < 100) (hc : c < 100) (hxc : x ≠ c) : ∀ (d i : Nat) (ks : Nat → Nat) (vs : Nat → Int32), i + d = 5 → (∀ j, ks j < 100) →
    (∀ (ks' : Nat → Nat) (vs' : Nat → Int32), (∀ j, ks' j < 100) → (∀ t, i ≤ t → t < 5 → ks' (5 * c + t) = ks (5 * x + t) ∧ vs' (5 * c + t) = vs (5 * x + t)) → (∀ j, (j < 5 * c + i ∨ 5 * c + 5 ≤ j) → ks' j = ks j ∧ vs' j = vs j) → ∃ n, wX_freshCopy_83 post (nI x) (nI c) (nI we) n 0 (eu_N kc) (eu_N ks') vs' (eu_P bl) (eu_B fr) (eu_B us) (eu_P mr) (eu_N ms) (eu_N mn) (eu_B mv) (eu_P ro) (eu_N sz) (eu_N nu) (eu_N wp) (eu_N wi) (eu_P wa)) →
    wX_freshCopy_30 post (nI x) (nI c) (nI we) (d + 1) (nI i) (eu_N kc) (eu_N ks) vs (eu_P bl) (eu_B fr) (eu_B us) (eu_P mr) (eu_N ms) (eu_N mn) (eu_B mv) (eu_P ro) (eu_N sz) (eu_N nu) (eu_N wp) (eu_N wi) (eu_P wa) := by
  intro d
  induction d with
  | zero =>
    intro i ks vs hi hk K
    rw [wX_freshCopy_30]
    refine br_t ?_ (K ks vs hk (fun t h1 h2 => absurd h1 (by omega)) (fun _ _ => ⟨rfl, rfl⟩))
    rw [ea_5]; exact nI_le (by omega) (by omega)
  | succ d ih =>
    intro i ks vs hi hk K
    have h100 := hk (5 * x + i)
    rw [wX_freshCopy_30]
    refine br_f (by rw [ea_5]; exact nI_ge (by omega) (by omega)) ?_
    simp (disch := omega) only [forall_eq, true_implies, false_implies, not_true_eq_false, not_false_eq_true, and_true, true_and, ea_0, ea_1, ea_2, ea_3, ea_4, ea_5, ea_6, ea_24, ea_99, ea_100, ea_300, ea_n1, ea_n2, pk_mul, nI_add, pk_sub, ea_m1, nI_clamp, eu_Nr, eu_Br, eu_Pr, eu_pn, eu_nb, eu_i8, eu_pb, eu_pi, eu_vb0, eu_vb1, eu_vbb, eu_Nu, eu_Pu, eu_Pun, eu_Bu, eu_Bu0, eu_Bu1, ea_inT, nI_leI, Nat.zero_le, nI_ltI, nI_eq, eu_pl, eu_pg, eu_p2, eu_b0]
    refine ih (i + 1) _ _ (by omega) (fun j => ?_) (fun ks' vs' hk' b1 b2 => K ks' vs' hk' (fun t h1 h2 => ?_) (fun j hj => ⟨(b2 j (by omega)).1.trans (un_n (by omega)), (b2 j (by omega)).2.trans (pk_un (by omega))⟩))
    · by_cases e : j = 5 * c + i
      · rw [e, un_s]; exact h100
      · rw [un_n e]; exact hk j
    · by_cases e : t = i
      · subst e
        exact ⟨(b2 _ (by omega)).1.trans un_s, (b2 _ (by omega)).2.trans pk_us⟩
      · exact ⟨(b1 t (by omega) h2).1.trans (un_n (by omega)), (b1 t (by omega) h2).2.trans (pk_un (by omega))⟩
theorem xw_freshCopy {we : Nat} {kc : Nat → Nat} {ks : Nat → Nat} {vs : Nat → Int32} {bl : Nat → Nat} {fr : Nat → Bool} {us : Nat → Bool} {mr : Nat → Nat} {ms : Nat → Nat} {mn : Nat → Nat} {mv : Nat → Bool} {ro : Nat → Nat} {sz : Nat → Nat} {nu : Nat → Nat} {wp : Nat → Nat} {wi : Nat → Nat} {wa : Nat → Nat} {post : Int32 → SX → Prop} {hs : Nat → Nat} {L : List Nat} {x : Nat} (gs : gs_b kc ks) (lv : li_ok (gp_c kc ks vs bl) hs (rc_f ro mv mr)) (hL : L.length ≤ 98)
    (h1 : ∀ s, s < 6 → rc_f ro mv mr s < 100 → ∀ q, q ∈ tr_pg (gp_c kc ks vs bl) (hs s) (rc_f ro mv mr s) → q ∈ L) (h2 : ∀ q, q < 100 → fr q = true → q ∈ L)
    (hx : x < 100) (hx2 : fr x = true ∨ ∃ s, s < 6 ∧ rc_f ro mv mr s < 100 ∧ x ∈ tr_pg (gp_c kc ks vs bl) (hs s) (rc_f ro mv mr s))
    (K0 : fr x = true → post (nI x) ((nI we), (eu_N kc), (eu_N ks), vs, (eu_P bl), (eu_B fr), (eu_B us), (eu_P mr), (eu_N ms), (eu_N mn), (eu_B mv), (eu_P ro), (eu_N sz), (eu_N nu), (eu_N wp), (eu_N wi), (eu_P wa)))
    (K : fr x = false → ∀ (c : Nat) (kc' ks' : Nat → Nat) (vs' : Nat → Int32) (bl' : Nat → Nat) (us' : Nat → Bool) (wa' : Nat → Nat), c < 100 → fr c = false → (∀ s, s < 6 → rc_f ro mv mr s < 100 → c ∉ tr_pg (gp_c kc ks vs bl) (hs s) (rc_f ro mv mr s)) →
      gs_b kc' ks' → gp_c kc' ks' vs' bl' c = gp_c kc ks vs bl x → (∀ q, q ≠ c → gp_c kc' ks' vs' bl' q = gp_c kc ks vs bl q) →
      post (nI c) ((nI we), (eu_N kc'), (eu_N ks'), vs', (eu_P bl'), (eu_B (un_f fr c true)), (eu_B us'), (eu_P mr), (eu_N ms), (eu_N mn), (eu_B mv), (eu_P ro), (eu_N sz), (eu_N nu), (eu_N wp), (eu_N wi), (eu_P wa'))) : wpX_freshCopy post ((nI we), (eu_N kc), (eu_N ks), vs, (eu_P bl), (eu_B fr), (eu_B us), (eu_P mr), (eu_N ms), (eu_N mn), (eu_B mv), (eu_P ro), (eu_N sz), (eu_N nu), (eu_N wp), (eu_N wi), (eu_P wa)) (nI x) := by
  unfold wpX_freshCopy
  simp (disch := omega) only [forall_eq, true_and, nI_clamp, eu_Br, ea_0, ea_inT, eu_b0]
  refine ⟨fun hf => ?_, fun hf => K0 (by cases h : fr x; exact absurd h hf; rfl)⟩
  refine xw_newPage gs lv hL h1 h2 (fun c us' wa' hc fc nc => ?_)
  dsimp only
  have hxc : x ≠ c := by
    intro e
    rcases hx2 with h | ⟨s, a, b, d⟩
    · rw [hf] at h; exact (nomatch h)
    · exact nc s a b (e ▸ d)
  have h5 := gs.1 x
  simp (disch := omega) only [forall_eq, true_implies, false_implies, not_true_eq_false, not_false_eq_true, and_true, true_and, ea_0, ea_1, ea_2, ea_3, ea_4, ea_5, ea_6, ea_24, ea_99, ea_100, ea_300, ea_n1, ea_n2, pk_mul, nI_add, pk_sub, ea_m1, nI_clamp, eu_Nr, eu_Br, eu_Pr, eu_pn, eu_nb, eu_i8, eu_pb, eu_pi, eu_vb0, eu_vb1, eu_vbb, eu_Nu, eu_Pu, eu_Pun, eu_Bu, eu_Bu0, eu_Bu1, ea_inT, nI_leI, Nat.zero_le, nI_ltI, nI_eq, eu_pl, eu_pg, eu_p2, eu_b0, un_n hxc]
  refine ⟨6, ?_⟩
  refine xw_fc30 hx hc hxc 5 0 ks vs (by omega) gs.2 (fun ks' vs' hk' k1 k2 => ⟨7, ?_⟩)
  rw [ea_0]
  refine xw_fc83 hx hc hxc 6 0 (un_f bl (6 * c) 100) (by omega) (fun bl' b1 b2 => ?_)
  refine K hf c _ _ _ _ us' wa' hc fc nc ⟨fun p => ?_, hk'⟩ ?_ (fun q hq => ?_)
  · by_cases e : p = c
    · rw [e, un_s]; exact h5
    · rw [un_n e, un_n e]; exact gs.1 p
  · refine gp_eq un_s (fun i hi => k1 i (by omega) (by omega)) (fun i hi => (b1 i (by omega) (by omega)).trans (un_n (by omega)))
  · refine gp_eq ((un_n hq).trans (un_n hq)) (fun i hi => k2 _ ?_) (fun i hi => (b2 _ ?_).trans (un_n ?_))
    · have := gs.1 q; omega
    · have := gs.1 q; omega
    · have := gs.1 q; omega
end
section
/-! X's walks: opening and closing a place in a page -/
theorem xw_putAt {we : Nat} {kc : Nat → Nat} {ks : Nat → Nat} {vs : Nat → Int32} {bl : Nat → Nat} {fr : Nat → Bool} {us : Nat → Bool} {mr : Nat → Nat} {ms : Nat → Nat} {mn : Nat → Nat} {mv : Nat → Bool} {ro : Nat → Nat} {sz : Nat → Nat} {nu : Nat → Nat} {wp : Nat → Nat} {wi : Nat → Nat} {wa : Nat → Nat} {post : SX → Prop} {x i key : Nat} {v : Int32} (hx : x < 100) (hi : i < 5) (hk : key < 128) (h : post ((nI we), (eu_N kc), (eu_N (un_f ks (5 * x + i) key)), (upd vs (5 * x + i) v), (eu_P bl), (eu_B fr), (eu_B us), (eu_P mr), (eu_N ms), (eu_N mn), (eu_B mv), (eu_P ro), (eu_N sz), (eu_N nu), (eu_N wp), (eu_N wi), (eu_P wa))) : wpX_putAt post ((nI we), (eu_N kc), (eu_N ks), vs, (eu_P bl), (eu_B fr), (eu_B us), (eu_P mr), (eu_N ms), (eu_N mn), (eu_B mv), (eu_P ro), (eu_N sz), (eu_N nu), (eu_N wp), (eu_N wi), (eu_P wa)) (nI x) (nI i) (nI key) v := by
  unfold wpX_putAt
  simp (disch := omega) only [forall_eq, true_implies, false_implies, not_true_eq_false, not_false_eq_true, and_true, true_and, ea_0, ea_1, ea_2, ea_3, ea_4, ea_5, ea_6, ea_24, ea_99, ea_100, ea_300, ea_n1, ea_n2, pk_mul, nI_add, pk_sub, ea_m1, nI_clamp, eu_Nr, eu_Br, eu_Pr, eu_pn, eu_nb, eu_i8, eu_pb, eu_pi, eu_vb0, eu_vb1, eu_vbb, eu_Nu, eu_Pu, eu_Pun, eu_Bu, eu_Bu0, eu_Bu1, ea_inT, nI_leI, Nat.zero_le, nI_ltI, nI_eq, eu_pl, eu_pg, eu_p2, eu_b0]
  exact h
theorem xw_op7 {we : Nat} {kc : Nat → Nat} {bl : Nat → Nat} {fr : Nat → Bool} {us : Nat → Bool} {mr : Nat → Nat} {ms : Nat → Nat} {mn : Nat → Nat} {mv : Nat → Bool} {ro : Nat → Nat} {sz : Nat → Nat} {nu : Nat → Nat} {wp : Nat → Nat} {wi : Nat → Nat} {wa : Nat → Nat} {post : SX → Prop} {x i : Nat} (hx : x < 100) (h4 : kc x ≤ 4) : ∀ (d : Nat) (ks : Nat → Nat) (vs : Nat → Int32), i + d ≤ kc x → (∀ j, ks j < 100) →
    (∀ (ks' : Nat → Nat) (vs' : Nat → Int32), (∀ j, ks' j < 100) → (∀ t, i < t → t ≤ i + d → ks' (5 * x + t) = ks (5 * x + (t - 1)) ∧ vs' (5 * x + t) = vs (5 * x + (t - 1))) → (∀ j, (j ≤ 5 * x + i ∨ 5 * x + (i + d) < j) → ks' j = ks j ∧ vs' j = vs j) → post ((nI we), (eu_N (un_f kc x (kc x + 1))), (eu_N ks'), vs', (eu_P bl), (eu_B fr), (eu_B us), (eu_P mr), (eu_N ms), (eu_N mn), (eu_B mv), (eu_P ro), (eu_N sz), (eu_N nu), (eu_N wp), (eu_N wi), (eu_P wa))) →
    wX_openPlace_7 post (nI x) (nI i) (nI we) (d + 1) (nI (i + d)) (eu_N kc) (eu_N ks) vs (eu_P bl) (eu_B fr) (eu_B us) (eu_P mr) (eu_N ms) (eu_N mn) (eu_B mv) (eu_P ro) (eu_N sz) (eu_N nu) (eu_N wp) (eu_N wi) (eu_P wa) := by
  intro d
  induction d with
  | zero =>
    intro ks vs hd hk K
    rw [wX_openPlace_7]
    refine br_t (nI_le (by omega) (by omega)) ?_
    simp (disch := omega) only [forall_eq, true_implies, false_implies, not_true_eq_false, not_false_eq_true, and_true, true_and, ea_0, ea_1, ea_2, ea_3, ea_4, ea_5, ea_6, ea_24, ea_99, ea_100, ea_300, ea_n1, ea_n2, pk_mul, nI_add, pk_sub, ea_m1, nI_clamp, eu_Nr, eu_Br, eu_Pr, eu_pn, eu_nb, eu_i8, eu_pb, eu_pi, eu_vb0, eu_vb1, eu_vbb, eu_Nu, eu_Pu, eu_Pun, eu_Bu, eu_Bu0, eu_Bu1, ea_inT, nI_leI, Nat.zero_le, nI_ltI, nI_eq, eu_pl, eu_pg, eu_p2, eu_b0]
    exact K ks vs hk (fun t h1 h2 => absurd h1 (by omega)) (fun _ _ => ⟨rfl, rfl⟩)
  | succ d ih =>
    intro ks vs hd hk K
    have h100 := hk (5 * x + (i + (d + 1)) - 1)
    rw [wX_openPlace_7]
    refine br_f (nI_ge (by omega) (by omega)) ?_
    simp (disch := omega) only [forall_eq, true_implies, false_implies, not_true_eq_false, not_false_eq_true, and_true, true_and, ea_0, ea_1, ea_2, ea_3, ea_4, ea_5, ea_6, ea_24, ea_99, ea_100, ea_300, ea_n1, ea_n2, pk_mul, nI_add, pk_sub, ea_m1, nI_clamp, eu_Nr, eu_Br, eu_Pr, eu_pn, eu_nb, eu_i8, eu_pb, eu_pi, eu_vb0, eu_vb1, eu_vbb, eu_Nu, eu_Pu, eu_Pun, eu_Bu, eu_Bu0, eu_Bu1, ea_inT, nI_leI, Nat.zero_le, nI_ltI, nI_eq, eu_pl, eu_pg, eu_p2, eu_b0]
    rw [show i + (d + 1) - 1 = i + d by omega]
    refine ih _ _ (by omega) (fun j => ?_) (fun ks' vs' hk' b1 b2 => K ks' vs' hk' (fun t h1 h2 => ?_) (fun j hj => ⟨(b2 j (by omega)).1.trans (un_n (by omega)), (b2 j (by omega)).2.trans (pk_un (by omega))⟩))
    · by_cases e : j = 5 * x + (i + (d + 1))
      · rw [e, un_s]; exact h100
      · rw [un_n e]; exact hk j
    · by_cases e : t = i + (d + 1)
      · subst e
        rw [show 5 * x + (i + (d + 1) - 1) = 5 * x + (i + (d + 1)) - 1 by omega]
        exact ⟨(b2 _ (by omega)).1.trans un_s, (b2 _ (by omega)).2.trans pk_us⟩
      · exact ⟨(b1 t h1 (by omega)).1.trans (un_n (by omega)), (b1 t h1 (by omega)).2.trans (pk_un (by omega))⟩
theorem xw_openPlace {we : Nat} {kc : Nat → Nat} {ks : Nat → Nat} {vs : Nat → Int32} {bl : Nat → Nat} {fr : Nat → Bool} {us : Nat → Bool} {mr : Nat → Nat} {ms : Nat → Nat} {mn : Nat → Nat} {mv : Nat → Bool} {ro : Nat → Nat} {sz : Nat → Nat} {nu : Nat → Nat} {wp : Nat → Nat} {wi : Nat → Nat} {wa : Nat → Nat} {post : SX → Prop} {x i : Nat} (hx : x < 100) (h4 : kc x ≤ 4) (hi : i ≤ kc x) (hk : ∀ j, ks j < 100)
    (K : ∀ (ks' : Nat → Nat) (vs' : Nat → Int32), (∀ j, ks' j < 100) → (∀ t, i < t → t ≤ kc x → ks' (5 * x + t) = ks (5 * x + (t - 1)) ∧ vs' (5 * x + t) = vs (5 * x + (t - 1))) → (∀ j, (j ≤ 5 * x + i ∨ 5 * x + kc x < j) → ks' j = ks j ∧ vs' j = vs j) → post ((nI we), (eu_N (un_f kc x (kc x + 1))), (eu_N ks'), vs', (eu_P bl), (eu_B fr), (eu_B us), (eu_P mr), (eu_N ms), (eu_N mn), (eu_B mv), (eu_P ro), (eu_N sz), (eu_N nu), (eu_N wp), (eu_N wi), (eu_P wa))) : wpX_openPlace post ((nI we), (eu_N kc), (eu_N ks), vs, (eu_P bl), (eu_B fr), (eu_B us), (eu_P mr), (eu_N ms), (eu_N mn), (eu_B mv), (eu_P ro), (eu_N sz), (eu_N nu), (eu_N wp), (eu_N wi), (eu_P wa)) (nI x) (nI i) := by
  unfold wpX_openPlace
  simp (disch := omega) only [forall_eq, true_implies, false_implies, not_true_eq_false, not_false_eq_true, and_true, true_and, ea_0, ea_1, ea_2, ea_3, ea_4, ea_5, ea_6, ea_24, ea_99, ea_100, ea_300, ea_n1, ea_n2, pk_mul, nI_add, pk_sub, ea_m1, nI_clamp, eu_Nr, eu_Br, eu_Pr, eu_pn, eu_nb, eu_i8, eu_pb, eu_pi, eu_vb0, eu_vb1, eu_vbb, eu_Nu, eu_Pu, eu_Pun, eu_Bu, eu_Bu0, eu_Bu1, ea_inT, nI_leI, Nat.zero_le, nI_ltI, nI_eq, eu_pl, eu_pg, eu_p2, eu_b0]
  refine ⟨kc x - i + 1, ?_⟩
  have e : kc x = i + (kc x - i) := by omega
  have h := xw_op7 (we := we) (kc := kc) (bl := bl) (fr := fr) (us := us) (mr := mr) (ms := ms) (mn := mn) (mv := mv) (ro := ro) (sz := sz) (nu := nu) (wp := wp) (wi := wi) (wa := wa) (post := post) (i := i) hx h4 (kc x - i) ks vs (by omega) hk (by rw [← e]; exact K)
  rw [← e] at h
  exact h
theorem xw_cp13 {we : Nat} {kc : Nat → Nat} {bl : Nat → Nat} {fr : Nat → Bool} {us : Nat → Bool} {mr : Nat → Nat} {ms : Nat → Nat} {mn : Nat → Nat} {mv : Nat → Bool} {ro : Nat → Nat} {sz : Nat → Nat} {nu : Nat → Nat} {wp : Nat → Nat} {wi : Nat → Nat} {wa : Nat → Nat} {post : SX → Prop} {x : Nat} (hx : x < 100) (h4 : kc x ≤ 4) : ∀ (d i : Nat) (ks : Nat → Nat) (vs : Nat → Int32), i + d = kc x → (∀ j, ks j < 100) →
    (∀ (ks' : Nat → Nat) (vs' : Nat → Int32), (∀ j, ks' j < 100) → (∀ t, i ≤ t → t < kc x → ks' (5 * x + t) = ks (5 * x + t + 1) ∧ vs' (5 * x + t) = vs (5 * x + t + 1)) → (∀ j, (j < 5 * x + i ∨ 5 * x + kc x ≤ j) → ks' j = ks j ∧ vs' j = vs j) → post ((nI we), (eu_N kc), (eu_N ks'), vs', (eu_P bl), (eu_B fr), (eu_B us), (eu_P mr), (eu_N ms), (eu_N mn), (eu_B mv), (eu_P ro), (eu_N sz), (eu_N nu), (eu_N wp), (eu_N wi), (eu_P wa))) →
    wX_closePlace_13 post (nI x) (nI we) (d + 1) (nI i) (eu_N kc) (eu_N ks) vs (eu_P bl) (eu_B fr) (eu_B us) (eu_P mr) (eu_N ms) (eu_N mn) (eu_B mv) (eu_P ro) (eu_N sz) (eu_N nu) (eu_N wp) (eu_N wi) (eu_P wa) := by
  intro d
  induction d with
  | zero =>
    intro i ks vs hd hk K
    rw [wX_closePlace_13]
    refine ⟨vp_in_nI hx (by omega), br_t ?_ (K ks vs hk (fun t h1 h2 => absurd h1 (by omega)) (fun _ _ => ⟨rfl, rfl⟩))⟩
    rw [nI_clamp (by omega)]
    exact nI_le (by omega) (by omega)
  | succ d ih =>
    intro i ks vs hd hk K
    have h100 := hk (5 * x + i + 1)
    rw [wX_closePlace_13]
    refine ⟨vp_in_nI hx (by omega), br_f ?_ ?_⟩
    · rw [nI_clamp (by omega)]
      exact nI_ge (by omega) (by omega)
    simp (disch := omega) only [forall_eq, true_implies, false_implies, not_true_eq_false, not_false_eq_true, and_true, true_and, ea_0, ea_1, ea_2, ea_3, ea_4, ea_5, ea_6, ea_24, ea_99, ea_100, ea_300, ea_n1, ea_n2, pk_mul, nI_add, pk_sub, ea_m1, nI_clamp, eu_Nr, eu_Br, eu_Pr, eu_pn, eu_nb, eu_i8, eu_pb, eu_pi, eu_vb0, eu_vb1, eu_vbb, eu_Nu, eu_Pu, eu_Pun, eu_Bu, eu_Bu0, eu_Bu1, ea_inT, nI_leI, Nat.zero_le, nI_ltI, nI_eq, eu_pl, eu_pg, eu_p2, eu_b0]
    refine ih (i + 1) _ _ (by omega) (fun j => ?_) (fun ks' vs' hk' b1 b2 => K ks' vs' hk' (fun t h1 h2 => ?_) (fun j hj => ⟨(b2 j (by omega)).1.trans (un_n (by omega)), (b2 j (by omega)).2.trans (pk_un (by omega))⟩))
    · by_cases e : j = 5 * x + i
      · rw [e, un_s]; exact h100
      · rw [un_n e]; exact hk j
    · by_cases e : t = i
      · subst e
        exact ⟨(b2 _ (by omega)).1.trans un_s, (b2 _ (by omega)).2.trans pk_us⟩
      · exact ⟨(b1 t (by omega) h2).1.trans (un_n (by omega)), (b1 t (by omega) h2).2.trans (pk_un (by omega))⟩
theorem xw_closePlace {we : Nat} {kc : Nat → Nat} {ks : Nat → Nat} {vs : Nat → Int32} {bl : Nat → Nat} {fr : Nat → Bool} {us : Nat → Bool} {mr : Nat → Nat} {ms : Nat → Nat} {mn : Nat → Nat} {mv : Nat → Bool} {ro : Nat → Nat} {sz : Nat → Nat} {nu : Nat → Nat} {wp : Nat → Nat} {wi : Nat → Nat} {wa : Nat → Nat} {post : SX → Prop} {x i n : Nat} (hx : x < 100) (hn : kc x = n + 1) (h4 : n ≤ 4) (hi : i ≤ n) (hk : ∀ j, ks j < 100)
    (K : ∀ (ks' : Nat → Nat) (vs' : Nat → Int32), (∀ j, ks' j < 100) → (∀ t, i ≤ t → t < n → ks' (5 * x + t) = ks (5 * x + t + 1) ∧ vs' (5 * x + t) = vs (5 * x + t + 1)) → (∀ j, (j < 5 * x + i ∨ 5 * x + n ≤ j) → ks' j = ks j ∧ vs' j = vs j) → post ((nI we), (eu_N (un_f kc x n)), (eu_N ks'), vs', (eu_P bl), (eu_B fr), (eu_B us), (eu_P mr), (eu_N ms), (eu_N mn), (eu_B mv), (eu_P ro), (eu_N sz), (eu_N nu), (eu_N wp), (eu_N wi), (eu_P wa))) : wpX_closePlace post ((nI we), (eu_N kc), (eu_N ks), vs, (eu_P bl), (eu_B fr), (eu_B us), (eu_P mr), (eu_N ms), (eu_N mn), (eu_B mv), (eu_P ro), (eu_N sz), (eu_N nu), (eu_N wp), (eu_N wi), (eu_P wa)) (nI x) (nI i) := by
  unfold wpX_closePlace
  simp (disch := omega) only [forall_eq, true_implies, false_implies, not_true_eq_false, not_false_eq_true, and_true, true_and, ea_0, ea_1, ea_2, ea_3, ea_4, ea_5, ea_6, ea_24, ea_99, ea_100, ea_300, ea_n1, ea_n2, pk_mul, nI_add, pk_sub, ea_m1, nI_clamp, eu_Nr, eu_Br, eu_Pr, eu_pn, eu_nb, eu_i8, eu_pb, eu_pi, eu_vb0, eu_vb1, eu_vbb, eu_Nu, eu_Pu, eu_Pun, eu_Bu, eu_Bu0, eu_Bu1, ea_inT, nI_leI, Nat.zero_le, nI_ltI, nI_eq, eu_pl, eu_pg, eu_p2, eu_b0, hn, Nat.add_sub_cancel]
  refine ⟨n - i + 1, ?_⟩
  have e : un_f kc x n x = n := un_s
  refine xw_cp13 hx (by rw [e]; exact h4) (n - i) i ks vs (by rw [e]; omega) hk ?_
  rw [e]
  exact K
end
section
/-! X's walk: splitting a page of five keys -/
theorem xw_sp15 {we : Nat} {kc : Nat → Nat} {bl : Nat → Nat} {fr : Nat → Bool} {us : Nat → Bool} {mr : Nat → Nat} {ms : Nat → Nat} {mn : Nat → Nat} {mv : Nat → Bool} {ro : Nat → Nat} {sz : Nat → Nat} {nu : Nat → Nat} {wp : Nat → Nat} {wi : Nat → Nat} {wa : Nat → Nat} {post : SX → Prop} {l x y : Nat} (hx : x < 100) (hy : y < 100) (hxy : y ≠ x) : ∀ (d k : Nat) (ks : Nat → Nat) (vs : Nat → Int32), k + d = 2 → (∀ j, ks j < 100) →
    (∀ (ks' : Nat → Nat) (vs' : Nat → Int32), (∀ j, ks' j < 100) → (∀ t, k ≤ t → t < 2 → ks' (5 * y + t) = ks (5 * x + 3 + t) ∧ vs' (5 * y + t) = vs (5 * x + 3 + t)) → (∀ j, (j < 5 * y + k ∨ 5 * y + 2 ≤ j) → ks' j = ks j ∧ vs' j = vs j) → wX_split_15 post (nI l) (nI x) (nI y) (0 + 1) (nI 2) (nI we) (eu_N kc) (eu_N ks') vs' (eu_P bl) (eu_B fr) (eu_B us) (eu_P mr) (eu_N ms) (eu_N mn) (eu_B mv) (eu_P ro) (eu_N sz) (eu_N nu) (eu_N wp) (eu_N wi) (eu_P wa)) →
    wX_split_15 post (nI l) (nI x) (nI y) (d + 1) (nI k) (nI we) (eu_N kc) (eu_N ks) vs (eu_P bl) (eu_B fr) (eu_B us) (eu_P mr) (eu_N ms) (eu_N mn) (eu_B mv) (eu_P ro) (eu_N sz) (eu_N nu) (eu_N wp) (eu_N wi) (eu_P wa) := by
  intro d
  induction d with
  | zero =>
    intro k ks vs hd hk K
    have e : k = 2 := by omega
    subst e
    exact K ks vs hk (fun t h1 h2 => absurd h1 (by omega)) (fun _ _ => ⟨rfl, rfl⟩)
  | succ d ih =>
    intro k ks vs hd hk K
    have h100 := hk (5 * x + 3 + k)
    rw [wX_split_15]
    refine br_f (by rw [ea_2]; exact nI_ge (by omega) (by omega)) ?_
    simp (disch := omega) only [forall_eq, true_implies, false_implies, not_true_eq_false, not_false_eq_true, and_true, true_and, ea_0, ea_1, ea_2, ea_3, ea_4, ea_5, ea_6, ea_24, ea_99, ea_100, ea_300, ea_n1, ea_n2, pk_mul, nI_add, pk_sub, ea_m1, nI_clamp, eu_Nr, eu_Br, eu_Pr, eu_pn, eu_nb, eu_i8, eu_pb, eu_pi, eu_vb0, eu_vb1, eu_vbb, eu_Nu, eu_Pu, eu_Pun, eu_Bu, eu_Bu0, eu_Bu1, ea_inT, nI_leI, Nat.zero_le, nI_ltI, nI_eq, eu_pl, eu_pg, eu_p2, eu_b0]
    refine xw_putAt hy (by omega) (by omega) ?_
    dsimp only
    refine ih (k + 1) _ _ (by omega) (fun j => ?_) (fun ks' vs' hk' b1 b2 => K ks' vs' hk' (fun t h1 h2 => ?_) (fun j hj => ⟨(b2 j (by omega)).1.trans (un_n (by omega)), (b2 j (by omega)).2.trans (pk_un (by omega))⟩))
    · by_cases e : j = 5 * y + k
      · rw [e, un_s]; exact h100
      · rw [un_n e]; exact hk j
    · by_cases e : t = k
      · subst e
        exact ⟨(b2 _ (by omega)).1.trans un_s, (b2 _ (by omega)).2.trans pk_us⟩
      · exact ⟨(b1 t (by omega) h2).1.trans (un_n (by omega)), (b1 t (by omega) h2).2.trans (pk_un (by omega))⟩
theorem xw_sp71 {we : Nat} {kc : Nat → Nat} {ks : Nat → Nat} {vs : Nat → Int32} {fr : Nat → Bool} {us : Nat → Bool} {mr : Nat → Nat} {ms : Nat → Nat} {mn : Nat → Nat} {mv : Nat → Bool} {ro : Nat → Nat} {sz : Nat → Nat} {nu : Nat → Nat} {wp : Nat → Nat} {wi : Nat → Nat} {wa : Nat → Nat} {post : SX → Prop} {l x y : Nat} (hx : x < 100) (hy : y < 100) (hxy : y ≠ x) : ∀ (d k : Nat) (bl : Nat → Nat), k + d = 3 →
    (∀ (bl' : Nat → Nat), (∀ t, k ≤ t → t < 3 → bl' (6 * y + t) = bl (6 * x + 3 + t)) → (∀ j, (j < 6 * y + k ∨ 6 * y + 3 ≤ j) → bl' j = bl j) → wX_split_109 post (nI l) (nI x) (nI y) (nI we) (eu_N kc) (eu_N ks) vs (eu_P bl') (eu_B fr) (eu_B us) (eu_P mr) (eu_N ms) (eu_N mn) (eu_B mv) (eu_P ro) (eu_N sz) (eu_N nu) (eu_N wp) (eu_N wi) (eu_P wa)) →
    wX_split_71 post (nI l) (nI x) (nI y) (nI we) (d + 1) (nI k) (eu_N kc) (eu_N ks) vs (eu_P bl) (eu_B fr) (eu_B us) (eu_P mr) (eu_N ms) (eu_N mn) (eu_B mv) (eu_P ro) (eu_N sz) (eu_N nu) (eu_N wp) (eu_N wi) (eu_P wa) := by
  intro d
  induction d with
  | zero =>
    intro k bl hd K
    rw [wX_split_71]
    refine br_t ?_ (K bl (fun t h1 h2 => absurd h1 (by omega)) (fun _ _ => rfl))
    rw [ea_3]; exact nI_le (by omega) (by omega)
  | succ d ih =>
    intro k bl hd K
    rw [wX_split_71]
    refine br_f (by rw [ea_3]; exact nI_ge (by omega) (by omega)) ?_
    simp (disch := omega) only [forall_eq, true_implies, false_implies, not_true_eq_false, not_false_eq_true, and_true, true_and, ea_0, ea_1, ea_2, ea_3, ea_4, ea_5, ea_6, ea_24, ea_99, ea_100, ea_300, ea_n1, ea_n2, pk_mul, nI_add, pk_sub, ea_m1, nI_clamp, eu_Nr, eu_Br, eu_Pr, eu_pn, eu_nb, eu_i8, eu_pb, eu_pi, eu_vb0, eu_vb1, eu_vbb, eu_Nu, eu_Pu, eu_Pun, eu_Bu, eu_Bu0, eu_Bu1, ea_inT, nI_leI, Nat.zero_le, nI_ltI, nI_eq, eu_pl, eu_pg, eu_p2, eu_b0]
    refine ih (k + 1) _ (by omega) (fun bl' b1 b2 => K bl' (fun t h1 h2 => ?_) (fun j hj => (b2 j (by omega)).trans (un_n (by omega))))
    by_cases e : t = k
    · subst e
      exact (b2 _ (by omega)).trans un_s
    · exact (b1 t (by omega) h2).trans (un_n (by omega))
theorem xw_split_pre {we : Nat} {kc : Nat → Nat} {ks : Nat → Nat} {vs : Nat → Int32} {bl : Nat → Nat} {fr : Nat → Bool} {us : Nat → Bool} {mr : Nat → Nat} {ms : Nat → Nat} {mn : Nat → Nat} {mv : Nat → Bool} {ro : Nat → Nat} {sz : Nat → Nat} {nu : Nat → Nat} {wp : Nat → Nat} {wi : Nat → Nat} {wa : Nat → Nat} {post : SX → Prop} {hs : Nat → Nat} {L : List Nat} {l x : Nat} (gs : gs_b kc ks) (lv : li_ok (gp_c kc ks vs bl) hs (rc_f ro mv mr)) (hL : L.length ≤ 98)
    (h1 : ∀ s, s < 6 → rc_f ro mv mr s < 100 → ∀ q, q ∈ tr_pg (gp_c kc ks vs bl) (hs s) (rc_f ro mv mr s) → q ∈ L) (h2 : ∀ q, q < 100 → fr q = true → q ∈ L)
    (hl : l < 8) (hx : x < 100) (hwp : wp l = x) (hfx : fr x = true)
    (K : ∀ (y : Nat) (ks1 : Nat → Nat) (vs1 : Nat → Int32) (bl1 : Nat → Nat) (us' : Nat → Bool) (wa' : Nat → Nat), y < 100 → fr y = false → (∀ s, s < 6 → rc_f ro mv mr s < 100 → y ∉ tr_pg (gp_c kc ks vs bl) (hs s) (rc_f ro mv mr s)) → (∀ j, ks1 j < 100) →
      (∀ t, t < 2 → ks1 (5 * y + t) = ks (5 * x + 3 + t) ∧ vs1 (5 * y + t) = vs (5 * x + 3 + t)) → (∀ j, (j < 5 * y ∨ 5 * y + 2 ≤ j) → ks1 j = ks j ∧ vs1 j = vs j) →
      (bl (6 * x) < 100 → ∀ t, t < 3 → bl1 (6 * y + t) = bl (6 * x + 3 + t)) → (100 ≤ bl (6 * x) → bl1 (6 * y) = 100) → (∀ j, (j < 6 * y ∨ 6 * y + 3 ≤ j) → bl1 j = bl j) →
      wX_split_109 post (nI l) (nI x) (nI y) (nI we) (eu_N (un_f kc y 0)) (eu_N ks1) vs1 (eu_P bl1) (eu_B (un_f fr y true)) (eu_B us') (eu_P mr) (eu_N ms) (eu_N mn) (eu_B mv) (eu_P ro) (eu_N sz) (eu_N nu) (eu_N wp) (eu_N wi) (eu_P wa')) : wpX_split post ((nI we), (eu_N kc), (eu_N ks), vs, (eu_P bl), (eu_B fr), (eu_B us), (eu_P mr), (eu_N ms), (eu_N mn), (eu_B mv), (eu_P ro), (eu_N sz), (eu_N nu), (eu_N wp), (eu_N wi), (eu_P wa)) (nI l) := by
  unfold wpX_split
  simp (disch := omega) only [forall_eq, true_and, nI_clamp, eu_Nr, ea_inT, hwp]
  refine xw_newPage gs lv hL h1 h2 (fun y us' wa' hy fy ny => ?_)
  dsimp only
  have hxy : y ≠ x := by
    intro e
    rw [e, hfx] at fy
    exact (nomatch fy)
  refine ⟨3, ?_⟩
  rw [ea_0]
  refine xw_sp15 hx hy hxy 2 0 ks vs (by omega) gs.2 (fun ks1 vs1 hk1 k1 k2 => ?_)
  rw [wX_split_15]
  refine br_t (by decide +kernel) ?_
  have eb : un_f bl (6 * y) 100 (6 * x) = bl (6 * x) := un_n (by omega)
  refine xw_isLeaf hx (fun hb => ?_) (fun hb => ?_)
  · rw [eb] at hb
    refine br_t rfl ⟨4, ?_⟩
    rw [ea_0]
    refine xw_sp71 hx hy hxy 3 0 _ (by omega) (fun bl1 b1 b2 => ?_)
    exact K y ks1 vs1 bl1 us' wa' hy fy ny hk1 (fun t ht => k1 t (by omega) ht) (fun j hj => k2 j (by omega)) (fun _ t ht => (b1 t (by omega) ht).trans (un_n (by omega))) (fun h => absurd h (by omega)) (fun j hj => (b2 j (by omega)).trans (un_n (by omega)))
  · rw [eb] at hb
    refine br_f (by decide) ?_
    exact K y ks1 vs1 _ us' wa' hy fy ny hk1 (fun t ht => k1 t (by omega) ht) (fun j hj => k2 j (by omega)) (fun h => absurd h (by omega)) (fun _ => un_s) (fun j hj => un_n (by omega))
/-- the contents once both pages have two keys -/
theorem sp_cont {kc ks ks1 : Nat → Nat} {vs vs1 : Nat → Int32} {bl bl1 : Nat → Nat} {x y : Nat} (gs : ∀ p, kc p ≤ 5) (hxy : y ≠ x)
    (k1 : ∀ t, t < 2 → ks1 (5 * y + t) = ks (5 * x + 3 + t) ∧ vs1 (5 * y + t) = vs (5 * x + 3 + t)) (k2 : ∀ j, (j < 5 * y ∨ 5 * y + 2 ≤ j) → ks1 j = ks j ∧ vs1 j = vs j)
    (b1 : bl (6 * x) < 100 → ∀ t, t < 3 → bl1 (6 * y + t) = bl (6 * x + 3 + t)) (b2 : 100 ≤ bl (6 * x) → bl1 (6 * y) = 100) (b3 : ∀ j, (j < 6 * y ∨ 6 * y + 3 ≤ j) → bl1 j = bl j)
    (hch : bl (6 * x) < 100 → bl (6 * x + 3) < 100) (kc2 : Nat → Nat) (e2 : kc2 = un_f (un_f (un_f kc y 0) y 2) x 2) :
    gp_c kc2 ks1 vs1 bl1 x = (sg_l (fun j => (ks j, vs j)) (5 * x) 2, if bl (6 * x) < 100 then sg_l bl (6 * x) 3 else []) ∧
    gp_c kc2 ks1 vs1 bl1 y = (sg_l (fun j => (ks j, vs j)) (5 * x + 3) 2, if bl (6 * x) < 100 then sg_l bl (6 * x + 3) 3 else []) ∧
    ∀ q, q ≠ x → q ≠ y → gp_c kc2 ks1 vs1 bl1 q = gp_c kc ks vs bl q := by
  have ex : kc2 x = 2 := by rw [e2]; exact un_s
  have ey : kc2 y = 2 := by rw [e2, un_n hxy]; exact un_s
  refine ⟨?_, ?_, fun q h1 h2 => ?_⟩
  · unfold gp_c
    rw [ex]
    refine Prod.ext ?_ ?_
    · exact sg_kv (fun i hi => k2 _ (by omega))
    · dsimp only
      rw [show bl1 (6 * x) = bl (6 * x) from b3 _ (by omega)]
      split
      · exact sg_cong _ _ _ (fun i hi => b3 _ (by omega))
      · rfl
  · unfold gp_c
    rw [ey]
    refine Prod.ext ?_ ?_
    · exact sg_kv (fun i hi => k1 i hi)
    · dsimp only
      by_cases hb : bl (6 * x) < 100
      · have h3 := b1 hb 0 (by omega)
        rw [if_pos hb, if_pos (by rw [show bl1 (6 * y) = bl (6 * x + 3) from h3]; exact hch hb)]
        exact sg_cong _ _ _ (fun i hi => b1 hb i (by omega))
      · rw [if_neg hb, if_neg (by rw [b2 (by omega)]; omega)]
  · have h5 := gs q
    refine gp_eq (by rw [e2, un_n h1, un_n h2, un_n h2]) (fun i hi => k2 _ (by omega)) (fun i hi => b3 _ (by omega))
theorem xw_sp174l {we : Nat} {kc : Nat → Nat} {ks : Nat → Nat} {vs : Nat → Int32} {fr : Nat → Bool} {us : Nat → Bool} {mr : Nat → Nat} {ms : Nat → Nat} {mn : Nat → Nat} {mv : Nat → Bool} {ro : Nat → Nat} {sz : Nat → Nat} {nu : Nat → Nat} {wp : Nat → Nat} {wi : Nat → Nat} {wa : Nat → Nat} {post : SX → Prop} {x y a i n : Nat} (ha : a < 100) (h4 : n ≤ 4) : ∀ (d : Nat) (bl : Nat → Nat), i + d ≤ n →
    (∀ (bl' : Nat → Nat), (∀ t, i + 1 < t → t ≤ i + 1 + d → bl' (6 * a + t) = bl (6 * a + (t - 1))) → (∀ j, (j ≤ 6 * a + i + 1 ∨ 6 * a + (i + 1 + d) < j) → bl' j = bl j) → wX_split_174 post (nI x) (nI y) (nI a) (nI i) (nI we) (0 + 1) (nI (i + 1)) (eu_N kc) (eu_N ks) vs (eu_P bl') (eu_B fr) (eu_B us) (eu_P mr) (eu_N ms) (eu_N mn) (eu_B mv) (eu_P ro) (eu_N sz) (eu_N nu) (eu_N wp) (eu_N wi) (eu_P wa)) →
    wX_split_174 post (nI x) (nI y) (nI a) (nI i) (nI we) (d + 1) (nI (i + 1 + d)) (eu_N kc) (eu_N ks) vs (eu_P bl) (eu_B fr) (eu_B us) (eu_P mr) (eu_N ms) (eu_N mn) (eu_B mv) (eu_P ro) (eu_N sz) (eu_N nu) (eu_N wp) (eu_N wi) (eu_P wa) := by
  intro d
  induction d with
  | zero =>
    intro bl hd K
    exact K bl (fun t h1 h2 => absurd h1 (by omega)) (fun _ _ => rfl)
  | succ d ih =>
    intro bl hd K
    rw [wX_split_174]
    refine br_f (by rw [nI_1]; exact nI_ge (by omega) (by omega)) ?_
    simp (disch := omega) only [forall_eq, true_implies, false_implies, not_true_eq_false, not_false_eq_true, and_true, true_and, ea_0, ea_1, ea_2, ea_3, ea_4, ea_5, ea_6, ea_24, ea_99, ea_100, ea_300, ea_n1, ea_n2, pk_mul, nI_add, pk_sub, ea_m1, nI_clamp, eu_Nr, eu_Br, eu_Pr, eu_pn, eu_nb, eu_i8, eu_pb, eu_pi, eu_vb0, eu_vb1, eu_vbb, eu_Nu, eu_Pu, eu_Pun, eu_Bu, eu_Bu0, eu_Bu1, ea_inT, nI_leI, Nat.zero_le, nI_ltI, nI_eq, eu_pl, eu_pg, eu_p2, eu_b0]
    rw [show i + 1 + (d + 1) - 1 = i + 1 + d by omega]
    refine ih _ (by omega) (fun bl' b1 b2 => K bl' (fun t h1 h2 => ?_) (fun j hj => (b2 j (by omega)).trans (un_n (by omega))))
    by_cases e : t = i + 1 + (d + 1)
    · subst e
      rw [show 6 * a + (i + 1 + (d + 1) - 1) = 6 * a + (i + 1 + (d + 1)) - 1 by omega]
      exact (b2 _ (by omega)).trans un_s
    · exact (b1 t h1 (by omega)).trans (un_n (by omega))
theorem xw_sp174 {we : Nat} {kc : Nat → Nat} {ks : Nat → Nat} {vs : Nat → Int32} {bl : Nat → Nat} {fr : Nat → Bool} {us : Nat → Bool} {mr : Nat → Nat} {ms : Nat → Nat} {mn : Nat → Nat} {mv : Nat → Bool} {ro : Nat → Nat} {sz : Nat → Nat} {nu : Nat → Nat} {wp : Nat → Nat} {wi : Nat → Nat} {wa : Nat → Nat} {post : SX → Prop} {x y a i n : Nat} (gs : gs_b kc ks) (hx : x < 100) (hy : y < 100) (ha : a < 100) (hxa : x ≠ a) (hn : kc a = n) (h4 : n ≤ 4) (hi : i ≤ n) (hb : bl (6 * a) < 100)
    (K : ∀ (kc' ks' : Nat → Nat) (vs' : Nat → Int32) (bl' : Nat → Nat), gs_b kc' ks' →
      gp_c kc' ks' vs' bl' a = (sg_l (fun j => (ks j, vs j)) (5 * a) i ++ (ks (5 * x + 2), vs (5 * x + 2)) :: sg_l (fun j => (ks j, vs j)) (5 * a + i) (n - i), sg_l bl (6 * a) (i + 1) ++ y :: sg_l bl (6 * a + (i + 1)) (n - i)) →
      (∀ q, q ≠ a → gp_c kc' ks' vs' bl' q = gp_c kc ks vs bl q) → post ((nI we), (eu_N kc'), (eu_N ks'), vs', (eu_P bl'), (eu_B fr), (eu_B us), (eu_P mr), (eu_N ms), (eu_N mn), (eu_B mv), (eu_P ro), (eu_N sz), (eu_N nu), (eu_N wp), (eu_N wi), (eu_P wa))) :
    wX_split_174 post (nI x) (nI y) (nI a) (nI i) (nI we) (n - i + 1) (nI (n + 1)) (eu_N kc) (eu_N ks) vs (eu_P bl) (eu_B fr) (eu_B us) (eu_P mr) (eu_N ms) (eu_N mn) (eu_B mv) (eu_P ro) (eu_N sz) (eu_N nu) (eu_N wp) (eu_N wi) (eu_P wa) := by
  have h := xw_sp174l (we := we) (kc := kc) (ks := ks) (vs := vs) (fr := fr) (us := us) (mr := mr) (ms := ms) (mn := mn) (mv := mv) (ro := ro) (sz := sz) (nu := nu) (wp := wp) (wi := wi) (wa := wa) (post := post) (x := x) (y := y) (i := i) ha h4 (n - i) bl (by omega) (fun bl1 b1 b2 => ?_)
  · rw [show i + 1 + (n - i) = n + 1 by omega] at h
    exact h
  · have hk2 := gs.2 (5 * x + 2)
    rw [wX_split_174]
    refine br_t (by rw [nI_1]; exact nI_le (by omega) (by omega)) ?_
    refine xw_openPlace ha (by omega) (by omega) gs.2 (fun ks1 vs1 hk1 k1 k2 => ?_)
    dsimp only
    have e1 := k2 (5 * x + 2) (by omega)
    have hk3 := hk1 (5 * x + 2)
    simp (disch := omega) only [forall_eq, true_and, ea_2, ea_5, pk_mul, nI_add, nI_clamp, ea_inT, eu_Nr]
    refine xw_putAt ha (by omega) (by omega) ?_
    dsimp only
    simp (disch := omega) only [forall_eq, true_implies, false_implies, not_true_eq_false, not_false_eq_true, and_true, true_and, ea_0, ea_1, ea_2, ea_3, ea_4, ea_5, ea_6, ea_24, ea_99, ea_100, ea_300, ea_n1, ea_n2, pk_mul, nI_add, pk_sub, ea_m1, nI_clamp, eu_Nr, eu_Br, eu_Pr, eu_pn, eu_nb, eu_i8, eu_pb, eu_pi, eu_vb0, eu_vb1, eu_vbb, eu_Nu, eu_Pu, eu_Pun, eu_Bu, eu_Bu0, eu_Bu1, ea_inT, nI_leI, Nat.zero_le, nI_ltI, nI_eq, eu_pl, eu_pg, eu_p2, eu_b0]
    refine K _ _ _ _ ⟨fun p => ?_, fun j => ?_⟩ ?_ (fun q hq => ?_)
    · by_cases e : p = a
      · rw [e, un_s]; omega
      · rw [un_n e]; exact gs.1 p
    · by_cases e : j = 5 * a + i
      · rw [e, un_s]; exact hk3
      · rw [un_n e]; exact hk1 j
    · unfold gp_c
      rw [un_s, hn]
      refine Prod.ext ?_ ?_
      · dsimp only
        rw [sg_mid (i := i) _ _ (by omega)]
        refine congr (congrArg _ ?_) (congr (congrArg _ ?_) ?_)
        · refine sg_cong _ _ _ (fun t ht => Prod.ext ?_ ?_)
          · exact (un_n (by omega)).trans (k2 _ (by omega)).1
          · exact (pk_un (by omega)).trans (k2 _ (by omega)).2
        · rw [un_s, pk_us, e1.1, e1.2]
        · rw [show n + 1 - i - 1 = n - i by omega]
          refine sg_cong _ _ _ (fun t ht => ?_)
          have := k1 (i + 1 + t) (by omega) (by omega)
          rw [show 5 * a + (i + 1 + t) = 5 * a + i + 1 + t by omega, show 5 * a + (i + 1 + t - 1) = 5 * a + i + t by omega] at this
          refine Prod.ext ?_ ?_
          · exact (un_n (by omega)).trans this.1
          · exact (pk_un (by omega)).trans this.2
      · dsimp only
        rw [if_pos (by rw [un_n (by omega), b2 _ (by omega)]; exact hb), sg_mid (i := i + 1) _ _ (by omega)]
        refine congr (congrArg _ ?_) (congr (congrArg _ ?_) ?_)
        · refine sg_cong _ _ _ (fun t ht => ?_)
          exact (un_n (by omega)).trans (b2 _ (by omega))
        · rw [show 6 * a + (i + 1) = 6 * a + i + 1 by omega, un_s]
        · rw [show n + 1 + 1 - (i + 1) - 1 = n - i by omega]
          refine sg_cong _ _ _ (fun t ht => ?_)
          have := b1 (i + 1 + 1 + t) (by omega) (by omega)
          rw [show 6 * a + (i + 1 + 1 + t) = 6 * a + (i + 1) + 1 + t by omega, show 6 * a + (i + 1 + 1 + t - 1) = 6 * a + (i + 1) + t by omega] at this
          exact (un_n (by omega)).trans this
    · have h5 := gs.1 q
      refine gp_eq (un_n hq) (fun t ht => ⟨(un_n (by omega)).trans (k2 _ (by omega)).1, (pk_un (by omega)).trans (k2 _ (by omega)).2⟩) (fun t ht => (un_n (by omega)).trans (b2 _ (by omega)))
end
section
/-! X's walk: the split of a page below the root, and of the root -/
theorem xw_splitS {we : Nat} {kc : Nat → Nat} {ks : Nat → Nat} {vs : Nat → Int32} {bl : Nat → Nat} {fr : Nat → Bool} {us : Nat → Bool} {mr : Nat → Nat} {ms : Nat → Nat} {mn : Nat → Nat} {mv : Nat → Bool} {ro : Nat → Nat} {sz : Nat → Nat} {nu : Nat → Nat} {wp : Nat → Nat} {wi : Nat → Nat} {wa : Nat → Nat} {post : SX → Prop} {hs : Nat → Nat} {L : List Nat} {l x a i n : Nat} (gs : gs_b kc ks) (lv : li_ok (gp_c kc ks vs bl) hs (rc_f ro mv mr)) (hL : L.length ≤ 98)
    (h1 : ∀ s, s < 6 → rc_f ro mv mr s < 100 → ∀ q, q ∈ tr_pg (gp_c kc ks vs bl) (hs s) (rc_f ro mv mr s) → q ∈ L) (h2 : ∀ q, q < 100 → fr q = true → q ∈ L)
    (hl : l < 7) (hx : x < 100) (hwp : wp (l + 1) = x) (hfx : fr x = true) (ha : a < 100) (hwa : wp l = a) (hwi : wi l = i) (hfa : fr a = true) (hxa : x ≠ a) (hn : kc a = n) (h4 : n ≤ 4) (hi : i ≤ n) (hb : bl (6 * a) < 100)
    (hch : bl (6 * x) < 100 → bl (6 * x + 3) < 100)
    (K : ∀ (y : Nat) (kc' ks' : Nat → Nat) (vs' : Nat → Int32) (bl' : Nat → Nat) (us' : Nat → Bool) (wa' : Nat → Nat), y < 100 → fr y = false → (∀ s, s < 6 → rc_f ro mv mr s < 100 → y ∉ tr_pg (gp_c kc ks vs bl) (hs s) (rc_f ro mv mr s)) → gs_b kc' ks' →
      gp_c kc' ks' vs' bl' x = (sg_l (fun j => (ks j, vs j)) (5 * x) 2, if bl (6 * x) < 100 then sg_l bl (6 * x) 3 else []) →
      gp_c kc' ks' vs' bl' y = (sg_l (fun j => (ks j, vs j)) (5 * x + 3) 2, if bl (6 * x) < 100 then sg_l bl (6 * x + 3) 3 else []) →
      gp_c kc' ks' vs' bl' a = (sg_l (fun j => (ks j, vs j)) (5 * a) i ++ (ks (5 * x + 2), vs (5 * x + 2)) :: sg_l (fun j => (ks j, vs j)) (5 * a + i) (n - i), sg_l bl (6 * a) (i + 1) ++ y :: sg_l bl (6 * a + (i + 1)) (n - i)) →
      (∀ q, q ≠ x → q ≠ y → q ≠ a → gp_c kc' ks' vs' bl' q = gp_c kc ks vs bl q) →
      post ((nI we), (eu_N kc'), (eu_N ks'), vs', (eu_P bl'), (eu_B (un_f fr y true)), (eu_B us'), (eu_P mr), (eu_N ms), (eu_N mn), (eu_B mv), (eu_P ro), (eu_N sz), (eu_N nu), (eu_N wp), (eu_N wi), (eu_P wa'))) : wpX_split post ((nI we), (eu_N kc), (eu_N ks), vs, (eu_P bl), (eu_B fr), (eu_B us), (eu_P mr), (eu_N ms), (eu_N mn), (eu_B mv), (eu_P ro), (eu_N sz), (eu_N nu), (eu_N wp), (eu_N wi), (eu_P wa)) (nI (l + 1)) := by
  refine xw_split_pre gs lv hL h1 h2 (by omega) hx hwp hfx (fun y ks1 vs1 bl1 us' wa' hy fy ny hk1 k1 k2 b1 b2 b3 => ?_)
  have hxy : y ≠ x := by
    intro e
    rw [e, hfx] at fy
    exact (nomatch fy)
  have hay : a ≠ y := by
    intro e
    rw [← e, hfa] at fy
    exact (nomatch fy)
  have e2 : un_f (un_f (un_f kc y 0) y 2) x 2 a = n := by rw [un_n (fun e => hxa e.symm), un_n hay, un_n hay, hn]
  have C := sp_cont gs.1 hxy k1 k2 b1 b2 b3 hch _ rfl
  unfold wX_split_109
  simp (disch := omega) only [forall_eq, true_implies, false_implies, not_true_eq_false, not_false_eq_true, and_true, true_and, ea_0, ea_1, ea_2, ea_3, ea_4, ea_5, ea_6, ea_24, ea_99, ea_100, ea_300, ea_n1, ea_n2, pk_mul, nI_add, pk_sub, ea_m1, nI_clamp, eu_Nr, eu_Br, eu_Pr, eu_pn, eu_nb, eu_i8, eu_pb, eu_pi, eu_vb0, eu_vb1, eu_vbb, eu_Nu, eu_Pu, eu_Pun, eu_Bu, eu_Bu0, eu_Bu1, ea_inT, nI_leI, Nat.zero_le, nI_ltI, nI_eq, eu_pl, eu_pg, eu_p2, eu_b0, hwa, Nat.add_sub_cancel]
  refine br_f (by omega) ?_
  unfold wX_split_143
  simp (disch := omega) only [forall_eq, true_implies, false_implies, not_true_eq_false, not_false_eq_true, and_true, true_and, ea_0, ea_1, ea_2, ea_3, ea_4, ea_5, ea_6, ea_24, ea_99, ea_100, ea_300, ea_n1, ea_n2, pk_mul, nI_add, pk_sub, ea_m1, nI_clamp, eu_Nr, eu_Br, eu_Pr, eu_pn, eu_nb, eu_i8, eu_pb, eu_pi, eu_vb0, eu_vb1, eu_vbb, eu_Nu, eu_Pu, eu_Pun, eu_Bu, eu_Bu0, eu_Bu1, ea_inT, nI_leI, Nat.zero_le, nI_ltI, nI_eq, eu_pl, eu_pg, eu_p2, eu_b0, hwi, Nat.add_sub_cancel]
  refine br_f (by omega) ?_
  unfold wX_split_161
  simp (disch := omega) only [forall_eq, true_and, nI_clamp, eu_Nr, ea_inT, e2, nI_1]
  refine ⟨n - i + 1, ?_⟩
  refine xw_sp174 (n := n) ⟨fun p => ?_, hk1⟩ hx hy ha hxa e2 h4 hi (by rw [b3 _ (by omega)]; exact hb) (fun kc' ks' vs' bl' gs' ga gq => ?_)
  · by_cases e : p = x
    · rw [e, un_s]; omega
    · rw [un_n e]
      by_cases e : p = y
      · rw [e, un_s]; omega
      · rw [un_n e, un_n e]; exact gs.1 p
  · refine K y kc' ks' vs' bl' us' wa' hy fy ny gs' ((gq x hxa).trans C.1) ((gq y (fun e => hay e.symm)).trans C.2.1) ?_ (fun q q1 q2 q3 => (gq q q3).trans (C.2.2 q q1 q2))
    rw [ga]
    refine Prod.ext ?_ ?_
    · have m := k2 (5 * x + 2) (by omega)
      dsimp only
      rw [m.1, m.2, sg_kv (fun t ht => k2 (5 * a + t) (by omega)), sg_kv (fun t ht => k2 (5 * a + i + t) (by omega))]
    · dsimp only
      rw [sg_cong (f := bl1) (g := bl) (i + 1) (6 * a) (6 * a) (fun t ht => b3 _ (by omega)), sg_cong (f := bl1) (g := bl) (n - i) (6 * a + (i + 1)) (6 * a + (i + 1)) (fun t ht => b3 _ (by omega))]
theorem xw_newRoot {we : Nat} {kc : Nat → Nat} {ks : Nat → Nat} {vs : Nat → Int32} {bl : Nat → Nat} {fr : Nat → Bool} {us : Nat → Bool} {mr : Nat → Nat} {ms : Nat → Nat} {mn : Nat → Nat} {mv : Nat → Bool} {ro : Nat → Nat} {sz : Nat → Nat} {nu : Nat → Nat} {wp : Nat → Nat} {wi : Nat → Nat} {wa : Nat → Nat} {post : Int32 → SX → Prop} {hs : Nat → Nat} {L : List Nat} {x : Nat} (gs : gs_b kc ks) (lv : li_ok (gp_c kc ks vs bl) hs (rc_f ro mv mr)) (hL : L.length ≤ 98)
    (h1 : ∀ s, s < 6 → rc_f ro mv mr s < 100 → ∀ q, q ∈ tr_pg (gp_c kc ks vs bl) (hs s) (rc_f ro mv mr s) → q ∈ L) (h2 : ∀ q, q < 100 → fr q = true → q ∈ L) (hx : x < 100)
    (K : ∀ (a : Nat) (us' : Nat → Bool) (wa' : Nat → Nat), a < 100 → fr a = false → (∀ s, s < 6 → rc_f ro mv mr s < 100 → a ∉ tr_pg (gp_c kc ks vs bl) (hs s) (rc_f ro mv mr s)) →
      post (nI a) ((nI we), (eu_N (un_f kc a 0)), (eu_N ks), vs, (eu_P (un_f (un_f bl (6 * a) 100) (6 * a) x)), (eu_B (un_f fr a true)), (eu_B us'), (eu_P mr), (eu_N ms), (eu_N mn), (eu_B mv), (eu_P (un_f ro 3 a)), (eu_N sz), (eu_N nu), (eu_N wp), (eu_N wi), (eu_P wa'))) : wpX_newRoot post ((nI we), (eu_N kc), (eu_N ks), vs, (eu_P bl), (eu_B fr), (eu_B us), (eu_P mr), (eu_N ms), (eu_N mn), (eu_B mv), (eu_P ro), (eu_N sz), (eu_N nu), (eu_N wp), (eu_N wi), (eu_P wa)) (nI x) := by
  unfold wpX_newRoot
  dsimp only
  refine xw_newPage gs lv hL h1 h2 (fun a us' wa' ha fa na => ?_)
  dsimp only
  simp (disch := omega) only [forall_eq, true_implies, false_implies, not_true_eq_false, not_false_eq_true, and_true, true_and, ea_0, ea_1, ea_2, ea_3, ea_4, ea_5, ea_6, ea_24, ea_99, ea_100, ea_300, ea_n1, ea_n2, pk_mul, nI_add, pk_sub, ea_m1, nI_clamp, eu_Nr, eu_Br, eu_Pr, eu_pn, eu_nb, eu_i8, eu_pb, eu_pi, eu_vb0, eu_vb1, eu_vbb, eu_Nu, eu_Pu, eu_Pun, eu_Bu, eu_Bu0, eu_Bu1, ea_inT, nI_leI, Nat.zero_le, nI_ltI, nI_eq, eu_pl, eu_pg, eu_p2, eu_b0]
  exact K a us' wa' ha fa na
theorem xw_split0 {we : Nat} {kc : Nat → Nat} {ks : Nat → Nat} {vs : Nat → Int32} {bl : Nat → Nat} {fr : Nat → Bool} {us : Nat → Bool} {mr : Nat → Nat} {ms : Nat → Nat} {mn : Nat → Nat} {mv : Nat → Bool} {ro : Nat → Nat} {sz : Nat → Nat} {nu : Nat → Nat} {wp : Nat → Nat} {wi : Nat → Nat} {wa : Nat → Nat} {post : SX → Prop} {hs : Nat → Nat} {L : List Nat} {x : Nat} (gs : gs_b kc ks) (lv : li_ok (gp_c kc ks vs bl) hs (rc_f ro mv mr)) (hL : L.length ≤ 98)
    (h1 : ∀ s, s < 6 → rc_f ro mv mr s < 100 → ∀ q, q ∈ tr_pg (gp_c kc ks vs bl) (hs s) (rc_f ro mv mr s) → q ∈ L) (h2 : ∀ q, q < 100 → fr q = true → q ∈ L)
    (hx : x < 100) (hwp : wp 0 = x) (hfx : fr x = true)
    (hch : bl (6 * x) < 100 → bl (6 * x + 3) < 100)
    (H : ∀ (y : Nat) (g1 : Nat → pg_T), y < 100 → fr y = false → (∀ s, s < 6 → rc_f ro mv mr s < 100 → y ∉ tr_pg (gp_c kc ks vs bl) (hs s) (rc_f ro mv mr s)) →
      g1 x = (sg_l (fun j => (ks j, vs j)) (5 * x) 2, if bl (6 * x) < 100 then sg_l bl (6 * x) 3 else []) → g1 y = (sg_l (fun j => (ks j, vs j)) (5 * x + 3) 2, if bl (6 * x) < 100 then sg_l bl (6 * x + 3) 3 else []) → (∀ q, q ≠ x → q ≠ y → g1 q = gp_c kc ks vs bl q) →
      li_ok g1 hs (rc_f ro mv mr) ∧ ∀ s, s < 6 → rc_f ro mv mr s < 100 → ∀ q, q ∈ tr_pg g1 (hs s) (rc_f ro mv mr s) → q ∈ L)
    (hL2 : L.length ≤ 97)
    (K : ∀ (y a : Nat) (g1 : Nat → pg_T) (kc' ks' : Nat → Nat) (vs' : Nat → Int32) (bl' : Nat → Nat) (us' : Nat → Bool) (wa' : Nat → Nat), y < 100 → fr y = false → (∀ s, s < 6 → rc_f ro mv mr s < 100 → y ∉ tr_pg (gp_c kc ks vs bl) (hs s) (rc_f ro mv mr s)) →
      a < 100 → fr a = false → a ≠ y → g1 x = (sg_l (fun j => (ks j, vs j)) (5 * x) 2, if bl (6 * x) < 100 then sg_l bl (6 * x) 3 else []) → g1 y = (sg_l (fun j => (ks j, vs j)) (5 * x + 3) 2, if bl (6 * x) < 100 then sg_l bl (6 * x + 3) 3 else []) → (∀ q, q ≠ x → q ≠ y → g1 q = gp_c kc ks vs bl q) →
      (∀ s, s < 6 → rc_f ro mv mr s < 100 → a ∉ tr_pg g1 (hs s) (rc_f ro mv mr s)) → gs_b kc' ks' →
      gp_c kc' ks' vs' bl' a = ([(ks (5 * x + 2), vs (5 * x + 2))], [x, y]) → (∀ q, q ≠ a → gp_c kc' ks' vs' bl' q = g1 q) →
      post ((nI we), (eu_N kc'), (eu_N ks'), vs', (eu_P bl'), (eu_B (un_f (un_f fr y true) a true)), (eu_B us'), (eu_P mr), (eu_N ms), (eu_N mn), (eu_B mv), (eu_P (un_f ro 3 a)), (eu_N sz), (eu_N nu), (eu_N wp), (eu_N wi), (eu_P wa'))) : wpX_split post ((nI we), (eu_N kc), (eu_N ks), vs, (eu_P bl), (eu_B fr), (eu_B us), (eu_P mr), (eu_N ms), (eu_N mn), (eu_B mv), (eu_P ro), (eu_N sz), (eu_N nu), (eu_N wp), (eu_N wi), (eu_P wa)) (nI 0) := by
  refine xw_split_pre gs lv hL h1 h2 (by omega) hx hwp hfx (fun y ks1 vs1 bl1 us' wa' hy fy ny hk1 k1 k2 b1 b2 b3 => ?_)
  have hxy : y ≠ x := by
    intro e
    rw [e, hfx] at fy
    exact (nomatch fy)
  have C := sp_cont gs.1 hxy k1 k2 b1 b2 b3 hch _ rfl
  have HH := H y _ hy fy ny C.1 C.2.1 C.2.2
  unfold wX_split_109
  simp (disch := omega) only [forall_eq, true_implies, false_implies, not_true_eq_false, not_false_eq_true, and_true, true_and, ea_0, ea_1, ea_2, ea_3, ea_4, ea_5, ea_6, ea_24, ea_99, ea_100, ea_300, ea_n1, ea_n2, pk_mul, nI_add, pk_sub, ea_m1, nI_clamp, eu_Nr, eu_Br, eu_Pr, eu_pn, eu_nb, eu_i8, eu_pb, eu_pi, eu_vb0, eu_vb1, eu_vbb, eu_Nu, eu_Pu, eu_Pun, eu_Bu, eu_Bu0, eu_Bu1, ea_inT, nI_leI, Nat.zero_le, nI_ltI, nI_eq, eu_pl, eu_pg, eu_p2, eu_b0]
  have gs1 : gs_b (un_f (un_f (un_f kc y 0) y 2) x 2) ks1 := by
    refine ⟨fun p => ?_, hk1⟩
    by_cases e : p = x
    · rw [e, un_s]; omega
    · rw [un_n e]
      by_cases e : p = y
      · rw [e, un_s]; omega
      · rw [un_n e, un_n e]; exact gs.1 p
  refine xw_newRoot (L := y :: L) gs1 HH.1 (by rw [List.length_cons]; omega) (fun s s1 s2 q hq => List.mem_cons_of_mem _ (HH.2 s s1 s2 q hq)) (fun q hq hf => ?_) hx (fun a us2 wa2 ha fa na => ?_)
  · by_cases e : q = y
    · rw [e]; exact List.mem_cons_self ..
    · rw [un_n e] at hf; exact List.mem_cons_of_mem _ (h2 q hq hf)
  · dsimp only
    have hay : a ≠ y := by
      intro e
      rw [e, un_s] at fa
      exact (nomatch fa)
    have fa' : fr a = false := by rw [un_n hay] at fa; exact fa
    have hxa : x ≠ a := by
      intro e
      rw [← e, hfx] at fa'
      exact (nomatch fa')
    unfold wX_split_143
    refine br_t ea_0.symm ?_
    unfold wX_split_161
    simp (disch := omega) only [forall_eq, true_and, ea_0, nI_clamp, eu_Nr, ea_inT, un_s, nI_1]
    refine ⟨0 - 0 + 1, ?_⟩
    refine xw_sp174 (n := 0) (i := 0) ⟨fun p => ?_, hk1⟩ hx hy ha hxa un_s (by omega) (by omega) (by rw [un_s]; exact hx) (fun kc' ks' vs' bl' gs' ga gq => ?_)
    · by_cases e : p = a
      · rw [e, un_s]; omega
      · rw [un_n e]; exact gs1.1 p
    · refine K y a _ kc' ks' vs' bl' us2 wa2 hy fy ny ha fa' hay C.1 C.2.1 C.2.2 na gs' ?_ (fun q hq => ?_)
      · rw [ga]
        have m := k2 (5 * x + 2) (by omega)
        refine Prod.ext ?_ ?_
        · show [(ks1 (5 * x + 2), vs1 (5 * x + 2))] = _
          rw [m.1, m.2]
        · show [un_f (un_f bl1 (6 * a) 100) (6 * a) x (6 * a), y] = _
          rw [un_s]
      · rw [gq q hq]
        have h5 := gs1.1 q
        exact gp_eq (un_n hq) (fun t ht => ⟨rfl, rfl⟩) (fun t ht => (un_n (by omega)).trans (un_n (by omega)))
end
section
/-! X's walk: two pages melt into one -/
theorem xw_m65 {we : Nat} {kc : Nat → Nat} {bl : Nat → Nat} {fr : Nat → Bool} {us : Nat → Bool} {mr : Nat → Nat} {ms : Nat → Nat} {mn : Nat → Nat} {mv : Nat → Bool} {ro : Nat → Nat} {sz : Nat → Nat} {nu : Nat → Nat} {wp : Nat → Nat} {wi : Nat → Nat} {wa : Nat → Nat} {post : SX → Prop} {a i x y e : Nat} (hx : x < 100) (hy : y < 100) (hxy : x ≠ y) (he : e + 1 + kc y ≤ 4) : ∀ (d k : Nat) (ks : Nat → Nat) (vs : Nat → Int32), k + d = kc y → (∀ j, ks j < 100) →
    (∀ (ks' : Nat → Nat) (vs' : Nat → Int32), (∀ j, ks' j < 100) → (∀ t, k ≤ t → t < kc y → ks' (5 * x + (e + 1 + t)) = ks (5 * y + t) ∧ vs' (5 * x + (e + 1 + t)) = vs (5 * y + t)) → (∀ j, (j < 5 * x + (e + 1 + k) ∨ 5 * x + (e + 1 + kc y) ≤ j) → ks' j = ks j ∧ vs' j = vs j) → wX_melt_65 post (nI a) (nI i) (nI x) (nI y) (nI e) (0 + 1) (nI (kc y)) (nI we) (eu_N kc) (eu_N ks') vs' (eu_P bl) (eu_B fr) (eu_B us) (eu_P mr) (eu_N ms) (eu_N mn) (eu_B mv) (eu_P ro) (eu_N sz) (eu_N nu) (eu_N wp) (eu_N wi) (eu_P wa)) →
    wX_melt_65 post (nI a) (nI i) (nI x) (nI y) (nI e) (d + 1) (nI k) (nI we) (eu_N kc) (eu_N ks) vs (eu_P bl) (eu_B fr) (eu_B us) (eu_P mr) (eu_N ms) (eu_N mn) (eu_B mv) (eu_P ro) (eu_N sz) (eu_N nu) (eu_N wp) (eu_N wi) (eu_P wa) := by
  intro d
  induction d with
  | zero =>
    intro k ks vs hd hk K
    have e : k = kc y := by omega
    rw [e] at K ⊢
    exact K ks vs hk (fun t h1 h2 => absurd h1 (by omega)) (fun _ _ => ⟨rfl, rfl⟩)
  | succ d ih =>
    intro k ks vs hd hk K
    have h100 := hk (5 * y + k)
    rw [wX_melt_65]
    refine ⟨vp_in_nI hy (by omega), br_f ?_ ?_⟩
    · rw [nI_clamp (by omega)]
      exact nI_ge (by omega) (by omega)
    simp (disch := omega) only [forall_eq, true_implies, false_implies, not_true_eq_false, not_false_eq_true, and_true, true_and, ea_0, ea_1, ea_2, ea_3, ea_4, ea_5, ea_6, ea_24, ea_99, ea_100, ea_300, ea_n1, ea_n2, pk_mul, nI_add, pk_sub, ea_m1, nI_clamp, eu_Nr, eu_Br, eu_Pr, eu_pn, eu_nb, eu_i8, eu_pb, eu_pi, eu_vb0, eu_vb1, eu_vbb, eu_Nu, eu_Pu, eu_Pun, eu_Bu, eu_Bu0, eu_Bu1, ea_inT, nI_leI, Nat.zero_le, nI_ltI, nI_eq, eu_pl, eu_pg, eu_p2, eu_b0]
    refine xw_putAt hx (by omega) (by omega) ?_
    dsimp only
    refine ih (k + 1) _ _ (by omega) (fun j => ?_) (fun ks' vs' hk' b1 b2 => K ks' vs' hk' (fun t h1 h2 => ?_) (fun j hj => ⟨(b2 j (by omega)).1.trans (un_n (by omega)), (b2 j (by omega)).2.trans (pk_un (by omega))⟩))
    · by_cases e' : j = 5 * x + (e + 1 + k)
      · rw [e', un_s]; exact h100
      · rw [un_n e']; exact hk j
    · by_cases e' : t = k
      · subst e'
        exact ⟨(b2 _ (by omega)).1.trans un_s, (b2 _ (by omega)).2.trans pk_us⟩
      · exact ⟨(b1 t (by omega) h2).1.trans (un_n (by omega)), (b1 t (by omega) h2).2.trans (pk_un (by omega))⟩
theorem xw_m130 {we : Nat} {kc : Nat → Nat} {ks : Nat → Nat} {vs : Nat → Int32} {fr : Nat → Bool} {us : Nat → Bool} {mr : Nat → Nat} {ms : Nat → Nat} {mn : Nat → Nat} {mv : Nat → Bool} {ro : Nat → Nat} {sz : Nat → Nat} {nu : Nat → Nat} {wp : Nat → Nat} {wi : Nat → Nat} {wa : Nat → Nat} {post : SX → Prop} {a i x y e : Nat} (hx : x < 100) (hy : y < 100) (hxy : x ≠ y) (he : e + 1 + kc y ≤ 4) : ∀ (d k : Nat) (bl : Nat → Nat), k + d = kc y + 1 →
    (∀ (bl' : Nat → Nat), (∀ t, k ≤ t → t ≤ kc y → bl' (6 * x + e + 1 + t) = bl (6 * y + t)) → (∀ j, (j < 6 * x + e + 1 + k ∨ 6 * x + e + 1 + kc y < j) → bl' j = bl j) → wX_melt_178 post (nI a) (nI i) (nI x) (nI y) (nI e) (nI we) (eu_N kc) (eu_N ks) vs (eu_P bl') (eu_B fr) (eu_B us) (eu_P mr) (eu_N ms) (eu_N mn) (eu_B mv) (eu_P ro) (eu_N sz) (eu_N nu) (eu_N wp) (eu_N wi) (eu_P wa)) →
    wX_melt_130 post (nI a) (nI i) (nI x) (nI y) (nI e) (nI we) (d + 1) (nI k) (eu_N kc) (eu_N ks) vs (eu_P bl) (eu_B fr) (eu_B us) (eu_P mr) (eu_N ms) (eu_N mn) (eu_B mv) (eu_P ro) (eu_N sz) (eu_N nu) (eu_N wp) (eu_N wi) (eu_P wa) := by
  intro d
  induction d with
  | zero =>
    intro k bl hd K
    rw [wX_melt_130]
    refine ⟨vp_in_nI hy (by omega), br_t ?_ (K bl (fun t h1 h2 => absurd h1 (by omega)) (fun _ _ => rfl))⟩
    rw [nI_clamp (by omega)]
    exact nI_lt (by omega) (by omega)
  | succ d ih =>
    intro k bl hd K
    rw [wX_melt_130]
    refine ⟨vp_in_nI hy (by omega), br_f ?_ ?_⟩
    · rw [nI_clamp (by omega)]
      exact nI_nlt (by omega) (by omega)
    simp (disch := omega) only [forall_eq, true_implies, false_implies, not_true_eq_false, not_false_eq_true, and_true, true_and, ea_0, ea_1, ea_2, ea_3, ea_4, ea_5, ea_6, ea_24, ea_99, ea_100, ea_300, ea_n1, ea_n2, pk_mul, nI_add, pk_sub, ea_m1, nI_clamp, eu_Nr, eu_Br, eu_Pr, eu_pn, eu_nb, eu_i8, eu_pb, eu_pi, eu_vb0, eu_vb1, eu_vbb, eu_Nu, eu_Pu, eu_Pun, eu_Bu, eu_Bu0, eu_Bu1, ea_inT, nI_leI, Nat.zero_le, nI_ltI, nI_eq, eu_pl, eu_pg, eu_p2, eu_b0]
    refine ih (k + 1) _ (by omega) (fun bl' b1 b2 => K bl' (fun t h1 h2 => ?_) (fun j hj => (b2 j (by omega)).trans (un_n (by omega))))
    by_cases e' : t = k
    · subst e'
      exact (b2 _ (by omega)).trans un_s
    · exact (b1 t (by omega) h2).trans (un_n (by omega))
theorem xw_m208 {we : Nat} {kc : Nat → Nat} {ks : Nat → Nat} {vs : Nat → Int32} {fr : Nat → Bool} {us : Nat → Bool} {mr : Nat → Nat} {ms : Nat → Nat} {mn : Nat → Nat} {mv : Nat → Bool} {ro : Nat → Nat} {sz : Nat → Nat} {nu : Nat → Nat} {wp : Nat → Nat} {wi : Nat → Nat} {wa : Nat → Nat} {post : SX → Prop} {a y : Nat} (ha : a < 100) (hy : y < 100) (h4 : kc a ≤ 4) : ∀ (d k : Nat) (bl : Nat → Nat), k + d = kc a + 1 →
    (∀ (bl' : Nat → Nat), (∀ t, k ≤ t → t ≤ kc a → bl' (6 * a + t) = bl (6 * a + t + 1)) → (∀ j, (j < 6 * a + k ∨ 6 * a + kc a < j) → bl' j = bl j) → post ((nI we), (eu_N kc), (eu_N ks), vs, (eu_P bl'), (eu_B (un_f fr y false)), (eu_B us), (eu_P mr), (eu_N ms), (eu_N mn), (eu_B mv), (eu_P ro), (eu_N sz), (eu_N nu), (eu_N wp), (eu_N wi), (eu_P wa))) →
    wX_melt_208 post (nI a) (nI y) (nI we) (d + 1) (nI k) (eu_N kc) (eu_N ks) vs (eu_P bl) (eu_B fr) (eu_B us) (eu_P mr) (eu_N ms) (eu_N mn) (eu_B mv) (eu_P ro) (eu_N sz) (eu_N nu) (eu_N wp) (eu_N wi) (eu_P wa) := by
  intro d
  induction d with
  | zero =>
    intro k bl hd K
    rw [wX_melt_208]
    refine ⟨vp_in_nI ha (by omega), br_t ?_ ?_⟩
    · rw [nI_clamp (by omega)]
      exact nI_lt (by omega) (by omega)
    simp (disch := omega) only [forall_eq, true_implies, false_implies, not_true_eq_false, not_false_eq_true, and_true, true_and, ea_0, ea_1, ea_2, ea_3, ea_4, ea_5, ea_6, ea_24, ea_99, ea_100, ea_300, ea_n1, ea_n2, pk_mul, nI_add, pk_sub, ea_m1, nI_clamp, eu_Nr, eu_Br, eu_Pr, eu_pn, eu_nb, eu_i8, eu_pb, eu_pi, eu_vb0, eu_vb1, eu_vbb, eu_Nu, eu_Pu, eu_Pun, eu_Bu, eu_Bu0, eu_Bu1, ea_inT, nI_leI, Nat.zero_le, nI_ltI, nI_eq, eu_pl, eu_pg, eu_p2, eu_b0]
    exact K bl (fun t h1 h2 => absurd h1 (by omega)) (fun _ _ => rfl)
  | succ d ih =>
    intro k bl hd K
    rw [wX_melt_208]
    refine ⟨vp_in_nI ha (by omega), br_f ?_ ?_⟩
    · rw [nI_clamp (by omega)]
      exact nI_nlt (by omega) (by omega)
    simp (disch := omega) only [forall_eq, true_implies, false_implies, not_true_eq_false, not_false_eq_true, and_true, true_and, ea_0, ea_1, ea_2, ea_3, ea_4, ea_5, ea_6, ea_24, ea_99, ea_100, ea_300, ea_n1, ea_n2, pk_mul, nI_add, pk_sub, ea_m1, nI_clamp, eu_Nr, eu_Br, eu_Pr, eu_pn, eu_nb, eu_i8, eu_pb, eu_pi, eu_vb0, eu_vb1, eu_vbb, eu_Nu, eu_Pu, eu_Pun, eu_Bu, eu_Bu0, eu_Bu1, ea_inT, nI_leI, Nat.zero_le, nI_ltI, nI_eq, eu_pl, eu_pg, eu_p2, eu_b0]
    refine ih (k + 1) _ (by omega) (fun bl' b1 b2 => K bl' (fun t h1 h2 => ?_) (fun j hj => (b2 j (by omega)).trans (un_n (by omega))))
    by_cases e' : t = k
    · subst e'
      exact (b2 _ (by omega)).trans un_s
    · exact (b1 t (by omega) h2).trans (un_n (by omega))
theorem xw_melt {we : Nat} {kc : Nat → Nat} {ks : Nat → Nat} {vs : Nat → Int32} {bl : Nat → Nat} {fr : Nat → Bool} {us : Nat → Bool} {mr : Nat → Nat} {ms : Nat → Nat} {mn : Nat → Nat} {mv : Nat → Bool} {ro : Nat → Nat} {sz : Nat → Nat} {nu : Nat → Nat} {wp : Nat → Nat} {wi : Nat → Nat} {wa : Nat → Nat} {post : SX → Prop} {a i x y n : Nat} (gs : gs_b kc ks) (ha : a < 100) (hx : x < 100) (hy : y < 100) (hax : a ≠ x) (hay : a ≠ y) (hxy : x ≠ y) (ex : bl (6 * a + i) = x) (ey : bl (6 * a + i + 1) = y)
    (hn : kc a = n + 1) (h3 : n ≤ 3) (hi : i ≤ n) (he : kc x + 1 + kc y ≤ 4) (hb : bl (6 * a) < 100) (hlf : bl (6 * x) < 100 ↔ bl (6 * y) < 100)
    (K : ∀ (kc' ks' : Nat → Nat) (vs' : Nat → Int32) (bl' : Nat → Nat), gs_b kc' ks' →
      gp_c kc' ks' vs' bl' x = ((gp_c kc ks vs bl x).1 ++ (ks (5 * a + i), vs (5 * a + i)) :: (gp_c kc ks vs bl y).1, (gp_c kc ks vs bl x).2 ++ (gp_c kc ks vs bl y).2) →
      gp_c kc' ks' vs' bl' a = (sg_l (fun j => (ks j, vs j)) (5 * a) i ++ sg_l (fun j => (ks j, vs j)) (5 * a + i + 1) (n - i), sg_l bl (6 * a) (i + 1) ++ sg_l bl (6 * a + (i + 1) + 1) (n - i)) →
      (∀ q, q ≠ x → q ≠ a → gp_c kc' ks' vs' bl' q = gp_c kc ks vs bl q) → post ((nI we), (eu_N kc'), (eu_N ks'), vs', (eu_P bl'), (eu_B (un_f fr y false)), (eu_B us), (eu_P mr), (eu_N ms), (eu_N mn), (eu_B mv), (eu_P ro), (eu_N sz), (eu_N nu), (eu_N wp), (eu_N wi), (eu_P wa))) : wpX_melt post ((nI we), (eu_N kc), (eu_N ks), vs, (eu_P bl), (eu_B fr), (eu_B us), (eu_P mr), (eu_N ms), (eu_N mn), (eu_B mv), (eu_P ro), (eu_N sz), (eu_N nu), (eu_N wp), (eu_N wi), (eu_P wa)) (nI a) (nI i) := by
  have hka := gs.2 (5 * a + i)
  have part2 : ∀ (ks2 : Nat → Nat) (vs2 : Nat → Int32) (bl2 : Nat → Nat), (∀ j, ks2 j < 100) →
      (ks2 (5 * x + kc x) = ks (5 * a + i) ∧ vs2 (5 * x + kc x) = vs (5 * a + i)) → (∀ t, t < kc y → ks2 (5 * x + (kc x + 1 + t)) = ks (5 * y + t) ∧ vs2 (5 * x + (kc x + 1 + t)) = vs (5 * y + t)) → (∀ j, (j < 5 * x + kc x ∨ 5 * x + (kc x + 1 + kc y) ≤ j) → ks2 j = ks j ∧ vs2 j = vs j) →
      (bl (6 * x) < 100 → ∀ t, t ≤ kc y → bl2 (6 * x + kc x + 1 + t) = bl (6 * y + t)) → (∀ j, (j < 6 * x + kc x + 1 ∨ 6 * x + kc x + 1 + kc y < j) → bl2 j = bl j) →
      wX_melt_178 post (nI a) (nI i) (nI x) (nI y) (nI (kc x)) (nI we) (eu_N kc) (eu_N ks2) vs2 (eu_P bl2) (eu_B fr) (eu_B us) (eu_P mr) (eu_N ms) (eu_N mn) (eu_B mv) (eu_P ro) (eu_N sz) (eu_N nu) (eu_N wp) (eu_N wi) (eu_P wa) := by
    intro ks2 vs2 bl2 hk2 k0 k1 k2 b1 b2
    have ea : un_f kc x (kc x + 1 + kc y) a = n + 1 := (un_n hax).trans hn
    unfold wX_melt_178
    simp (disch := omega) only [forall_eq, true_implies, false_implies, not_true_eq_false, not_false_eq_true, and_true, true_and, ea_0, ea_1, ea_2, ea_3, ea_4, ea_5, ea_6, ea_24, ea_99, ea_100, ea_300, ea_n1, ea_n2, pk_mul, nI_add, pk_sub, ea_m1, nI_clamp, eu_Nr, eu_Br, eu_Pr, eu_pn, eu_nb, eu_i8, eu_pb, eu_pi, eu_vb0, eu_vb1, eu_vbb, eu_Nu, eu_Pu, eu_Pun, eu_Bu, eu_Bu0, eu_Bu1, ea_inT, nI_leI, Nat.zero_le, nI_ltI, nI_eq, eu_pl, eu_pg, eu_p2, eu_b0]
    refine xw_closePlace ha ea (by omega) hi hk2 (fun ks3 vs3 hk3 k3 k4 => ?_)
    dsimp only
    have ea2 : un_f (un_f kc x (kc x + 1 + kc y)) a n a = n := un_s
    refine ⟨n - i + 1, ?_⟩
    refine xw_m208 ha hy (by rw [ea2]; omega) (n - i) (i + 1) bl2 (by rw [ea2]; omega) (fun bl3 b3 b4 => ?_)
    rw [ea2] at b3 b4
    refine K _ _ _ _ ⟨fun p => ?_, hk3⟩ ?_ ?_ (fun q q1 q2 => ?_)
    · by_cases e : p = a
      · rw [e, ea2]; omega
      · rw [un_n e]
        by_cases e : p = x
        · rw [e, un_s]; omega
        · rw [un_n e]; exact gs.1 p
    · unfold gp_c
      rw [un_n (fun e => hax e.symm), un_s]
      refine Prod.ext ?_ ?_
      · dsimp only
        rw [sg_mid (i := kc x) _ _ (by omega)]
        refine congr (congrArg _ ?_) (congr (congrArg _ ?_) ?_)
        · refine sg_kv (fun t ht => ?_)
          have u1 := k4 (5 * x + t) (by omega)
          have u2 := k2 (5 * x + t) (by omega)
          exact ⟨u1.1.trans u2.1, u1.2.trans u2.2⟩
        · have u1 := k4 (5 * x + kc x) (by omega)
          rw [u1.1, u1.2, k0.1, k0.2]
        · rw [show kc x + 1 + kc y - kc x - 1 = kc y by omega]
          refine sg_kv (fun t ht => ?_)
          have u1 := k4 (5 * x + kc x + 1 + t) (by omega)
          have u2 := k1 t ht
          rw [show 5 * x + (kc x + 1 + t) = 5 * x + kc x + 1 + t by omega] at u2
          exact ⟨u1.1.trans u2.1, u1.2.trans u2.2⟩
      · dsimp only
        have u : bl3 (6 * x) = bl (6 * x) := (b4 _ (by omega)).trans (b2 _ (by omega))
        rw [u]
        by_cases hbx : bl (6 * x) < 100
        · rw [if_pos hbx, if_pos hbx, if_pos (hlf.mp hbx), show kc x + 1 + kc y + 1 = (kc x + 1) + (kc y + 1) by omega, sg_app]
          refine congr (congrArg _ ?_) ?_
          · exact sg_cong _ _ _ (fun t ht => (b4 _ (by omega)).trans (b2 _ (by omega)))
          · refine sg_cong _ _ _ (fun t ht => (b4 _ (by omega)).trans ?_)
            have := b1 hbx t (by omega)
            rw [show 6 * x + (kc x + 1) + t = 6 * x + kc x + 1 + t by omega]
            exact this
        · rw [if_neg hbx, if_neg hbx, if_neg (fun h => hbx (hlf.mpr h))]
          rfl
    · unfold gp_c
      rw [ea2]
      refine Prod.ext ?_ ?_
      · dsimp only
        rw [sg_cut (i := i) _ _ hi]
        refine congr (congrArg _ ?_) ?_
        · refine sg_kv (fun t ht => ?_)
          have u1 := k4 (5 * a + t) (by omega)
          have u2 := k2 (5 * a + t) (by omega)
          exact ⟨u1.1.trans u2.1, u1.2.trans u2.2⟩
        · refine sg_kv (fun t ht => ?_)
          have u1 := k3 (i + t) (by omega) (by omega)
          have u2 := k2 (5 * a + (i + t) + 1) (by omega)
          rw [show 5 * a + i + t = 5 * a + (i + t) by omega, show 5 * a + i + 1 + t = 5 * a + (i + t) + 1 by omega]
          exact ⟨u1.1.trans u2.1, u1.2.trans u2.2⟩
      · dsimp only
        have u : bl3 (6 * a) = bl (6 * a) := (b4 _ (by omega)).trans (b2 _ (by omega))
        rw [u, if_pos hb, sg_cut (i := i + 1) _ _ (by omega), show n + 1 - (i + 1) = n - i by omega]
        refine congr (congrArg _ ?_) ?_
        · exact sg_cong _ _ _ (fun t ht => (b4 _ (by omega)).trans (b2 _ (by omega)))
        · refine sg_cong _ _ _ (fun t ht => ?_)
          have u1 := b3 (i + 1 + t) (by omega) (by omega)
          have u2 := b2 (6 * a + (i + 1 + t) + 1) (by omega)
          rw [show 6 * a + (i + 1) + t = 6 * a + (i + 1 + t) by omega, show 6 * a + (i + 1) + 1 + t = 6 * a + (i + 1 + t) + 1 by omega]
          exact u1.trans u2
    · have h5 := gs.1 q
      refine gp_eq ((un_n q2).trans (un_n q1)) (fun t ht => ?_) (fun t ht => (b4 _ (by omega)).trans (b2 _ (by omega)))
      have u1 := k4 (5 * q + t) (by omega)
      have u2 := k2 (5 * q + t) (by omega)
      exact ⟨u1.1.trans u2.1, u1.2.trans u2.2⟩
  unfold wpX_melt
  simp (disch := omega) only [forall_eq, true_and, ea_1, ea_5, ea_6, pk_mul, nI_add, nI_clamp, eu_Nr, eu_Pr, ea_inT, ex, ey, eu_pn]
  refine xw_putAt hx (by omega) (by omega) ?_
  dsimp only
  refine ⟨kc y + 1, ?_⟩
  rw [ea_0]
  refine xw_m65 hx hy hxy (by omega) (kc y) 0 _ _ (by omega) (fun j => ?_) (fun ks2 vs2 hk2 k1 k2 => ?_)
  · by_cases e : j = 5 * x + kc x
    · rw [e, un_s]; exact hka
    · rw [un_n e]; exact gs.2 j
  · have f0 : ks2 (5 * x + kc x) = ks (5 * a + i) ∧ vs2 (5 * x + kc x) = vs (5 * a + i) := ⟨(k2 _ (by omega)).1.trans un_s, (k2 _ (by omega)).2.trans pk_us⟩
    have f1 : ∀ t, t < kc y → ks2 (5 * x + (kc x + 1 + t)) = ks (5 * y + t) ∧ vs2 (5 * x + (kc x + 1 + t)) = vs (5 * y + t) := fun t ht => ⟨(k1 t (by omega) ht).1.trans (un_n (by omega)), (k1 t (by omega) ht).2.trans (pk_un (by omega))⟩
    have f2 : ∀ j, (j < 5 * x + kc x ∨ 5 * x + (kc x + 1 + kc y) ≤ j) → ks2 j = ks j ∧ vs2 j = vs j := fun j hj => ⟨(k2 j (by omega)).1.trans (un_n (by omega)), (k2 j (by omega)).2.trans (pk_un (by omega))⟩
    rw [wX_melt_65]
    refine ⟨vp_in_nI hy (by omega), br_t ?_ ?_⟩
    · rw [nI_clamp (by omega)]
      exact nI_le (by omega) (by omega)
    refine xw_isLeaf hx (fun hbx => ?_) (fun hbx => ?_)
    · refine br_t rfl ⟨kc y + 1 + 1, ?_⟩
      rw [ea_0]
      exact xw_m130 hx hy hxy (by omega) (kc y + 1) 0 bl (by omega) (fun bl2 b1 b2 => part2 ks2 vs2 bl2 hk2 f0 f1 f2 (fun _ t ht => b1 t (by omega) ht) (fun j hj => b2 j (by omega)))
    · refine br_f (by decide) ?_
      exact part2 ks2 vs2 bl hk2 f0 f1 f2 (fun h => absurd h (by omega)) (fun _ _ => rfl)
end
section
/-! X's walks: a key taken from the left neighbour, or from the right one -/
theorem xw_tl54 {we : Nat} {kc : Nat → Nat} {ks : Nat → Nat} {vs : Nat → Int32} {fr : Nat → Bool} {us : Nat → Bool} {mr : Nat → Nat} {ms : Nat → Nat} {mn : Nat → Nat} {mv : Nat → Bool} {ro : Nat → Nat} {sz : Nat → Nat} {nu : Nat → Nat} {wp : Nat → Nat} {wi : Nat → Nat} {wa : Nat → Nat} {post : SX → Prop} {a i x y f : Nat} (hx : x < 100) : ∀ (d : Nat) (bl : Nat → Nat), d ≤ 5 →
    (∀ (bl' : Nat → Nat), (∀ t, 0 < t → t ≤ d → bl' (6 * x + t) = bl (6 * x + (t - 1))) → (∀ j, (j ≤ 6 * x ∨ 6 * x + d < j) → bl' j = bl j) → wX_takeFromLeft_54 post (nI a) (nI i) (nI x) (nI y) (nI f) (nI we) (0 + 1) (nI 0) (eu_N kc) (eu_N ks) vs (eu_P bl') (eu_B fr) (eu_B us) (eu_P mr) (eu_N ms) (eu_N mn) (eu_B mv) (eu_P ro) (eu_N sz) (eu_N nu) (eu_N wp) (eu_N wi) (eu_P wa)) →
    wX_takeFromLeft_54 post (nI a) (nI i) (nI x) (nI y) (nI f) (nI we) (d + 1) (nI d) (eu_N kc) (eu_N ks) vs (eu_P bl) (eu_B fr) (eu_B us) (eu_P mr) (eu_N ms) (eu_N mn) (eu_B mv) (eu_P ro) (eu_N sz) (eu_N nu) (eu_N wp) (eu_N wi) (eu_P wa) := by
  intro d
  induction d with
  | zero =>
    intro bl hd K
    exact K bl (fun t h1 h2 => absurd h1 (by omega)) (fun _ _ => rfl)
  | succ d ih =>
    intro bl hd K
    rw [wX_takeFromLeft_54]
    refine br_f (nI_nle (by omega) (by omega)) ?_
    simp (disch := omega) only [forall_eq, true_implies, false_implies, not_true_eq_false, not_false_eq_true, and_true, true_and, ea_0, ea_1, ea_2, ea_3, ea_4, ea_5, ea_6, ea_24, ea_99, ea_100, ea_300, ea_n1, ea_n2, pk_mul, nI_add, pk_sub, ea_m1, nI_clamp, eu_Nr, eu_Br, eu_Pr, eu_pn, eu_nb, eu_i8, eu_pb, eu_pi, eu_vb0, eu_vb1, eu_vbb, eu_Nu, eu_Pu, eu_Pun, eu_Bu, eu_Bu0, eu_Bu1, ea_inT, nI_leI, Nat.zero_le, nI_ltI, nI_eq, eu_pl, eu_pg, eu_p2, eu_b0, Nat.add_sub_cancel]
    refine ih _ (by omega) (fun bl' b1 b2 => K bl' (fun t h1 h2 => ?_) (fun j hj => (b2 j (by omega)).trans (un_n (by omega))))
    by_cases e : t = d + 1
    · subst e
      rw [show 6 * x + (d + 1 - 1) = 6 * x + (d + 1) - 1 by omega]
      exact (b2 _ (by omega)).trans un_s
    · exact (b1 t h1 (by omega)).trans (un_n (by omega))
theorem xw_takeL {we : Nat} {kc : Nat → Nat} {ks : Nat → Nat} {vs : Nat → Int32} {bl : Nat → Nat} {fr : Nat → Bool} {us : Nat → Bool} {mr : Nat → Nat} {ms : Nat → Nat} {mn : Nat → Nat} {mv : Nat → Bool} {ro : Nat → Nat} {sz : Nat → Nat} {nu : Nat → Nat} {wp : Nat → Nat} {wi : Nat → Nat} {wa : Nat → Nat} {post : SX → Prop} {a i x y n f : Nat} (gs : gs_b kc ks) (ha : a < 100) (hx : x < 100) (hy : y < 100) (hax : a ≠ x) (hay : a ≠ y) (hxy : x ≠ y) (ex : bl (6 * a + (i + 1)) = x) (ey : bl (6 * a + (i + 1) - 1) = y)
    (hn : kc a = n) (h4 : n ≤ 4) (hi : i < n) (he : kc x ≤ 3) (hf : kc y = f + 1) (hb : bl (6 * a) < 100) (hlf : bl (6 * x) < 100 ↔ bl (6 * y) < 100) (hch : bl (6 * y) < 100 → bl (6 * y + (f + 1)) < 100)
    (K : ∀ (kc' ks' : Nat → Nat) (vs' : Nat → Int32) (bl' : Nat → Nat), gs_b kc' ks' →
      gp_c kc' ks' vs' bl' x = ((ks (5 * a + i), vs (5 * a + i)) :: (gp_c kc ks vs bl x).1, if bl (6 * y) < 100 then bl (6 * y + (f + 1)) :: (gp_c kc ks vs bl x).2 else []) →
      gp_c kc' ks' vs' bl' y = (sg_l (fun j => (ks j, vs j)) (5 * y) f, if bl (6 * y) < 100 then sg_l bl (6 * y) (f + 1) else []) →
      gp_c kc' ks' vs' bl' a = (sg_l (fun j => (ks j, vs j)) (5 * a) i ++ (ks (5 * y + f), vs (5 * y + f)) :: sg_l (fun j => (ks j, vs j)) (5 * a + i + 1) (n - i - 1), sg_l bl (6 * a) (n + 1)) →
      (∀ q, q ≠ x → q ≠ y → q ≠ a → gp_c kc' ks' vs' bl' q = gp_c kc ks vs bl q) → post ((nI we), (eu_N kc'), (eu_N ks'), vs', (eu_P bl'), (eu_B fr), (eu_B us), (eu_P mr), (eu_N ms), (eu_N mn), (eu_B mv), (eu_P ro), (eu_N sz), (eu_N nu), (eu_N wp), (eu_N wi), (eu_P wa))) : wpX_takeFromLeft post ((nI we), (eu_N kc), (eu_N ks), vs, (eu_P bl), (eu_B fr), (eu_B us), (eu_P mr), (eu_N ms), (eu_N mn), (eu_B mv), (eu_P ro), (eu_N sz), (eu_N nu), (eu_N wp), (eu_N wi), (eu_P wa)) (nI a) (nI (i + 1)) := by
  have hka := gs.2 (5 * a + i)
  have hky := gs.2 (5 * y + f)
  have h5 := gs.1 y
  have e1 : 5 * a + (i + 1) - 1 = 5 * a + i := by omega
  have e2 : 5 * y + (f + 1) - 1 = 5 * y + f := by omega
  have part2 : ∀ (bl2 : Nat → Nat), (bl (6 * y) < 100 → bl2 (6 * x) = bl (6 * y + (f + 1)) ∧ ∀ t, t ≤ kc x → bl2 (6 * x + (t + 1)) = bl (6 * x + t)) → (100 ≤ bl (6 * y) → bl2 (6 * x) = bl (6 * x)) → (∀ j, (j < 6 * x ∨ 6 * x + 6 ≤ j) → bl2 j = bl j) →
      wX_takeFromLeft_113 post (nI a) (nI (i + 1)) (nI x) (nI y) (nI (f + 1)) (nI we) (eu_N kc) (eu_N ks) vs (eu_P bl2) (eu_B fr) (eu_B us) (eu_P mr) (eu_N ms) (eu_N mn) (eu_B mv) (eu_P ro) (eu_N sz) (eu_N nu) (eu_N wp) (eu_N wi) (eu_P wa) := by
    intro bl2 b1 b2 b3
    unfold wX_takeFromLeft_113
    rw [ea_0]
    refine xw_openPlace (i := 0) hx (by omega) (by omega) gs.2 (fun ks1 vs1 hk1 k1 k2 => ?_)
    dsimp only
    have hka1 := hk1 (5 * a + i)
    simp (disch := omega) only [forall_eq, true_implies, false_implies, not_true_eq_false, not_false_eq_true, and_true, true_and, ea_0, ea_1, ea_2, ea_3, ea_4, ea_5, ea_6, ea_24, ea_99, ea_100, ea_300, ea_n1, ea_n2, pk_mul, nI_add, pk_sub, ea_m1, nI_clamp, eu_Nr, eu_Br, eu_Pr, eu_pn, eu_nb, eu_i8, eu_pb, eu_pi, eu_vb0, eu_vb1, eu_vbb, eu_Nu, eu_Pu, eu_Pun, eu_Bu, eu_Bu0, eu_Bu1, ea_inT, nI_leI, Nat.zero_le, nI_ltI, nI_eq, eu_pl, eu_pg, eu_p2, eu_b0, e1, Nat.add_sub_cancel]
    refine xw_putAt hx (by omega) (by omega) ?_
    dsimp only
    have u0 := k2 (5 * y + f) (by omega)
    have u1 : un_f ks1 (5 * x + 0) (ks1 (5 * a + i)) (5 * y + f) = ks (5 * y + f) := (un_n (by omega)).trans u0.1
    have u2 : upd vs1 (5 * x + 0) (vs1 (5 * a + i)) (5 * y + f) = vs (5 * y + f) := (pk_un (by omega)).trans u0.2
    have u3 : un_f kc x (kc x + 1) y = f + 1 := (un_n (fun e => hxy e.symm)).trans hf
    simp (disch := omega) only [forall_eq, true_implies, false_implies, not_true_eq_false, not_false_eq_true, and_true, true_and, ea_0, ea_1, ea_2, ea_3, ea_4, ea_5, ea_6, ea_24, ea_99, ea_100, ea_300, ea_n1, ea_n2, pk_mul, nI_add, pk_sub, ea_m1, nI_clamp, eu_Nr, eu_Br, eu_Pr, eu_pn, eu_nb, eu_i8, eu_pb, eu_pi, eu_vb0, eu_vb1, eu_vbb, eu_Nu, eu_Pu, eu_Pun, eu_Bu, eu_Bu0, eu_Bu1, ea_inT, nI_leI, Nat.zero_le, nI_ltI, nI_eq, eu_pl, eu_pg, eu_p2, eu_b0, e2, u1, u2]
    refine xw_putAt ha (by omega) (by omega) ?_
    dsimp only
    simp (disch := omega) only [forall_eq, true_implies, false_implies, not_true_eq_false, not_false_eq_true, and_true, true_and, ea_0, ea_1, ea_2, ea_3, ea_4, ea_5, ea_6, ea_24, ea_99, ea_100, ea_300, ea_n1, ea_n2, pk_mul, nI_add, pk_sub, ea_m1, nI_clamp, eu_Nr, eu_Br, eu_Pr, eu_pn, eu_nb, eu_i8, eu_pb, eu_pi, eu_vb0, eu_vb1, eu_vbb, eu_Nu, eu_Pu, eu_Pun, eu_Bu, eu_Bu0, eu_Bu1, ea_inT, nI_leI, Nat.zero_le, nI_ltI, nI_eq, eu_pl, eu_pg, eu_p2, eu_b0, u3, Nat.add_sub_cancel]
    refine K _ _ _ _ ⟨fun p => ?_, fun j => ?_⟩ ?_ ?_ ?_ (fun q q1 q2 q3 => ?_)
    · by_cases e : p = y
      · rw [e, un_s]; omega
      · rw [un_n e]
        by_cases e : p = x
        · rw [e, un_s]; omega
        · rw [un_n e]; exact gs.1 p
    · by_cases e : j = 5 * a + i
      · rw [e, un_s]; exact hky
      · rw [un_n e]
        by_cases e : j = 5 * x + 0
        · rw [e, un_s]; exact hka1
        · rw [un_n e]; exact hk1 j
    · unfold gp_c
      rw [un_n hxy, un_s]
      refine Prod.ext ?_ ?_
      · show (_, _) :: sg_l _ (5 * x + 1) (kc x) = _
        refine congr (congrArg _ ?_) ?_
        · have u := k2 (5 * a + i) (by omega)
          refine Prod.ext ?_ ?_
          · exact (un_n (by omega)).trans (un_s.trans u.1)
          · exact (pk_un (by omega)).trans (pk_us.trans u.2)
        · refine sg_kv (fun t ht => ?_)
          have u := k1 (1 + t) (by omega) (by omega)
          rw [show 5 * x + (1 + t) = 5 * x + 1 + t by omega, show 5 * x + (1 + t - 1) = 5 * x + t by omega] at u
          exact ⟨(un_n (by omega)).trans ((un_n (by omega)).trans u.1), (pk_un (by omega)).trans ((pk_un (by omega)).trans u.2)⟩
      · dsimp only
        by_cases hby : bl (6 * y) < 100
        · have w := b1 hby
          rw [if_pos (by rw [w.1]; exact hch hby), if_pos hby, if_pos (hlf.mpr hby)]
          show bl2 (6 * x) :: sg_l bl2 (6 * x + 1) (kc x + 1) = _
          rw [w.1]
          refine congrArg _ (sg_cong _ _ _ (fun t ht => ?_))
          rw [show 6 * x + 1 + t = 6 * x + (t + 1) by omega]
          exact w.2 t (by omega)
        · rw [if_neg (by rw [b2 (by omega)]; exact fun h => hby (hlf.mp h)), if_neg hby]
    · unfold gp_c
      rw [un_s]
      refine Prod.ext ?_ ?_
      · dsimp only
        refine sg_kv (fun t ht => ?_)
        have u := k2 (5 * y + t) (by omega)
        exact ⟨(un_n (by omega)).trans ((un_n (by omega)).trans u.1), (pk_un (by omega)).trans ((pk_un (by omega)).trans u.2)⟩
      · dsimp only
        rw [show bl2 (6 * y) = bl (6 * y) from b3 _ (by omega), sg_cong (f := bl2) (g := bl) (f + 1) (6 * y) (6 * y) (fun t ht => b3 _ (by omega))]
    · unfold gp_c
      rw [un_n hay, un_n hax, hn]
      refine Prod.ext ?_ ?_
      · dsimp only
        rw [sg_mid (i := i) _ _ hi]
        refine congr (congrArg _ ?_) (congr (congrArg _ ?_) ?_)
        · refine sg_kv (fun t ht => ?_)
          have u := k2 (5 * a + t) (by omega)
          exact ⟨(un_n (by omega)).trans ((un_n (by omega)).trans u.1), (pk_un (by omega)).trans ((pk_un (by omega)).trans u.2)⟩
        · rw [un_s, pk_us]
        · refine sg_kv (fun t ht => ?_)
          have u := k2 (5 * a + i + 1 + t) (by omega)
          exact ⟨(un_n (by omega)).trans ((un_n (by omega)).trans u.1), (pk_un (by omega)).trans ((pk_un (by omega)).trans u.2)⟩
      · dsimp only
        rw [if_pos (by rw [b3 _ (by omega)]; exact hb)]
        exact sg_cong _ _ _ (fun t ht => b3 _ (by omega))
    · have h5 := gs.1 q
      refine gp_eq ((un_n q2).trans (un_n q1)) (fun t ht => ?_) (fun t ht => b3 _ (by omega))
      have u := k2 (5 * q + t) (by omega)
      exact ⟨(un_n (by omega)).trans ((un_n (by omega)).trans u.1), (pk_un (by omega)).trans ((pk_un (by omega)).trans u.2)⟩
  unfold wpX_takeFromLeft
  simp (disch := omega) only [forall_eq, true_and, ea_1, ea_6, pk_mul, nI_add, pk_sub, nI_clamp, eu_Nr, eu_Pr, ea_inT, ex, ey, eu_pn, hf]
  refine xw_isLeaf hx (fun hbx => ?_) (fun hbx => ?_)
  · refine br_t rfl ⟨kc x + 1 + 1, ?_⟩
    refine xw_tl54 hx (kc x + 1) bl (by omega) (fun bl2 b1 b2 => ?_)
    have w1 := b2 (6 * y + (f + 1)) (by omega)
    have hbr := hch (hlf.mp hbx)
    rw [wX_takeFromLeft_54]
    refine br_t (by decide +kernel) ?_
    simp (disch := omega) only [forall_eq, true_implies, false_implies, not_true_eq_false, not_false_eq_true, and_true, true_and, ea_0, ea_1, ea_2, ea_3, ea_4, ea_5, ea_6, ea_24, ea_99, ea_100, ea_300, ea_n1, ea_n2, pk_mul, nI_add, pk_sub, ea_m1, nI_clamp, eu_Nr, eu_Br, eu_Pr, eu_pn, eu_nb, eu_i8, eu_pb, eu_pi, eu_vb0, eu_vb1, eu_vbb, eu_Nu, eu_Pu, eu_Pun, eu_Bu, eu_Bu0, eu_Bu1, ea_inT, nI_leI, Nat.zero_le, nI_ltI, nI_eq, eu_pl, eu_pg, eu_p2, eu_b0, w1]
    refine part2 _ (fun _ => ⟨un_s, fun t ht => (un_n (by omega)).trans (b1 (t + 1) (by omega) (by omega))⟩) (fun h => absurd (hlf.mp hbx) (by omega)) (fun j hj => (un_n (by omega)).trans (b2 j (by omega)))
  · refine br_f (by decide) ?_
    exact part2 bl (fun h => absurd (hlf.mpr h) (by omega)) (fun _ => rfl) (fun _ _ => rfl)
theorem xw_tr141 {we : Nat} {kc : Nat → Nat} {ks : Nat → Nat} {vs : Nat → Int32} {fr : Nat → Bool} {us : Nat → Bool} {mr : Nat → Nat} {ms : Nat → Nat} {mn : Nat → Nat} {mv : Nat → Bool} {ro : Nat → Nat} {sz : Nat → Nat} {nu : Nat → Nat} {wp : Nat → Nat} {wi : Nat → Nat} {wa : Nat → Nat} {post : SX → Prop} {y : Nat} (hy : y < 100) (h4 : kc y ≤ 5) : ∀ (d k : Nat) (bl : Nat → Nat), k + d = kc y →
    (∀ (bl' : Nat → Nat), (∀ t, k ≤ t → t < kc y → bl' (6 * y + t) = bl (6 * y + t + 1)) → (∀ j, (j < 6 * y + k ∨ 6 * y + kc y ≤ j) → bl' j = bl j) → wX_takeFromRight_187 post (nI y) (nI we) (eu_N kc) (eu_N ks) vs (eu_P bl') (eu_B fr) (eu_B us) (eu_P mr) (eu_N ms) (eu_N mn) (eu_B mv) (eu_P ro) (eu_N sz) (eu_N nu) (eu_N wp) (eu_N wi) (eu_P wa)) →
    wX_takeFromRight_141 post (nI y) (nI we) (d + 1) (nI k) (eu_N kc) (eu_N ks) vs (eu_P bl) (eu_B fr) (eu_B us) (eu_P mr) (eu_N ms) (eu_N mn) (eu_B mv) (eu_P ro) (eu_N sz) (eu_N nu) (eu_N wp) (eu_N wi) (eu_P wa) := by
  intro d
  induction d with
  | zero =>
    intro k bl hd K
    rw [wX_takeFromRight_141]
    refine ⟨vp_in_nI hy (by omega), br_t ?_ (K bl (fun t h1 h2 => absurd h1 (by omega)) (fun _ _ => rfl))⟩
    rw [nI_clamp (by omega)]
    exact nI_le (by omega) (by omega)
  | succ d ih =>
    intro k bl hd K
    rw [wX_takeFromRight_141]
    refine ⟨vp_in_nI hy (by omega), br_f ?_ ?_⟩
    · rw [nI_clamp (by omega)]
      exact nI_ge (by omega) (by omega)
    simp (disch := omega) only [forall_eq, true_implies, false_implies, not_true_eq_false, not_false_eq_true, and_true, true_and, ea_0, ea_1, ea_2, ea_3, ea_4, ea_5, ea_6, ea_24, ea_99, ea_100, ea_300, ea_n1, ea_n2, pk_mul, nI_add, pk_sub, ea_m1, nI_clamp, eu_Nr, eu_Br, eu_Pr, eu_pn, eu_nb, eu_i8, eu_pb, eu_pi, eu_vb0, eu_vb1, eu_vbb, eu_Nu, eu_Pu, eu_Pun, eu_Bu, eu_Bu0, eu_Bu1, ea_inT, nI_leI, Nat.zero_le, nI_ltI, nI_eq, eu_pl, eu_pg, eu_p2, eu_b0]
    refine ih (k + 1) _ (by omega) (fun bl' b1 b2 => K bl' (fun t h1 h2 => ?_) (fun j hj => (b2 j (by omega)).trans (un_n (by omega))))
    by_cases e' : t = k
    · subst e'
      exact (b2 _ (by omega)).trans un_s
    · exact (b1 t (by omega) h2).trans (un_n (by omega))
theorem xw_takeR {we : Nat} {kc : Nat → Nat} {ks : Nat → Nat} {vs : Nat → Int32} {bl : Nat → Nat} {fr : Nat → Bool} {us : Nat → Bool} {mr : Nat → Nat} {ms : Nat → Nat} {mn : Nat → Nat} {mv : Nat → Bool} {ro : Nat → Nat} {sz : Nat → Nat} {nu : Nat → Nat} {wp : Nat → Nat} {wi : Nat → Nat} {wa : Nat → Nat} {post : SX → Prop} {a i x y n f : Nat} (gs : gs_b kc ks) (ha : a < 100) (hx : x < 100) (hy : y < 100) (hax : a ≠ x) (hay : a ≠ y) (hxy : x ≠ y) (ex : bl (6 * a + i) = x) (ey : bl (6 * a + i + 1) = y)
    (hn : kc a = n) (h4 : n ≤ 4) (hi : i < n) (he : kc x ≤ 3) (hf : kc y = f + 1) (hf4 : f ≤ 3) (hb : bl (6 * a) < 100) (hlf : bl (6 * x) < 100 ↔ bl (6 * y) < 100) (hch : bl (6 * y) < 100 → bl (6 * y + 1) < 100)
    (K : ∀ (kc' ks' : Nat → Nat) (vs' : Nat → Int32) (bl' : Nat → Nat), gs_b kc' ks' →
      gp_c kc' ks' vs' bl' x = ((gp_c kc ks vs bl x).1 ++ [(ks (5 * a + i), vs (5 * a + i))], if bl (6 * y) < 100 then (gp_c kc ks vs bl x).2 ++ [bl (6 * y)] else []) →
      gp_c kc' ks' vs' bl' y = (sg_l (fun j => (ks j, vs j)) (5 * y + 1) f, if bl (6 * y) < 100 then sg_l bl (6 * y + 1) (f + 1) else []) →
      gp_c kc' ks' vs' bl' a = (sg_l (fun j => (ks j, vs j)) (5 * a) i ++ (ks (5 * y), vs (5 * y)) :: sg_l (fun j => (ks j, vs j)) (5 * a + i + 1) (n - i - 1), sg_l bl (6 * a) (n + 1)) →
      (∀ q, q ≠ x → q ≠ y → q ≠ a → gp_c kc' ks' vs' bl' q = gp_c kc ks vs bl q) → post ((nI we), (eu_N kc'), (eu_N ks'), vs', (eu_P bl'), (eu_B fr), (eu_B us), (eu_P mr), (eu_N ms), (eu_N mn), (eu_B mv), (eu_P ro), (eu_N sz), (eu_N nu), (eu_N wp), (eu_N wi), (eu_P wa))) : wpX_takeFromRight post ((nI we), (eu_N kc), (eu_N ks), vs, (eu_P bl), (eu_B fr), (eu_B us), (eu_P mr), (eu_N ms), (eu_N mn), (eu_B mv), (eu_P ro), (eu_N sz), (eu_N nu), (eu_N wp), (eu_N wi), (eu_P wa)) (nI a) (nI i) := by
  have hka := gs.2 (5 * a + i)
  have hky := gs.2 (5 * y)
  have u1 : un_f ks (5 * x + kc x) (ks (5 * a + i)) (5 * y) = ks (5 * y) := un_n (by omega)
  have u2 : upd vs (5 * x + kc x) (vs (5 * a + i)) (5 * y) = vs (5 * y) := pk_un (by omega)
  have u3 : un_f kc x (kc x + 1) y = f + 1 := (un_n (fun e => hxy e.symm)).trans hf
  have part3 : ∀ (bl3 : Nat → Nat), (bl (6 * y) < 100 → bl3 (6 * x + kc x + 1) = bl (6 * y) ∧ ∀ t, t ≤ f → bl3 (6 * y + t) = bl (6 * y + t + 1)) → (100 ≤ bl (6 * y) → bl3 (6 * y) = bl (6 * y)) → (∀ j, (j < 6 * x + kc x + 1 ∨ 6 * x + kc x + 1 < j) → (j < 6 * y ∨ 6 * y + 6 ≤ j) → bl3 j = bl j) →
      wX_takeFromRight_187 post (nI y) (nI we) (eu_N (un_f kc x (kc x + 1))) (eu_N (un_f (un_f ks (5 * x + kc x) (ks (5 * a + i))) (5 * a + i) (ks (5 * y)))) (upd (upd vs (5 * x + kc x) (vs (5 * a + i))) (5 * a + i) (vs (5 * y))) (eu_P bl3) (eu_B fr) (eu_B us) (eu_P mr) (eu_N ms) (eu_N mn) (eu_B mv) (eu_P ro) (eu_N sz) (eu_N nu) (eu_N wp) (eu_N wi) (eu_P wa) := by
    intro bl3 b1 b2 b3
    have hk3 : ∀ j, un_f (un_f ks (5 * x + kc x) (ks (5 * a + i))) (5 * a + i) (ks (5 * y)) j < 100 := by
      intro j
      by_cases e : j = 5 * a + i
      · rw [e, un_s]; exact hky
      · rw [un_n e]
        by_cases e : j = 5 * x + kc x
        · rw [e, un_s]; exact hka
        · rw [un_n e]; exact gs.2 j
    unfold wX_takeFromRight_187
    rw [ea_0]
    refine xw_closePlace hy u3 (by omega) (by omega) hk3 (fun ks4 vs4 hk4 k1 k2 => ?_)
    dsimp only
    refine K _ _ _ _ ⟨fun p => ?_, hk4⟩ ?_ ?_ ?_ (fun q q1 q2 q3 => ?_)
    · by_cases e : p = y
      · rw [e, un_s]; omega
      · rw [un_n e]
        by_cases e : p = x
        · rw [e, un_s]; omega
        · rw [un_n e]; exact gs.1 p
    · unfold gp_c
      rw [un_n hxy, un_s]
      refine Prod.ext ?_ ?_
      · dsimp only
        rw [sg_app]
        refine congr (congrArg _ ?_) ?_
        · refine sg_kv (fun t ht => ?_)
          have u := k2 (5 * x + t) (by omega)
          exact ⟨u.1.trans ((un_n (by omega)).trans (un_n (by omega))), u.2.trans ((pk_un (by omega)).trans (pk_un (by omega)))⟩
        · show [(ks4 (5 * x + kc x), vs4 (5 * x + kc x))] = _
          have u := k2 (5 * x + kc x) (by omega)
          rw [u.1, u.2, un_n (by omega), pk_un (by omega), un_s, pk_us]
      · dsimp only
        have w0 : bl3 (6 * x) = bl (6 * x) := b3 _ (by omega) (by omega)
        rw [w0]
        by_cases hby : bl (6 * y) < 100
        · have w := b1 hby
          rw [if_pos (hlf.mpr hby), if_pos hby, if_pos (hlf.mpr hby), sg_app]
          refine congr (congrArg _ ?_) ?_
          · exact sg_cong _ _ _ (fun t ht => b3 _ (by omega) (by omega))
          · show [bl3 (6 * x + (kc x + 1))] = _
            rw [show 6 * x + (kc x + 1) = 6 * x + kc x + 1 by omega, w.1]
        · rw [if_neg (fun h => hby (hlf.mp h)), if_neg hby]
    · unfold gp_c
      rw [un_s]
      refine Prod.ext ?_ ?_
      · dsimp only
        refine sg_kv (fun t ht => ?_)
        have u := k1 t (by omega) ht
        rw [show 5 * y + 1 + t = 5 * y + t + 1 by omega]
        exact ⟨u.1.trans ((un_n (by omega)).trans (un_n (by omega))), u.2.trans ((pk_un (by omega)).trans (pk_un (by omega)))⟩
      · dsimp only
        by_cases hby : bl (6 * y) < 100
        · have w := b1 hby
          have w0 : bl3 (6 * y) = bl (6 * y + 1) := w.2 0 (by omega)
          rw [if_pos (by rw [w0]; exact hch hby), if_pos hby]
          refine sg_cong _ _ _ (fun t ht => ?_)
          rw [show 6 * y + 1 + t = 6 * y + t + 1 by omega]
          exact w.2 t (by omega)
        · rw [if_neg (by rw [b2 (by omega)]; exact hby), if_neg hby]
    · unfold gp_c
      rw [un_n hay, un_n hax, hn]
      refine Prod.ext ?_ ?_
      · dsimp only
        rw [sg_mid (i := i) _ _ hi]
        refine congr (congrArg _ ?_) (congr (congrArg _ ?_) ?_)
        · refine sg_kv (fun t ht => ?_)
          have u := k2 (5 * a + t) (by omega)
          exact ⟨u.1.trans ((un_n (by omega)).trans (un_n (by omega))), u.2.trans ((pk_un (by omega)).trans (pk_un (by omega)))⟩
        · have u := k2 (5 * a + i) (by omega)
          rw [u.1, u.2, un_s, pk_us]
        · refine sg_kv (fun t ht => ?_)
          have u := k2 (5 * a + i + 1 + t) (by omega)
          exact ⟨u.1.trans ((un_n (by omega)).trans (un_n (by omega))), u.2.trans ((pk_un (by omega)).trans (pk_un (by omega)))⟩
      · dsimp only
        rw [if_pos (by rw [b3 _ (by omega) (by omega)]; exact hb)]
        exact sg_cong _ _ _ (fun t ht => b3 _ (by omega) (by omega))
    · have h5 := gs.1 q
      refine gp_eq ((un_n q2).trans (un_n q1)) (fun t ht => ?_) (fun t ht => b3 _ (by omega) (by omega))
      have u := k2 (5 * q + t) (by omega)
      exact ⟨u.1.trans ((un_n (by omega)).trans (un_n (by omega))), u.2.trans ((pk_un (by omega)).trans (pk_un (by omega)))⟩
  have part2 : ∀ (bl2 : Nat → Nat), (bl (6 * y) < 100 → bl2 (6 * x + kc x + 1) = bl (6 * y)) → (∀ j, (j < 6 * x + kc x + 1 ∨ 6 * x + kc x + 1 < j) → bl2 j = bl j) →
      wX_takeFromRight_94 post (nI a) (nI i) (nI x) (nI y) (nI we) (eu_N kc) (eu_N (un_f ks (5 * x + kc x) (ks (5 * a + i)))) (upd vs (5 * x + kc x) (vs (5 * a + i))) (eu_P bl2) (eu_B fr) (eu_B us) (eu_P mr) (eu_N ms) (eu_N mn) (eu_B mv) (eu_P ro) (eu_N sz) (eu_N nu) (eu_N wp) (eu_N wi) (eu_P wa) := by
    intro bl2 b1 b2
    have w0 : bl2 (6 * y) = bl (6 * y) := b2 _ (by omega)
    unfold wX_takeFromRight_94
    simp (disch := omega) only [forall_eq, true_implies, false_implies, not_true_eq_false, not_false_eq_true, and_true, true_and, ea_0, ea_1, ea_2, ea_3, ea_4, ea_5, ea_6, ea_24, ea_99, ea_100, ea_300, ea_n1, ea_n2, pk_mul, nI_add, pk_sub, ea_m1, nI_clamp, eu_Nr, eu_Br, eu_Pr, eu_pn, eu_nb, eu_i8, eu_pb, eu_pi, eu_vb0, eu_vb1, eu_vbb, eu_Nu, eu_Pu, eu_Pun, eu_Bu, eu_Bu0, eu_Bu1, ea_inT, nI_leI, Nat.zero_le, nI_ltI, nI_eq, eu_pl, eu_pg, eu_p2, eu_b0, u1, u2]
    refine xw_putAt ha (by omega) (by omega) ?_
    dsimp only
    refine xw_isLeaf hy (fun hby => ?_) (fun hby => ?_)
    · rw [w0] at hby
      refine br_t rfl ⟨f + 1 + 1, ?_⟩
      refine xw_tr141 hy (by rw [u3]; omega) (f + 1) 0 bl2 (by rw [u3]; omega) (fun bl3 b3 b4 => ?_)
      rw [u3] at b3 b4
      exact part3 bl3 (fun h => ⟨(b4 _ (by omega)).trans (b1 h), fun t ht => (b3 t (by omega) (by omega)).trans (b2 _ (by omega))⟩) (fun h => absurd h (by omega)) (fun j j1 j2 => (b4 j (by omega)).trans (b2 j j1))
    · rw [w0] at hby
      refine br_f (by decide) ?_
      exact part3 bl2 (fun h => absurd h (by omega)) (fun _ => w0) (fun j j1 _ => b2 j j1)
  unfold wpX_takeFromRight
  simp (disch := omega) only [forall_eq, true_and, ea_1, ea_5, ea_6, pk_mul, nI_add, nI_clamp, eu_Nr, eu_Pr, ea_inT, ex, ey, eu_pn]
  refine xw_putAt hx (by omega) (by omega) ?_
  dsimp only
  refine xw_isLeaf hx (fun hbx => ?_) (fun hbx => ?_)
  · have hby := hlf.mp hbx
    refine br_t rfl ?_
    simp (disch := omega) only [forall_eq, true_implies, false_implies, not_true_eq_false, not_false_eq_true, and_true, true_and, ea_0, ea_1, ea_2, ea_3, ea_4, ea_5, ea_6, ea_24, ea_99, ea_100, ea_300, ea_n1, ea_n2, pk_mul, nI_add, pk_sub, ea_m1, nI_clamp, eu_Nr, eu_Br, eu_Pr, eu_pn, eu_nb, eu_i8, eu_pb, eu_pi, eu_vb0, eu_vb1, eu_vbb, eu_Nu, eu_Pu, eu_Pun, eu_Bu, eu_Bu0, eu_Bu1, ea_inT, nI_leI, Nat.zero_le, nI_ltI, nI_eq, eu_pl, eu_pg, eu_p2, eu_b0]
    refine part2 _ (fun _ => un_s) (fun j hj => un_n (by omega))
  · refine br_f (by decide) ?_
    exact part2 bl (fun h => absurd (hlf.mpr h) (by omega)) (fun _ _ => rfl)
end
section
/-! a parent and the children around a place: one child of content J, or two with J cut -/
theorem tr_l100 {g : Nat → pg_T} : ∀ h p, tr_sh g h p → ∀ q, q ∈ tr_pg g h p → q < 100 := by
  intro h
  induction h with
  | zero =>
    intro p hs q hq
    have e : q = p := List.mem_singleton.mp hq
    rw [e]; exact hs.1
  | succ h ih =>
    intro p hs q hq
    have hs' : p < 100 ∧ (g p).2.length = (g p).1.length + 1 ∧ ∀ c, c ∈ (g p).2 → tr_sh g h c := hs
    have hq' : q ∈ p :: (g p).2.flatMap (tr_pg g h) := hq
    rcases List.mem_cons.mp hq' with e | m
    · rw [e]; exact hs'.1
    · obtain ⟨c, hc, hqc⟩ := List.mem_flatMap.mp m
      exact ih c (hs'.2.2 c hc) q hqc
theorem tr_ptd {g : Nat → pg_T} {wp wi : Nat → Nat} {H : Nat} (hs : tr_sh g H (wp 0)) : ∀ l, l ≤ H → tr_pt g wp wi l → (∃ lf rt ps, tr_cx g H (wp 0) (H - l) (wp l) lf rt ps ∧ ∀ j, j < l → wp j ∈ ps) ∧ tr_sh g (H - l) (wp l) := by
  intro l
  induction l with
  | zero => intro _ _; exact ⟨⟨[], [], [], tr_cx0, fun j hj => absurd hj (by omega)⟩, hs⟩
  | succ l ih =>
    intro hl hp
    obtain ⟨⟨lf, rt, ps, hc, hw⟩, hsl⟩ := ih (by omega) (fun j hj => hp j (by omega))
    have e : H - l = (H - (l + 1)) + 1 := by omega
    rw [e] at hc hsl
    obtain ⟨hx, _, E1, E2, C1, C2, hg, l1, l2⟩ := tr_shc hsl (hp l (by omega))
    refine ⟨⟨_, _, _, tr_cxs hc hsl hg (l1.trans l2.symm), fun j hj => ?_⟩, hx⟩
    by_cases ej : j = l
    · rw [ej]; exact List.mem_append_right _ (List.mem_cons_self ..)
    · exact List.mem_append_left _ (hw j (by omega))
theorem tr_pps {g : Nat → pg_T} {h p i x q : Nat} (hi : (g p).2[i]? = some x) (hq : q ∈ tr_pg g h x) : q ∈ tr_pp g (h + 1) (g p) :=
  List.mem_flatMap.mpr ⟨x, List.mem_of_getElem? hi, hq⟩
theorem tr_dn {g : Nat → pg_T} {wp wi : Nat → Nat} {H m : Nat} (hm : m ≤ H) (hp : tr_pt g wp wi m) : ∀ d l, l + 1 + d ≤ m → wp (l + 1 + d) ∈ tr_pp g (H - l) (g (wp l)) := by
  intro d
  induction d with
  | zero =>
    intro l hl
    rw [show H - l = (H - (l + 1)) + 1 by omega]
    exact tr_pps (hp l (by omega)) (tr_pgs _ _ _)
  | succ d ih =>
    intro l hl
    have h1 := ih (l + 1) (by omega)
    rw [show H - l = (H - (l + 1)) + 1 by omega]
    refine tr_pps (hp l (by omega)) ?_
    rw [tr_pge, show l + 1 + (d + 1) = l + 1 + 1 + d by omega]
    exact List.mem_cons_of_mem _ h1
def bs_I (g : Nat → pg_T) (H r h a : Nat) (lf rt : List kv_T) (ps : List Nat) (E1 E2 : List kv_T) (C1 C2 : List Nat) (J : pg_T) : Prop :=
  tr_cx g H r (h + 1) a lf rt ps ∧ (∀ c, c ∈ C1 → tr_sh g h c) ∧ (∀ c, c ∈ C2 → tr_sh g h c) ∧ tr_ps g h J ∧ E1.length = C1.length ∧ E2.length = C2.length
def bs_U (g : Nat → pg_T) (h : Nat) (ps C1 C2 : List Nat) (J : pg_T) : List Nat := ps ++ (C1.flatMap (tr_pg g h) ++ (tr_pp g h J ++ C2.flatMap (tr_pg g h)))
def bs_F (g : Nat → pg_T) (h : Nat) (lf rt E1 E2 : List kv_T) (C1 C2 : List Nat) (J : pg_T) : List kv_T := lf ++ ((wl_l E1 (C1.map (tr_fl g h)) ++ (tr_pf g h J ++ wr_l E2 (C2.map (tr_fl g h)))) ++ rt)
theorem bs_V1 {g g' : Nat → pg_T} {H r h a x : Nat} {lf rt : List kv_T} {ps : List Nat} {E1 E2 : List kv_T} {C1 C2 : List Nat} {J : pg_T} (I : bs_I g H r h a lf rt ps E1 E2 C1 C2 J) (hu : ∀ q, q ∈ bs_U g h ps C1 C2 J → g' q = g q)
    (ha : a < 100) (hx : x < 100) (hga : g' a = (E1 ++ E2, C1 ++ x :: C2)) (hgx : g' x = J) :
    tr_fl g' H r = bs_F g h lf rt E1 E2 C1 C2 J ∧ tr_sh g' H r ∧ (tr_pg g' H r).Perm (a :: x :: bs_U g h ps C1 C2 J) := by
  obtain ⟨hc, s1, s2, sJ, l1, l2⟩ := I
  have k1 := tr_frl (g := g) (g' := g') (h := h) (C := C1) (fun q m => hu q (List.mem_append_right _ (List.mem_append_left _ m)))
  have k2 := tr_frl (g := g) (g' := g') (h := h) (C := C2) (fun q m => hu q (List.mem_append_right _ (List.mem_append_right _ (List.mem_append_right _ m))))
  have kJ := tr_frc (g := g) (g' := g') (h := h) (c := J) (fun q m => hu q (List.mem_append_right _ (List.mem_append_right _ (List.mem_append_left _ m))))
  obtain ⟨f, p, s⟩ := hc g' (fun q m => hu q (List.mem_append_left _ m))
  obtain ⟨v1, v2⟩ := tr_v1 (h := h) hga hgx l1
  refine ⟨?_, ?_, ?_⟩
  · rw [f, v1, k1.1, k2.1, kJ.1]
    rfl
  · refine s ?_
    show a < 100 ∧ (g' a).2.length = (g' a).1.length + 1 ∧ ∀ c, c ∈ (g' a).2 → tr_sh g' h c
    rw [hga]
    refine ⟨ha, ?_, fun c m => ?_⟩
    · simp only [List.length_append, List.length_cons]; omega
    · rcases List.mem_append.mp m with m | m
      · exact k1.2.2 s1 c m
      · rcases List.mem_cons.mp m with m | m
        · rw [m, tr_she, hgx]; exact ⟨hx, kJ.2.2 sJ⟩
        · exact k2.2.2 s2 c m
  · refine p.trans ?_
    rw [v2, k1.2.1, k2.2.1, kJ.2.1]
    unfold bs_U
    refine List.perm_middle.trans (List.Perm.cons a ?_)
    rw [List.cons_append, ← List.append_assoc]
    refine List.perm_middle.trans (List.Perm.cons x ?_)
    rw [List.append_assoc]
theorem bs_V2 {g g' : Nat → pg_T} {H r h a x y : Nat} {lf rt : List kv_T} {ps : List Nat} {E1 E2 X1 X2 : List kv_T} {m : kv_T} {C1 C2 D1 D2 : List Nat} {J : pg_T} (I : bs_I g H r h a lf rt ps E1 E2 C1 C2 J) (hu : ∀ q, q ∈ bs_U g h ps C1 C2 J → g' q = g q)
    (ha : a < 100) (hx : x < 100) (hy : y < 100) (hga : g' a = (E1 ++ m :: E2, C1 ++ x :: y :: C2)) (hgx : g' x = (X1, D1)) (hgy : g' y = (X2, D2)) (hJ : J = (X1 ++ m :: X2, D1 ++ D2)) (hD : D1.length = if h = 0 then 0 else X1.length + 1) :
    tr_fl g' H r = bs_F g h lf rt E1 E2 C1 C2 J ∧ tr_sh g' H r ∧ (tr_pg g' H r).Perm (y :: a :: x :: bs_U g h ps C1 C2 J) := by
  obtain ⟨hc, s1, s2, sJ, l1, l2⟩ := I
  have k1 := tr_frl (g := g) (g' := g') (h := h) (C := C1) (fun q m => hu q (List.mem_append_right _ (List.mem_append_left _ m)))
  have k2 := tr_frl (g := g) (g' := g') (h := h) (C := C2) (fun q m => hu q (List.mem_append_right _ (List.mem_append_right _ (List.mem_append_right _ m))))
  have kJ := tr_frc (g := g) (g' := g') (h := h) (c := J) (fun q m => hu q (List.mem_append_right _ (List.mem_append_right _ (List.mem_append_left _ m))))
  obtain ⟨f, p, s⟩ := hc g' (fun q m => hu q (List.mem_append_left _ m))
  subst hJ
  obtain ⟨t1, t2⟩ := tr_un (kJ.2.2 sJ) hD
  obtain ⟨v1, v2⟩ := tr_v2 (h := h) hga hgx hgy l1 t1 t2
  refine ⟨?_, ?_, ?_⟩
  · rw [f, v1, k1.1, k2.1, kJ.1]
    rfl
  · refine s ?_
    show a < 100 ∧ (g' a).2.length = (g' a).1.length + 1 ∧ ∀ c, c ∈ (g' a).2 → tr_sh g' h c
    rw [hga]
    refine ⟨ha, ?_, fun c m => ?_⟩
    · simp only [List.length_append, List.length_cons]; omega
    · rcases List.mem_append.mp m with m | m
      · exact k1.2.2 s1 c m
      · rcases List.mem_cons.mp m with m | m
        · rw [m, tr_she, hgx]; exact ⟨hx, t1⟩
        · rcases List.mem_cons.mp m with m | m
          · rw [m, tr_she, hgy]; exact ⟨hy, t2⟩
          · exact k2.2.2 s2 c m
  · refine p.trans ((List.Perm.append_left ps v2).trans ?_)
    rw [k1.2.1, k2.2.1, kJ.2.1]
    unfold bs_U
    refine List.perm_middle.trans (List.Perm.cons y ?_)
    refine List.perm_middle.trans (List.Perm.cons a ?_)
    rw [List.cons_append, ← List.append_assoc]
    refine List.perm_middle.trans (List.Perm.cons x ?_)
    rw [List.append_assoc]
/-- the place at level l of a way, for the child that the way goes on to -/
theorem bs_pt {g : Nat → pg_T} {wp wi : Nat → Nat} {H l : Nat} (hs : tr_sh g H (wp 0)) (hl : l + 1 ≤ H) (hp : tr_pt g wp wi (l + 1)) :
    ∃ lf rt ps E1 E2 C1 C2, bs_I g H (wp 0) (H - (l + 1)) (wp l) lf rt ps E1 E2 C1 C2 (g (wp (l + 1))) ∧ g (wp l) = (E1 ++ E2, C1 ++ wp (l + 1) :: C2) ∧ E1.length = wi l ∧ C1.length = wi l ∧ (∀ j, j < l → wp j ∈ ps) ∧ wp l < 100 ∧ wp (l + 1) < 100 := by
  obtain ⟨⟨lf, rt, ps, hc, hw⟩, hsl⟩ := tr_ptd hs l (by omega) (fun j hj => hp j (by omega))
  have e : H - l = (H - (l + 1)) + 1 := by omega
  rw [e] at hc hsl
  obtain ⟨hx, _, E1, E2, C1, C2, hg, l1, l2⟩ := tr_shc hsl (hp l (by omega))
  have hs' : wp l < 100 ∧ (g (wp l)).2.length = (g (wp l)).1.length + 1 ∧ ∀ c, c ∈ (g (wp l)).2 → tr_sh g (H - (l + 1)) c := hsl
  rw [hg] at hs'
  have hlen := hs'.2.1
  simp only [List.length_append, List.length_cons] at hlen
  refine ⟨lf, rt, ps, E1, E2, C1, C2, ⟨hc, fun c m => hs'.2.2 c (List.mem_append_left _ m), fun c m => hs'.2.2 c (List.mem_append_right _ (List.mem_cons_of_mem _ m)), ((tr_she _ _ _).mp hx).2, by omega, by omega⟩, hg, l1, l2, hw, hs'.1, tr_100 hx⟩
/-- the others' trees -/
def ot_I (G g : Nat → pg_T) (rc hs : Nat → Nat) (F : List Nat) : Prop := (F.length ≤ 60 ∧ ∀ q, q ∈ F → g q = G q) ∧ (∀ s, s < 6 → s ≠ 3 → rc s < 100 → tr_sh g (hs s) (rc s) ∧ (tr_pg g (hs s) (rc s)).length ≤ 12 ∧ ∀ q, q ∈ tr_pg g (hs s) (rc s) → q ∈ F) ∧
  (∀ q, q ∈ F → ∃ s, s < 6 ∧ s ≠ 3 ∧ rc s < 100 ∧ q ∈ tr_pg g (hs s) (rc s))
theorem ot_fr {g g' : Nat → pg_T} {rc rc' hs hs' : Nat → Nat} {G : Nat → pg_T} {F : List Nat} (I : ot_I G g rc hs F) (hg : ∀ q, q ∈ F → g' q = g q) (hr : ∀ s, s ≠ 3 → rc' s = rc s ∧ hs' s = hs s) : ot_I G g' rc' hs' F := by
  obtain ⟨h1, h2, h3⟩ := I
  refine ⟨⟨h1.1, fun q hq => (hg q hq).trans (h1.2 q hq)⟩, fun s s1 s2 s3 => ?_, fun q hq => ?_⟩
  · rw [(hr s s2).1] at s3
    rw [(hr s s2).1, (hr s s2).2]
    obtain ⟨a, b, c⟩ := h2 s s1 s2 s3
    have k := tr_fr (g := g) (g' := g') (hs s) (rc s) (fun q m => hg q (c q m))
    rw [k.2.1]
    exact ⟨k.2.2 a, b, c⟩
  · obtain ⟨s, s1, s2, s3, m⟩ := h3 q hq
    refine ⟨s, s1, s2, ?_, ?_⟩
    · rw [(hr s s2).1]; exact s3
    · rw [(hr s s2).1, (hr s s2).2, (tr_fr (g := g) (g' := g') (hs s) (rc s) (fun q m => hg q ((h2 s s1 s2 s3).2.2 q m))).2.1]
      exact m
theorem rc_3 {ro ro' : Nat → Nat} {mv : Nat → Bool} {mr : Nat → Nat} (h : ∀ s, s ≠ 3 → ro' s = ro s) (s : Nat) (hs : s ≠ 3) : rc_f ro' mv mr s = rc_f ro mv mr s := by
  unfold rc_f
  rw [h s hs]
/-- the writer's tree while it is being changed -/
def wt_I (g : Nat → pg_T) (fr : Nat → Bool) (F C : List Nat) (H r : Nat) : Prop := tr_sh g H r ∧ (tr_pg g H r).Nodup ∧ (∀ q, q ∈ tr_pg g H r → fr q = true ∨ q ∈ C) ∧ (∀ q, q < 100 → fr q = true → q ∈ tr_pg g H r) ∧ (∀ q, q ∈ F → fr q = false) ∧ (∀ q, q ∈ C → q ∈ F)
/-- what a new page asks, out of the two -/
theorem np_ok {g : Nat → pg_T} {fr : Nat → Bool} {rc hs : Nat → Nat} {G : Nat → pg_T} {F C : List Nat} (O : ot_I G g rc hs F) (W : wt_I g fr F C (hs 3) (rc 3)) (hw : (tr_pg g (hs 3) (rc 3)).length ≤ 30) :
    li_ok g hs rc ∧ (F ++ tr_pg g (hs 3) (rc 3)).length ≤ 97 ∧ (∀ s, s < 6 → rc s < 100 → ∀ q, q ∈ tr_pg g (hs s) (rc s) → q ∈ F ++ tr_pg g (hs 3) (rc 3)) ∧ (∀ q, q < 100 → fr q = true → q ∈ F ++ tr_pg g (hs 3) (rc 3)) := by
  refine ⟨fun s s1 s2 => ?_, ?_, fun s s1 s2 q hq => ?_, fun q hq hf => List.mem_append_right _ (W.2.2.2.1 q hq hf)⟩
  · by_cases e : s = 3
    · subst e; exact ⟨W.1, by omega⟩
    · have := O.2.1 s s1 e s2
      exact ⟨this.1, by omega⟩
  · rw [List.length_append]
    have := O.1.1
    omega
  · by_cases e : s = 3
    · subst e; exact List.mem_append_right _ hq
    · exact List.mem_append_left _ ((O.2.1 s s1 e s2).2.2 q hq)
/-- a new page is in none of the lists -/
theorem np_new {g : Nat → pg_T} {fr : Nat → Bool} {rc hs : Nat → Nat} {G : Nat → pg_T} {F C : List Nat} {x : Nat} (O : ot_I G g rc hs F) (W : wt_I g fr F C (hs 3) (rc 3)) (hr : rc 3 < 100) (hn : ∀ s, s < 6 → rc s < 100 → x ∉ tr_pg g (hs s) (rc s)) : x ∉ F ∧ x ∉ tr_pg g (hs 3) (rc 3) := by
  refine ⟨fun h => ?_, hn 3 (by omega) hr⟩
  obtain ⟨s, s1, _, s3, m⟩ := O.2.2 x h
  exact hn s s1 s3 m
/-- the pages' lists as they change: from x :: R to c :: R -/
theorem wt_swap {g g' : Nat → pg_T} {fr : Nat → Bool} {F C : List Nat} {H r H' r' x c : Nat} {R : List Nat} (W : wt_I g fr F C H r) (hs : tr_sh g' H' r') (p1 : (tr_pg g H r).Perm (x :: R)) (p2 : (tr_pg g' H' r').Perm (c :: R)) (hc : c ∉ tr_pg g H r) (hcF : c ∉ F) (hfx : fr x = false) : wt_I g' (un_f fr c true) F C H' r' := by
  obtain ⟨_, w2, w3, w4, w5, w6⟩ := W
  have hc' : c ∉ x :: R := fun h => hc (p1.mem_iff.mpr h)
  have n1 := (p1.nodup_iff.mp w2)
  rw [List.nodup_cons] at n1
  refine ⟨hs, ?_, fun q hq => ?_, fun q hq hf => ?_, fun q hq => ?_, w6⟩
  · rw [p2.nodup_iff, List.nodup_cons]
    exact ⟨fun h => hc' (List.mem_cons_of_mem _ h), n1.2⟩
  · by_cases e : q = c
    · exact Or.inl (by rw [e]; exact un_s)
    · rcases List.mem_cons.mp (p2.mem_iff.mp hq) with h | h
      · exact absurd h e
      · rw [un_n e]
        exact w3 q (p1.mem_iff.mpr (List.mem_cons_of_mem _ h))
  · rw [p2.mem_iff]
    by_cases e : q = c
    · rw [e]; exact List.mem_cons_self ..
    · rw [un_n e] at hf
      rcases List.mem_cons.mp (p1.mem_iff.mp (w4 q hq hf)) with h | h
      · rw [h, hfx] at hf; exact (nomatch hf)
      · exact List.mem_cons_of_mem _ h
  · rw [un_n (show q ≠ c from fun e => hcF (e ▸ hq))]
    exact w5 q hq
/-- a page more -/
theorem wt_more {g g' : Nat → pg_T} {fr : Nat → Bool} {F C : List Nat} {H r H' r' c : Nat} (W : wt_I g fr F C H r) (hs : tr_sh g' H' r') (p2 : (tr_pg g' H' r').Perm (c :: tr_pg g H r)) (hc : c ∉ tr_pg g H r) (hcF : c ∉ F) : wt_I g' (un_f fr c true) F C H' r' := by
  obtain ⟨_, w2, w3, w4, w5, w6⟩ := W
  refine ⟨hs, ?_, fun q hq => ?_, fun q hq hf => ?_, fun q hq => ?_, w6⟩
  · rw [p2.nodup_iff, List.nodup_cons]
    exact ⟨hc, w2⟩
  · by_cases e : q = c
    · exact Or.inl (by rw [e]; exact un_s)
    · rcases List.mem_cons.mp (p2.mem_iff.mp hq) with h | h
      · exact absurd h e
      · rw [un_n e]
        exact w3 q h
  · rw [p2.mem_iff]
    by_cases e : q = c
    · rw [e]; exact List.mem_cons_self ..
    · rw [un_n e] at hf
      exact List.mem_cons_of_mem _ (w4 q hq hf)
  · rw [un_n (show q ≠ c from fun e => hcF (e ▸ hq))]
    exact w5 q hq
/-- a page less -/
theorem wt_less {g g' : Nat → pg_T} {fr : Nat → Bool} {F C : List Nat} {H r H' r' c : Nat} (W : wt_I g fr F C H r) (hs : tr_sh g' H' r') (p2 : (tr_pg g H r).Perm (c :: tr_pg g' H' r')) : wt_I g' (un_f fr c false) F C H' r' := by
  obtain ⟨_, w2, w3, w4, w5, w6⟩ := W
  have n1 := (p2.nodup_iff.mp w2)
  rw [List.nodup_cons] at n1
  refine ⟨hs, n1.2, fun q hq => ?_, fun q hq hf => ?_, fun q hq => ?_, w6⟩
  · rw [un_n (show q ≠ c from fun e => n1.1 (e ▸ hq))]
    exact w3 q (p2.mem_iff.mpr (List.mem_cons_of_mem _ hq))
  · by_cases e : q = c
    · rw [e, un_s] at hf; exact (nomatch hf)
    · rw [un_n e] at hf
      rcases List.mem_cons.mp (p2.mem_iff.mp (w4 q hq hf)) with h | h
      · exact absurd h e
      · exact h
  · by_cases e : q = c
    · rw [e]; exact un_s
    · rw [un_n e]; exact w5 q hq
/-- the same pages -/
theorem wt_same {g g' : Nat → pg_T} {fr : Nat → Bool} {F C : List Nat} {H r H' r' : Nat} (W : wt_I g fr F C H r) (hs : tr_sh g' H' r') (p2 : (tr_pg g' H' r').Perm (tr_pg g H r)) : wt_I g' fr F C H' r' := by
  obtain ⟨_, w2, w3, w4, w5, w6⟩ := W
  exact ⟨hs, p2.nodup_iff.mpr w2, fun q hq => w3 q (p2.mem_iff.mp hq), fun q hq hf => p2.mem_iff.mpr (w4 q hq hf), w5, w6⟩
end
section
/-! the way is made fresh -/
theorem gp_set {kc ks : Nat → Nat} {vs : Nat → Int32} {bl : Nat → Nat} {a i x c : Nat} {E : List kv_T} {C1 C2 : List Nat} (gs : ∀ p, kc p ≤ 5) (hg : gp_c kc ks vs bl a = (E, C1 ++ x :: C2)) (hi : C1.length = i) (hc : c < 100) :
    bl (6 * a) < 100 ∧ i ≤ kc a ∧ bl (6 * a + i) = x ∧ gp_c kc ks vs (un_f bl (6 * a + i) c) a = (E, C1 ++ c :: C2) ∧ ∀ q, q ≠ a → gp_c kc ks vs (un_f bl (6 * a + i) c) q = gp_c kc ks vs bl q := by
  have e1 : (gp_c kc ks vs bl a).1 = E := by rw [hg]
  have e2 : (gp_c kc ks vs bl a).2 = C1 ++ x :: C2 := by rw [hg]
  have hb : bl (6 * a) < 100 := by
    refine Nat.lt_of_not_le (fun hn => ?_)
    rw [gp_3 hn] at e2
    have := congrArg List.length e2
    simp at this
  rw [gp_2 hb] at e2
  have hik : i ≤ kc a := by
    have := congrArg List.length e2
    rw [sg_len] at this
    simp only [List.length_append, List.length_cons] at this
    omega
  have e3 := e2
  rw [sg_mid (i := i) _ _ (by omega)] at e3
  obtain ⟨f1, f2⟩ := ls_app e3 (by rw [sg_len, hi])
  obtain ⟨f3, f4⟩ := List.cons.inj f2
  refine ⟨hb, hik, f3, ?_, fun q hq => ?_⟩
  · refine Prod.ext e1 ?_
    have hb' : un_f bl (6 * a + i) c (6 * a) < 100 := by
      by_cases e : i = 0
      · rw [e, Nat.add_zero, un_s]; exact hc
      · rw [un_n (by omega)]; exact hb
    rw [gp_2 hb', sg_mid (i := i) _ _ (by omega)]
    dsimp only
    rw [un_s, ← f1, ← f4, sg_cong (f := un_f bl (6 * a + i) c) (g := bl) i (6 * a) (6 * a) (fun t ht => un_n (by omega)), sg_cong (f := un_f bl (6 * a + i) c) (g := bl) _ (6 * a + i + 1) (6 * a + i + 1) (fun t ht => un_n (by omega))]
  · have := gs q
    have := gs a
    exact gp_eq rfl (fun t ht => ⟨rfl, rfl⟩) (fun t ht => un_n (by omega))
theorem cp_root {g g' : Nat → pg_T} {H r c : Nat} (hs : tr_sh g H r) (hc : c < 100) (hn : c ∉ tr_pg g H r) (e1 : g' c = g r) (e2 : ∀ q, q ≠ c → g' q = g q) : tr_fl g' H c = tr_fl g H r ∧ tr_sh g' H c ∧ tr_pg g' H c = c :: tr_pp g H (g r) := by
  have k := tr_frc (g := g) (g' := g') (h := H) (c := g r) (fun q m => e2 q (fun e => hn (by rw [tr_pge]; exact List.mem_cons_of_mem _ (e ▸ m))))
  refine ⟨?_, ?_, ?_⟩
  · rw [tr_fle, tr_fle, e1, k.1]
  · rw [tr_she, e1]; exact ⟨hc, k.2.2 ((tr_she _ _ _).mp hs).2⟩
  · rw [tr_pge, e1, k.2.1]
theorem cp_child {g g2 : Nat → pg_T} {H r h a x c : Nat} {lf rt : List kv_T} {ps : List Nat} {E1 E2 : List kv_T} {C1 C2 : List Nat} (I : bs_I g H r h a lf rt ps E1 E2 C1 C2 (g x)) (hg : g a = (E1 ++ E2, C1 ++ x :: C2)) (nd : (tr_pg g H r).Nodup)
    (ha : a < 100) (hx : x < 100) (hc : c < 100) (hn : c ∉ tr_pg g H r) (e1 : g2 c = g x) (ea : g2 a = (E1 ++ E2, C1 ++ c :: C2)) (e2 : ∀ q, q ≠ c → q ≠ a → g2 q = g q) :
    tr_fl g2 H r = tr_fl g H r ∧ tr_sh g2 H r ∧ (tr_pg g H r).Perm (x :: a :: bs_U g h ps C1 C2 (g x)) ∧ (tr_pg g2 H r).Perm (c :: a :: bs_U g h ps C1 C2 (g x)) ∧ (∀ q, q ∈ bs_U g h ps C1 C2 (g x) → g2 q = g q) := by
  obtain ⟨f1, _, p1⟩ := bs_V1 I (fun _ _ => rfl) ha hx hg rfl
  have n1 := p1.nodup_iff.mp nd
  rw [List.nodup_cons] at n1
  have hu : ∀ q, q ∈ bs_U g h ps C1 C2 (g x) → g2 q = g q := fun q m => e2 q (fun e => hn (p1.mem_iff.mpr (List.mem_cons_of_mem _ (List.mem_cons_of_mem _ (e ▸ m))))) (fun e => n1.1 (List.mem_cons_of_mem _ (e ▸ m)))
  obtain ⟨f2, s2, p2⟩ := bs_V1 I hu ha hc ea e1
  exact ⟨f2.trans f1.symm, s2, p1.trans (List.Perm.swap _ _ _), p2.trans (List.Perm.swap _ _ _), hu⟩
def bd_0 (g : Nat → pg_T) (H r : Nat) : Prop := ∀ q, q ∈ tr_pg g H r → 1 ≤ (g q).1.length ∧ (g q).1.length ≤ 4 ∧ (q ≠ r → 2 ≤ (g q).1.length)
def op_S (G g : Nat → pg_T) (fr : Nat → Bool) (ro : Nat → Nat) (mv : Nat → Bool) (mr hs : Nat → Nat) (F C : List Nat) (w : Nat) (fl0 : List kv_T) : Prop :=
  ot_I G g (rc_f ro mv mr) hs F ∧ wt_I g fr F C (hs 3) (ro 3) ∧ ro 3 < 100 ∧ (tr_pg g (hs 3) (ro 3)).length ≤ w ∧ tr_fl g (hs 3) (ro 3) = fl0
theorem op_np {g : Nat → pg_T} {fr : Nat → Bool} {ro : Nat → Nat} {mv : Nat → Bool} {mr hs : Nat → Nat} {G : Nat → pg_T} {F C : List Nat} {w : Nat} {fl0 : List kv_T} (S : op_S G g fr ro mv mr hs F C w fl0) (hw : w ≤ 30) :
    li_ok g hs (rc_f ro mv mr) ∧ (F ++ tr_pg g (hs 3) (ro 3)).length ≤ 97 ∧ (∀ s, s < 6 → rc_f ro mv mr s < 100 → ∀ q, q ∈ tr_pg g (hs s) (rc_f ro mv mr s) → q ∈ F ++ tr_pg g (hs 3) (ro 3)) ∧ (∀ q, q < 100 → fr q = true → q ∈ F ++ tr_pg g (hs 3) (ro 3)) ∧
    (∀ x, (∀ s, s < 6 → rc_f ro mv mr s < 100 → x ∉ tr_pg g (hs s) (rc_f ro mv mr s)) → x ∉ F ∧ x ∉ tr_pg g (hs 3) (ro 3)) := by
  obtain ⟨O, W, hr, hl, _⟩ := S
  have e : rc_f ro mv mr 3 = ro 3 := rc_lo (by omega)
  rw [← e] at W hl hr
  have k := np_ok O W (by omega)
  rw [← e]
  exact ⟨k.1, k.2.1, k.2.2.1, k.2.2.2, fun x hx => np_new O W hr hx⟩
theorem cw_s0 {g g2 : Nat → pg_T} {fr : Nat → Bool} {ro : Nat → Nat} {mv : Nat → Bool} {mr hs : Nat → Nat} {G : Nat → pg_T} {F C : List Nat} {w : Nat} {fl0 : List kv_T} {wp wi : Nat → Nat} {m c : Nat} (S : op_S G g fr ro mv mr hs F C w fl0) (B : bd_0 g (hs 3) (ro 3)) (h0 : wp 0 = ro 3) (hp : tr_pt g wp wi m) (hm : m ≤ hs 3)
    (hf : fr (wp 0) = false) (hc : c < 100) (cF : c ∉ F) (cW : c ∉ tr_pg g (hs 3) (ro 3)) (e1 : g2 c = g (wp 0)) (e2 : ∀ q, q ≠ c → g2 q = g q) :
    op_S G g2 (un_f fr c true) (un_f ro 3 c) mv mr hs F C w fl0 ∧ bd_0 g2 (hs 3) c ∧ tr_pt g2 (un_f wp 0 c) wi m ∧ ∀ j, j ≤ m → (g2 (un_f wp 0 c j)).1 = (g (wp j)).1 := by
  obtain ⟨O, W, hr, hl, hfl⟩ := S
  rw [h0] at e1 hf
  obtain ⟨f, s, p⟩ := cp_root W.1 hc cW e1 e2
  have p0 := tr_pge g (hs 3) (ro 3)
  have hin : ∀ j, j < m → wp (j + 1) ≠ c := by
    intro j hj e
    have := tr_dn hm hp j 0 (by omega)
    rw [h0, show 0 + 1 + j = j + 1 by omega, e] at this
    exact cW (by rw [p0]; exact List.mem_cons_of_mem _ this)
  refine ⟨⟨ot_fr O (fun q m => e2 q (fun e => cF (e ▸ m))) (fun s hs => ⟨rc_3 (fun s hs => un_n hs) s hs, rfl⟩), ?_, ?_, ?_, ?_⟩, fun q m => ?_, fun j hj => ?_, fun j hj => ?_⟩
  · rw [un_s]
    exact wt_swap W s (by rw [p0]) (by rw [p]) cW cF hf
  · rw [un_s]; exact hc
  · rw [un_s, p, List.length_cons]
    rw [p0, List.length_cons] at hl
    exact hl
  · rw [un_s, f]; exact hfl
  · rw [p] at m
    rcases List.mem_cons.mp m with e | m
    · have := B (ro 3) (tr_pgs _ _ _)
      rw [e, e1]
      exact ⟨this.1, this.2.1, fun h => absurd rfl h⟩
    · have hq : q ∈ tr_pg g (hs 3) (ro 3) := by rw [p0]; exact List.mem_cons_of_mem _ m
      have := B q hq
      rw [e2 q (fun e => cW (e ▸ hq))]
      refine ⟨this.1, this.2.1, fun _ => this.2.2 (fun e => ?_)⟩
      have nd := W.2.1
      rw [p0, List.nodup_cons] at nd
      exact nd.1 (e ▸ m)
  · have := hp j hj
    rw [un_n (show j + 1 ≠ 0 by omega)]
    by_cases e : j = 0
    · subst e
      rw [un_s, e1, ← h0]
      exact this
    · rw [un_n e, e2 (wp j) (by obtain ⟨k, rfl⟩ : ∃ k, j = k + 1 := ⟨j - 1, by omega⟩; exact hin k (by omega))]
      exact this
  · by_cases e : j = 0
    · subst e
      rw [un_s, e1, ← h0]
    · rw [un_n e, e2 (wp j) (by obtain ⟨k, rfl⟩ : ∃ k, j = k + 1 := ⟨j - 1, by omega⟩; exact hin k (by omega))]
theorem ls_me {a b : Nat} {l : List Nat} (e : a = b) (h : b ∈ l) : a ∈ l := by rw [e]; exact h
theorem ls_at {α : Type} {A B : List α} {x : α} {i : Nat} (h : A.length = i) : (A ++ x :: B)[i]? = some x := by
  subst h
  simp
theorem cw_sS {g g2 : Nat → pg_T} {fr : Nat → Bool} {ro : Nat → Nat} {mv : Nat → Bool} {mr hs : Nat → Nat} {G : Nat → pg_T} {F C : List Nat} {w : Nat} {fl0 : List kv_T} {wp wi : Nat → Nat} {m l c : Nat} {E : List kv_T} {C1 C2 : List Nat} (S : op_S G g fr ro mv mr hs F C w fl0) (B : bd_0 g (hs 3) (ro 3)) (h0 : wp 0 = ro 3) (hp : tr_pt g wp wi m) (hm : m ≤ hs 3) (hl : l + 1 ≤ m)
    (hf : fr (wp (l + 1)) = false) (hfa : fr (wp l) = true) (hc : c < 100) (fc : fr c = false) (cF : c ∉ F) (cW : c ∉ tr_pg g (hs 3) (ro 3)) (hga : g (wp l) = (E, C1 ++ wp (l + 1) :: C2)) (hC1 : C1.length = wi l)
    (e1 : g2 c = g (wp (l + 1))) (ea : g2 (wp l) = (E, C1 ++ c :: C2)) (e2 : ∀ q, q ≠ c → q ≠ wp l → g2 q = g q) :
    op_S G g2 (un_f fr c true) ro mv mr hs F C w fl0 ∧ bd_0 g2 (hs 3) (ro 3) ∧ tr_pt g2 (un_f wp (l + 1) c) wi m ∧ ∀ j, j ≤ m → (g2 (un_f wp (l + 1) c j)).1 = (g (wp j)).1 := by
  obtain ⟨O, W, hr, hlen, hfl⟩ := S
  have hs0 := W.1
  rw [← h0] at hs0
  obtain ⟨lf, rt, ps, E1, E2, C1', C2', I, hg, l1, l2, hps, ha, hx⟩ := bs_pt (l := l) hs0 (by omega) (fun j hj => hp j (by omega))
  rw [hga] at hg
  have hg1 := (Prod.mk.inj hg).1
  obtain ⟨q1, q2⟩ := ls_app (Prod.mk.inj hg).2 (hC1.trans l2.symm)
  have q3 := (List.cons.inj q2).2
  subst q1 q3 hg1
  rw [h0] at I
  obtain ⟨f, s, p1, p2, hu⟩ := cp_child I hga W.2.1 ha hx hc cW e1 ea e2
  have inU : ∀ q, q ∈ bs_U g (hs 3 - (l + 1)) ps C1 C2 (g (wp (l + 1))) → q ≠ c := fun q m e => cW (p1.mem_iff.mpr (List.mem_cons_of_mem _ (List.mem_cons_of_mem _ (e ▸ m))))
  have up : ∀ j, j < l → wp j ∈ bs_U g (hs 3 - (l + 1)) ps C1 C2 (g (wp (l + 1))) := fun j hj => List.mem_append_left _ (hps j hj)
  have dn : ∀ j, l + 1 < j → j ≤ m → wp j ∈ bs_U g (hs 3 - (l + 1)) ps C1 C2 (g (wp (l + 1))) := by
    intro j j1 j2
    have := tr_dn hm hp (j - (l + 1 + 1)) (l + 1) (by omega)
    rw [show l + 1 + 1 + (j - (l + 1 + 1)) = j by omega] at this
    exact List.mem_append_right _ (List.mem_append_right _ (List.mem_append_left _ this))
  have hac : wp l ≠ c := by
    intro e
    rw [e, fc] at hfa
    exact (nomatch hfa)
  refine ⟨⟨ot_fr O (fun q m => e2 q (fun e => cF (e ▸ m)) (fun e => ?_)) (fun s hs => ⟨rfl, rfl⟩), wt_swap W s p1 p2 cW cF hf, hr, ?_, f.trans hfl⟩, fun q m => ?_, fun j hj => ?_, fun j hj => ?_⟩
  · have := W.2.2.2.2.1 q m
    rw [e, hfa] at this
    exact (nomatch this)
  · rw [p2.length_eq]
    rw [p1.length_eq] at hlen
    exact hlen
  · have m' := p2.mem_iff.mp m
    rcases List.mem_cons.mp m' with e | m'
    · have := B (wp (l + 1)) (p1.mem_iff.mpr (List.mem_cons_self ..))
      rw [e, e1]
      refine ⟨this.1, this.2.1, fun _ => this.2.2 (fun e => ?_)⟩
      have nd := p1.nodup_iff.mp W.2.1
      rw [List.nodup_cons] at nd
      rw [← h0] at e
      by_cases el : l = 0
      · subst el
        exact nd.1 (ls_me e (List.mem_cons_self ..))
      · exact nd.1 (ls_me e (List.mem_cons_of_mem _ (up 0 (by omega))))
    · rcases List.mem_cons.mp m' with e | m'
      · have := B (wp l) (p1.mem_iff.mpr (List.mem_cons_of_mem _ (List.mem_cons_self ..)))
        rw [hga] at this
        rw [e, ea]
        exact this
      · have := B q (p1.mem_iff.mpr (List.mem_cons_of_mem _ (List.mem_cons_of_mem _ m')))
        rw [hu q m']
        exact this
  · have := hp j hj
    by_cases e : j = l
    · subst e
      rw [un_n (show j ≠ j + 1 by omega), un_s, ea]
      exact ls_at hC1
    · by_cases e' : j = l + 1
      · subst e'
        rw [un_s, un_n (show l + 1 + 1 ≠ l + 1 by omega), e1]
        exact this
      · rw [un_n e', un_n (show j + 1 ≠ l + 1 by omega)]
        by_cases lt : j < l
        · rw [hu _ (up j lt)]; exact this
        · rw [hu _ (dn j (by omega) (by omega))]; exact this
  · by_cases e : j = l
    · subst e
      rw [un_n (show j ≠ j + 1 by omega), ea, hga]
    · by_cases e' : j = l + 1
      · subst e'
        rw [un_s, e1]
      · rw [un_n e']
        by_cases lt : j < l
        · rw [hu _ (up j lt)]
        · rw [hu _ (dn j (by omega) (by omega))]
end
section
/-! X's walk: copyWay -/
theorem xw_cw {mr : Nat → Nat} {ms : Nat → Nat} {mn : Nat → Nat} {mv : Nat → Bool} {sz : Nat → Nat} {nu : Nat → Nat} {wi : Nat → Nat} {post : SX → Prop} {hs : Nat → Nat} {G : Nat → pg_T} {F C : List Nat} {w m : Nat} {fl0 : List kv_T} {ES : Nat → List kv_T} {ro0 : Nat → Nat} (hw : w ≤ 30) (hm8 : m < 8) (hm : m ≤ hs 3)
    (K : ∀ (kc ks : Nat → Nat) (vs : Nat → Int32) (bl : Nat → Nat) (fr us : Nat → Bool) (ro wp wa : Nat → Nat), gs_b kc ks → op_S G (gp_c kc ks vs bl) fr ro mv mr hs F C w fl0 → bd_0 (gp_c kc ks vs bl) (hs 3) (ro 3) → wp 0 = ro 3 → tr_pt (gp_c kc ks vs bl) wp wi m → (∀ j, j ≤ m → fr (wp j) = true) → (∀ j, j ≤ m → (gp_c kc ks vs bl (wp j)).1 = ES j) → (∀ s, s ≠ 3 → ro s = ro0 s) → post ((nI (m + 1)), (eu_N kc), (eu_N ks), vs, (eu_P bl), (eu_B fr), (eu_B us), (eu_P mr), (eu_N ms), (eu_N mn), (eu_B mv), (eu_P ro), (eu_N sz), (eu_N nu), (eu_N wp), (eu_N wi), (eu_P wa))) :
    ∀ (d l : Nat) (kc ks : Nat → Nat) (vs : Nat → Int32) (bl : Nat → Nat) (fr us : Nat → Bool) (ro wp wa : Nat → Nat), l + d = m + 1 → gs_b kc ks → op_S G (gp_c kc ks vs bl) fr ro mv mr hs F C w fl0 → bd_0 (gp_c kc ks vs bl) (hs 3) (ro 3) → wp 0 = ro 3 → tr_pt (gp_c kc ks vs bl) wp wi m → (∀ j, j < l → fr (wp j) = true) → (∀ j, j ≤ m → (gp_c kc ks vs bl (wp j)).1 = ES j) → (∀ s, s ≠ 3 → ro s = ro0 s) →
    wX_copyWay_2 post (d + 1) (nI l) (nI (m + 1)) (eu_N kc) (eu_N ks) vs (eu_P bl) (eu_B fr) (eu_B us) (eu_P mr) (eu_N ms) (eu_N mn) (eu_B mv) (eu_P ro) (eu_N sz) (eu_N nu) (eu_N wp) (eu_N wi) (eu_P wa) := by
  intro d
  induction d with
  | zero =>
    intro l kc ks vs bl fr us ro wp wa hd gs S B h0 hp hf hES hro
    rw [wX_copyWay_2]
    exact br_t (nI_le (by omega) (by omega)) (K kc ks vs bl fr us ro wp wa gs S B h0 hp (fun j hj => hf j (by omega)) hES hro)
  | succ d ih =>
    intro l kc ks vs bl fr us ro wp wa hd gs S B h0 hp hf hES hro
    have N := op_np S hw
    have hsh := S.2.1.1
    rw [← h0] at hsh
    have hsl := (tr_ptd hsh l (by omega) (fun j hj => hp j (by omega))).2
    have hx := tr_100 hsl
    have hin : wp l ∈ tr_pg (gp_c kc ks vs bl) (hs 3) (ro 3) := by
      obtain ⟨⟨lf, rt, ps, hc, _⟩, _⟩ := tr_ptd hsh l (by omega) (fun j hj => hp j (by omega))
      rw [h0] at hc
      exact (hc _ (fun _ _ => rfl)).2.1.mem_iff.mpr (List.mem_append_right _ (tr_pgs _ _ _))
    have hx2 : fr (wp l) = true ∨ ∃ s, s < 6 ∧ rc_f ro mv mr s < 100 ∧ wp l ∈ tr_pg (gp_c kc ks vs bl) (hs s) (rc_f ro mv mr s) :=
      Or.inr ⟨3, by omega, by rw [rc_lo (by omega)]; exact S.2.2.1, by rw [rc_lo (by omega)]; exact hin⟩
    rw [wX_copyWay_2]
    refine br_f (nI_ge (by omega) (by omega)) ⟨vp_in_nI (by omega) (by omega), ?_⟩
    rw [nI_clamp (by omega), eu_Nr]
    refine xw_freshCopy gs N.1 (by omega) N.2.2.1 N.2.2.2.1 hx hx2 (fun hfx => ?_) (fun hfx c kc' ks' vs' bl' us' wa' hc fc nc gs' gc gq => ?_)
    · dsimp only
      have e0 : un_f wp l (wp l) = wp := un_id rfl
      have hf' : ∀ j, j < l + 1 → fr (wp j) = true := by
        intro j hj
        by_cases e : j = l
        · rw [e]; exact hfx
        · exact hf j (by omega)
      cases l with
      | zero =>
        have e1 : un_f ro 3 (wp 0) = ro := un_id h0.symm
        simp (disch := omega) only [forall_eq, true_implies, false_implies, not_true_eq_false, not_false_eq_true, and_true, true_and, ea_0, ea_1, ea_2, ea_3, ea_4, ea_5, ea_6, ea_24, ea_99, ea_100, ea_300, ea_n1, ea_n2, pk_mul, nI_add, pk_sub, ea_m1, nI_clamp, eu_Nr, eu_Br, eu_Pr, eu_pn, eu_nb, eu_i8, eu_pb, eu_pi, eu_vb0, eu_vb1, eu_vbb, eu_Nu, eu_Pu, eu_Pun, eu_Bu, eu_Bu0, eu_Bu1, ea_inT, nI_leI, Nat.zero_le, nI_ltI, nI_eq, eu_pl, eu_pg, eu_p2, eu_b0, e0, e1]
        exact ih (0 + 1) kc ks vs bl fr us ro wp wa (by omega) gs S B h0 hp hf' hES hro
      | succ l =>
        obtain ⟨lf, rt, ps, E1, E2, C1, C2, I, hg, l1, l2, hps, ha, _⟩ := bs_pt (l := l) hsh (by omega) (fun j hj => hp j (by omega))
        obtain ⟨b1, b2, b3, _, _⟩ := gp_set gs.1 hg l2 (c := wp (l + 1)) hx
        have e1 : un_f bl (6 * wp l + wi l) (wp (l + 1)) = bl := un_id b3
        have h5 := gs.1 (wp l)
        simp (disch := omega) only [forall_eq, true_implies, false_implies, not_true_eq_false, not_false_eq_true, and_true, true_and, ea_0, ea_1, ea_2, ea_3, ea_4, ea_5, ea_6, ea_24, ea_99, ea_100, ea_300, ea_n1, ea_n2, pk_mul, nI_add, pk_sub, ea_m1, nI_clamp, eu_Nr, eu_Br, eu_Pr, eu_pn, eu_nb, eu_i8, eu_pb, eu_pi, eu_vb0, eu_vb1, eu_vbb, eu_Nu, eu_Pu, eu_Pun, eu_Bu, eu_Bu0, eu_Bu1, ea_inT, nI_leI, Nat.zero_le, nI_ltI, nI_eq, eu_pl, eu_pg, eu_p2, eu_b0, e0, e1, Nat.add_sub_cancel]
        refine br_f (by omega) ?_
        exact ih (l + 1 + 1) kc ks vs bl fr us ro wp wa (by omega) gs S B h0 hp hf' hES hro
    · dsimp only
      obtain ⟨cF, cW⟩ := N.2.2.2.2 c nc
      cases l with
      | zero =>
        obtain ⟨S2, B2, P2, Q2⟩ := cw_s0 S B h0 hp hm hfx hc cF cW gc gq
        simp (disch := omega) only [forall_eq, true_implies, false_implies, not_true_eq_false, not_false_eq_true, and_true, true_and, ea_0, ea_1, ea_2, ea_3, ea_4, ea_5, ea_6, ea_24, ea_99, ea_100, ea_300, ea_n1, ea_n2, pk_mul, nI_add, pk_sub, ea_m1, nI_clamp, eu_Nr, eu_Br, eu_Pr, eu_pn, eu_nb, eu_i8, eu_pb, eu_pi, eu_vb0, eu_vb1, eu_vbb, eu_Nu, eu_Pu, eu_Pun, eu_Bu, eu_Bu0, eu_Bu1, ea_inT, nI_leI, Nat.zero_le, nI_ltI, nI_eq, eu_pl, eu_pg, eu_p2, eu_b0]
        refine ih (0 + 1) kc' ks' vs' bl' _ us' _ _ wa' (by omega) gs' S2 (by rw [un_s]; exact B2) (by rw [un_s, un_s]) P2 (fun j hj => ?_) (fun j hj => (Q2 j hj).trans (hES j hj)) (fun s hs => (un_n hs).trans (hro s hs))
        rw [show j = 0 by omega, un_s, un_s]
      | succ l =>
        obtain ⟨lf, rt, ps, E1, E2, C1, C2, I, hg, l1, l2, hps, ha, _⟩ := bs_pt (l := l) hsh (by omega) (fun j hj => hp j (by omega))
        have hac : wp l ≠ c := by
          intro e
          have := hf l (by omega)
          rw [e, fc] at this
          exact (nomatch this)
        obtain ⟨b1, b2, b3, b4, b5⟩ := gp_set gs'.1 ((gq (wp l) hac).trans hg) l2 hc
        have h5 := gs'.1 (wp l)
        have e3 : un_f wp (l + 1) c l = wp l := un_n (by omega)
        obtain ⟨S2, B2, P2, Q2⟩ := cw_sS (g2 := gp_c kc' ks' vs' (un_f bl' (6 * wp l + wi l) c)) S B h0 hp hm (by omega) hfx (hf l (by omega)) hc fc cF cW hg l2 ((b5 c (fun e => hac e.symm)).trans gc) b4 (fun q q1 q2 => (b5 q q2).trans (gq q q1))
        simp (disch := omega) only [forall_eq, true_implies, false_implies, not_true_eq_false, not_false_eq_true, and_true, true_and, ea_0, ea_1, ea_2, ea_3, ea_4, ea_5, ea_6, ea_24, ea_99, ea_100, ea_300, ea_n1, ea_n2, pk_mul, nI_add, pk_sub, ea_m1, nI_clamp, eu_Nr, eu_Br, eu_Pr, eu_pn, eu_nb, eu_i8, eu_pb, eu_pi, eu_vb0, eu_vb1, eu_vbb, eu_Nu, eu_Pu, eu_Pun, eu_Bu, eu_Bu0, eu_Bu1, ea_inT, nI_leI, Nat.zero_le, nI_ltI, nI_eq, eu_pl, eu_pg, eu_p2, eu_b0, e3, Nat.add_sub_cancel]
        refine br_f (by omega) ?_
        refine ih (l + 1 + 1) kc' ks' vs' _ _ us' ro _ wa' (by omega) gs' S2 B2 (by rw [un_n (by omega)]; exact h0) P2 (fun j hj => ?_) (fun j hj => (Q2 j hj).trans (hES j hj)) hro
        by_cases e : j = l + 1
        · rw [e, un_s, un_s]
        · rw [un_n e]
          have := hf j (by omega)
          by_cases e' : wp j = c
          · rw [e', un_s]
          · rw [un_n e']; exact this
theorem xw_copyWay {kc : Nat → Nat} {ks : Nat → Nat} {vs : Nat → Int32} {bl : Nat → Nat} {fr : Nat → Bool} {us : Nat → Bool} {mr : Nat → Nat} {ms : Nat → Nat} {mn : Nat → Nat} {mv : Nat → Bool} {ro : Nat → Nat} {sz : Nat → Nat} {nu : Nat → Nat} {wp : Nat → Nat} {wi : Nat → Nat} {wa : Nat → Nat} {post : SX → Prop} {hs : Nat → Nat} {G : Nat → pg_T} {F C : List Nat} {w m : Nat} {fl0 : List kv_T} (hw : w ≤ 30) (hm8 : m < 8) (hm : m ≤ hs 3) (gs : gs_b kc ks) (S : op_S G (gp_c kc ks vs bl) fr ro mv mr hs F C w fl0) (B : bd_0 (gp_c kc ks vs bl) (hs 3) (ro 3)) (h0 : wp 0 = ro 3) (hp : tr_pt (gp_c kc ks vs bl) wp wi m)
    (K : ∀ (kc' ks' : Nat → Nat) (vs' : Nat → Int32) (bl' : Nat → Nat) (fr' us' : Nat → Bool) (ro' wp' wa' : Nat → Nat), gs_b kc' ks' → op_S G (gp_c kc' ks' vs' bl') fr' ro' mv mr hs F C w fl0 → bd_0 (gp_c kc' ks' vs' bl') (hs 3) (ro' 3) → wp' 0 = ro' 3 → tr_pt (gp_c kc' ks' vs' bl') wp' wi m → (∀ j, j ≤ m → fr' (wp' j) = true) → (∀ j, j ≤ m → (gp_c kc' ks' vs' bl' (wp' j)).1 = (gp_c kc ks vs bl (wp j)).1) → (∀ s, s ≠ 3 → ro' s = ro s) →
      post ((nI (m + 1)), (eu_N kc'), (eu_N ks'), vs', (eu_P bl'), (eu_B fr'), (eu_B us'), (eu_P mr), (eu_N ms), (eu_N mn), (eu_B mv), (eu_P ro'), (eu_N sz), (eu_N nu), (eu_N wp'), (eu_N wi), (eu_P wa'))) : wpX_copyWay post ((nI (m + 1)), (eu_N kc), (eu_N ks), vs, (eu_P bl), (eu_B fr), (eu_B us), (eu_P mr), (eu_N ms), (eu_N mn), (eu_B mv), (eu_P ro), (eu_N sz), (eu_N nu), (eu_N wp), (eu_N wi), (eu_P wa)) := by
  unfold wpX_copyWay
  dsimp only
  refine ⟨m + 1 + 1, ?_⟩
  rw [ea_0]
  exact xw_cw hw hm8 hm K (m + 1) 0 kc ks vs bl fr us ro wp wa (by omega) gs S B h0 hp (fun j hj => absurd hj (by omega)) (fun _ _ => rfl) (fun _ _ => rfl)
end
section
/-! splits: the tree's list stays, its pages grow by one -/
theorem gp_dec {kc ks : Nat → Nat} {vs : Nat → Int32} {bl : Nat → Nat} {a i x n : Nat} {E1 E2 : List kv_T} {C1 C2 : List Nat} (hg : gp_c kc ks vs bl a = (E1 ++ E2, C1 ++ x :: C2)) (l1 : E1.length = i) (l2 : C1.length = i) (hn : kc a = n) :
    bl (6 * a) < 100 ∧ i ≤ n ∧ E1 = sg_l (fun j => (ks j, vs j)) (5 * a) i ∧ E2 = sg_l (fun j => (ks j, vs j)) (5 * a + i) (n - i) ∧ C1 = sg_l bl (6 * a) i ∧ x = bl (6 * a + i) ∧ C2 = sg_l bl (6 * a + (i + 1)) (n - i) := by
  have e1 : (gp_c kc ks vs bl a).1 = E1 ++ E2 := by rw [hg]
  have e2 : (gp_c kc ks vs bl a).2 = C1 ++ x :: C2 := by rw [hg]
  have hb : bl (6 * a) < 100 := by
    refine Nat.lt_of_not_le (fun h => ?_)
    rw [gp_3 h] at e2
    have := congrArg List.length e2
    simp at this
  rw [gp_1, hn] at e1
  rw [gp_2 hb, hn] at e2
  have hik : i ≤ n := by
    have := congrArg List.length e1
    rw [sg_len, List.length_append] at this
    omega
  rw [sg_cut (i := i) _ _ hik] at e1
  rw [sg_mid (i := i) _ _ (by omega)] at e2
  obtain ⟨f1, f2⟩ := ls_app e1 (by rw [sg_len, l1])
  obtain ⟨f3, f4⟩ := ls_app e2 (by rw [sg_len, l2])
  obtain ⟨f5, f6⟩ := List.cons.inj f4
  refine ⟨hb, hik, f1.symm, f2.symm, f3.symm, f5.symm, ?_⟩
  rw [← f6, show n + 1 - i - 1 = n - i by omega]
  rfl
theorem gp_five {kc ks : Nat → Nat} {vs : Nat → Int32} {bl : Nat → Nat} {x : Nat} (h5 : kc x = 5) : gp_c kc ks vs bl x = (sg_l (fun j => (ks j, vs j)) (5 * x) 2 ++ (ks (5 * x + 2), vs (5 * x + 2)) :: sg_l (fun j => (ks j, vs j)) (5 * x + 3) 2, (if bl (6 * x) < 100 then sg_l bl (6 * x) 3 else []) ++ (if bl (6 * x) < 100 then sg_l bl (6 * x + 3) 3 else [])) := by
  refine Prod.ext ?_ ?_
  · rw [gp_1, h5]; rfl
  · by_cases hb : bl (6 * x) < 100
    · rw [gp_2 hb, h5]
      dsimp only
      rw [if_pos hb, if_pos hb]
      rfl
    · rw [gp_3 (by omega)]
      dsimp only
      rw [if_neg hb, if_neg hb]
      rfl
theorem gp_hgt {kc ks : Nat → Nat} {vs : Nat → Int32} {bl : Nat → Nat} {h x : Nat} (hs : tr_sh (gp_c kc ks vs bl) h x) : (bl (6 * x) < 100 ↔ h ≠ 0) ∧ (bl (6 * x) < 100 → ∀ i, i ≤ kc x → bl (6 * x + i) < 100) := by
  cases h with
  | zero =>
    have := gp_leaf hs
    exact ⟨⟨fun _ => by omega, fun h => absurd rfl h⟩, fun _ => by omega⟩
  | succ h =>
    have := gp_node hs
    exact ⟨⟨fun _ => by omega, fun _ => this.2.1⟩, fun _ i hi => tr_100 (this.2.2 i hi)⟩
theorem wt_more2 {g g' : Nat → pg_T} {fr : Nat → Bool} {F C : List Nat} {H r H' r' c d : Nat} (W : wt_I g fr F C H r) (hs : tr_sh g' H' r') (p2 : (tr_pg g' H' r').Perm (c :: d :: tr_pg g H r)) (hc : c ∉ tr_pg g H r) (hcF : c ∉ F) (hd : d ∉ tr_pg g H r) (hdF : d ∉ F) (hcd : d ≠ c) : wt_I g' (un_f (un_f fr c true) d true) F C H' r' := by
  obtain ⟨_, w2, w3, w4, w5, w6⟩ := W
  refine ⟨hs, ?_, fun q hq => ?_, fun q hq hf => ?_, fun q hq => ?_, w6⟩
  · rw [p2.nodup_iff, List.nodup_cons, List.nodup_cons]
    refine ⟨fun h => ?_, hd, w2⟩
    rcases List.mem_cons.mp h with e | h
    · exact hcd e.symm
    · exact hc h
  · by_cases e1 : q = d
    · exact Or.inl (by rw [e1]; exact un_s)
    · rw [un_n e1]
      by_cases e2 : q = c
      · exact Or.inl (by rw [e2]; exact un_s)
      · rw [un_n e2]
        rcases List.mem_cons.mp (p2.mem_iff.mp hq) with h | h
        · exact absurd h e2
        · rcases List.mem_cons.mp h with h | h
          · exact absurd h e1
          · exact w3 q h
  · rw [p2.mem_iff]
    by_cases e : q = d
    · rw [e]; exact List.mem_cons_of_mem _ (List.mem_cons_self ..)
    · rw [un_n e] at hf
      by_cases e : q = c
      · rw [e]; exact List.mem_cons_self ..
      · rw [un_n e] at hf
        exact List.mem_cons_of_mem _ (List.mem_cons_of_mem _ (w4 q hq hf))
  · rw [un_n (show q ≠ d from fun e => hdF (e ▸ hq)), un_n (show q ≠ c from fun e => hcF (e ▸ hq))]
    exact w5 q hq
/-- bounds, but for the page z: at most five keys there -/
def bd_5 (g : Nat → pg_T) (H r z : Nat) : Prop := ∀ q, q ∈ tr_pg g H r → 1 ≤ (g q).1.length ∧ (q ≠ r → 2 ≤ (g q).1.length) ∧ (g q).1.length ≤ 5 ∧ (q ≠ z → (g q).1.length ≤ 4)
theorem bd_50 {g : Nat → pg_T} {H r z : Nat} (B : bd_5 g H r z) (h : (g z).1.length ≤ 4) : bd_0 g H r := by
  intro q hq
  obtain ⟨a, b, c, d⟩ := B q hq
  refine ⟨a, ?_, b⟩
  by_cases e : q = z
  · rw [e]; exact h
  · exact d e
theorem sp_S {g g2 : Nat → pg_T} {fr : Nat → Bool} {ro : Nat → Nat} {mv : Nat → Bool} {mr hs : Nat → Nat} {G : Nat → pg_T} {F C : List Nat} {w : Nat} {fl0 : List kv_T} {wp wi : Nat → Nat} {l y : Nat} {E1 E2 X1 X2 : List kv_T} {m : kv_T} {C1 C2 D1 D2 : List Nat}
    (S : op_S G g fr ro mv mr hs F C w fl0) (B : bd_5 g (hs 3) (ro 3) (wp (l + 1))) (h0 : wp 0 = ro 3) (hp : tr_pt g wp wi (l + 1)) (hl : l + 1 ≤ hs 3) (hfr : ∀ j, j ≤ l + 1 → fr (wp j) = true)
    (hga : g (wp l) = (E1 ++ E2, C1 ++ wp (l + 1) :: C2)) (l1 : E1.length = wi l) (l2 : C1.length = wi l) (hgx : g (wp (l + 1)) = (X1 ++ m :: X2, D1 ++ D2)) (hX1 : X1.length = 2) (hX2 : X2.length = 2) (hD : D1.length = if hs 3 - (l + 1) = 0 then 0 else X1.length + 1)
    (hy : y < 100) (fy : fr y = false) (yF : y ∉ F) (yW : y ∉ tr_pg g (hs 3) (ro 3))
    (ex : g2 (wp (l + 1)) = (X1, D1)) (ey : g2 y = (X2, D2)) (ea : g2 (wp l) = (E1 ++ m :: E2, C1 ++ wp (l + 1) :: y :: C2)) (e2 : ∀ q, q ≠ wp (l + 1) → q ≠ y → q ≠ wp l → g2 q = g q) :
    op_S G g2 (un_f fr y true) ro mv mr hs F C (w + 1) fl0 ∧ bd_5 g2 (hs 3) (ro 3) (wp l) ∧ tr_pt g2 wp wi l ∧ wp (l + 1) ≠ wp l := by
  obtain ⟨O, W, hr, hlen, hfl⟩ := S
  have hs0 := W.1
  rw [← h0] at hs0
  obtain ⟨lf, rt, ps, E1', E2', C1', C2', I, hg, l1', l2', hps, ha, hx⟩ := bs_pt (l := l) hs0 hl hp
  rw [hga] at hg
  obtain ⟨q1, q2⟩ := ls_app (Prod.mk.inj hg).2 (l2.trans l2'.symm)
  obtain ⟨q3, q4⟩ := ls_app (Prod.mk.inj hg).1 (l1.trans l1'.symm)
  have q5 := (List.cons.inj q2).2
  subst q1 q3 q4 q5
  rw [h0] at I
  obtain ⟨f1, _, p1⟩ := bs_V1 I (fun _ _ => rfl) ha hx hga rfl
  have nd := p1.nodup_iff.mp W.2.1
  rw [List.nodup_cons, List.nodup_cons] at nd
  have nU : ∀ q, q ∈ bs_U g (hs 3 - (l + 1)) ps C1 C2 (g (wp (l + 1))) → q ≠ wp (l + 1) ∧ q ≠ y ∧ q ≠ wp l := fun q m => ⟨fun e => nd.2.1 (ls_me e.symm m), fun e => yW (p1.mem_iff.mpr (List.mem_cons_of_mem _ (List.mem_cons_of_mem _ (ls_me e.symm m)))), fun e => nd.1 (List.mem_cons_of_mem _ (ls_me e.symm m))⟩
  have hu : ∀ q, q ∈ bs_U g (hs 3 - (l + 1)) ps C1 C2 (g (wp (l + 1))) → g2 q = g q := fun q m => e2 q (nU q m).1 (nU q m).2.1 (nU q m).2.2
  obtain ⟨f2, s2, p2⟩ := bs_V2 I hu ha hx hy ea ex ey hgx hD
  have hax : wp (l + 1) ≠ wp l := fun e => nd.1 (ls_me e.symm (List.mem_cons_self ..))
  have p3 : (tr_pg g2 (hs 3) (ro 3)).Perm (y :: tr_pg g (hs 3) (ro 3)) := p2.trans (List.Perm.cons y p1.symm)
  have hB := fun q m => B q (p1.mem_iff.mpr m)
  refine ⟨⟨ot_fr O (fun q m => e2 q (fun e => ?_) (fun e => yF (e ▸ m)) (fun e => ?_)) (fun s hs => ⟨rfl, rfl⟩), wt_more W s2 p3 yW yF, hr, ?_, f2.trans (f1.symm.trans hfl)⟩, fun q mq => ?_, fun j hj => ?_, hax⟩
  · have := W.2.2.2.2.1 q m
    rw [e, hfr (l + 1) (by omega)] at this
    exact (nomatch this)
  · have := W.2.2.2.2.1 q m
    rw [e, hfr l (by omega)] at this
    exact (nomatch this)
  · rw [p3.length_eq, List.length_cons]; omega
  · have ba := hB (wp l) (List.mem_cons_self ..)
    rw [hga] at ba
    simp only [List.length_append] at ba
    have ba4 := ba.2.2.2 (fun e => hax e.symm)
    rcases List.mem_cons.mp (p2.mem_iff.mp mq) with e | m1
    · rw [e, ey]
      dsimp only
      exact ⟨by omega, fun _ => by omega, by omega, fun _ => by omega⟩
    · rcases List.mem_cons.mp m1 with e | m1
      · rw [e, ea]
        simp only [List.length_append, List.length_cons]
        exact ⟨by omega, fun _ => by omega, by omega, fun h => absurd rfl h⟩
      · rcases List.mem_cons.mp m1 with e | m1
        · rw [e, ex]
          dsimp only
          exact ⟨by omega, fun _ => by omega, by omega, fun _ => by omega⟩
        · have bq := hB q (List.mem_cons_of_mem _ (List.mem_cons_of_mem _ m1))
          rw [hu q m1]
          exact ⟨bq.1, bq.2.1, bq.2.2.1, fun _ => bq.2.2.2 (nU q m1).1⟩
  · have := hp j (by omega)
    rw [hu _ (List.mem_append_left _ (hps j hj))]
    exact this
/-- the root is split -/
theorem sp_0 {g g1 g2 : Nat → pg_T} {fr : Nat → Bool} {ro : Nat → Nat} {mv : Nat → Bool} {mr hs : Nat → Nat} {G : Nat → pg_T} {F C : List Nat} {w : Nat} {fl0 : List kv_T} {x y a : Nat} {X1 X2 : List kv_T} {m : kv_T} {D1 D2 : List Nat}
    (S : op_S G g fr ro mv mr hs F C w fl0) (B : bd_5 g (hs 3) (ro 3) x) (h0 : x = ro 3) (hfx : fr x = true) (hgx : g x = (X1 ++ m :: X2, D1 ++ D2)) (hX1 : X1.length = 2) (hX2 : X2.length = 2) (hD : D1.length = if hs 3 = 0 then 0 else X1.length + 1)
    (hy : y < 100) (fy : fr y = false) (yF : y ∉ F) (yW : y ∉ tr_pg g (hs 3) (ro 3)) (ex : g1 x = (X1, D1)) (ey : g1 y = (X2, D2)) (e1 : ∀ q, q ≠ x → q ≠ y → g1 q = g q)
    (ha : a < 100) (fa : fr a = false) (hay : a ≠ y) (na : ∀ s, s < 6 → rc_f ro mv mr s < 100 → a ∉ tr_pg g1 (hs s) (rc_f ro mv mr s)) (ea : g2 a = ([m], [x, y])) (e2 : ∀ q, q ≠ a → g2 q = g1 q) :
    op_S G g2 (un_f (un_f fr y true) a true) (un_f ro 3 a) mv mr (un_f hs 3 (hs 3 + 1)) F C (w + 2) fl0 ∧ bd_0 g2 (hs 3 + 1) a := by
  obtain ⟨O, W, hr, hlen, hfl⟩ := S
  subst h0
  have hF1 : ∀ q, q ∈ F → g1 q = g q := fun q hq => e1 q (fun e => by
    have := W.2.2.2.2.1 q hq
    rw [e, hfx] at this
    exact (nomatch this)) (fun e => yF (e ▸ hq))
  have O1 : ot_I G g1 (rc_f ro mv mr) hs F := ot_fr O hF1 (fun s hs => ⟨rfl, rfl⟩)
  have aF : a ∉ F := fun h => by
    obtain ⟨s, s1, _, s3, m⟩ := O1.2.2 a h
    exact na s s1 s3 m
  have aW : a ∉ tr_pg g (hs 3) (ro 3) := fun h => by
    rcases W.2.2.1 a h with h | h
    · rw [fa] at h; exact (nomatch h)
    · exact aF (W.2.2.2.2.2 a h)
  have p0 := tr_pge g (hs 3) (ro 3)
  have nd := W.2.1
  rw [p0, List.nodup_cons] at nd
  have nD : ∀ q, q ∈ tr_pp g (hs 3) (g (ro 3)) → q ≠ ro 3 ∧ q ≠ y ∧ q ≠ a := fun q m => ⟨fun e => nd.1 (ls_me e.symm m), fun e => yW (by rw [p0]; exact List.mem_cons_of_mem _ (ls_me e.symm m)), fun e => aW (by rw [p0]; exact List.mem_cons_of_mem _ (ls_me e.symm m))⟩
  have hu : ∀ q, q ∈ tr_pp g (hs 3) (g (ro 3)) → g2 q = g q := fun q m => (e2 q (nD q m).2.2).trans (e1 q (nD q m).1 (nD q m).2.1)
  have kJ := tr_frc hu
  have sJ := kJ.2.2 ((tr_she _ _ _).mp W.1).2
  rw [hgx] at kJ sJ
  obtain ⟨t1, t2⟩ := tr_un sJ hD
  have hxa : ro 3 ≠ a := fun e => aW (ls_me e.symm (tr_pgs _ _ _))
  have gx2 : g2 (ro 3) = (X1, D1) := (e2 _ hxa).trans ex
  have gy2 : g2 y = (X2, D2) := (e2 _ (fun e => hay e.symm)).trans ey
  obtain ⟨v1, v2⟩ := tr_v2 (h := hs 3) (E1 := []) (E2 := []) (C1 := []) (C2 := []) ea gx2 gy2 rfl t1 t2
  have f2 : tr_fl g2 (hs 3 + 1) a = tr_fl g (hs 3) (ro 3) := by
    rw [v1, tr_fle g, hgx, ← kJ.1]
    show [] ++ (_ ++ []) = _
    rw [List.append_nil, List.nil_append]
  have p2 : (tr_pg g2 (hs 3 + 1) a).Perm (y :: a :: tr_pg g (hs 3) (ro 3)) := by
    refine v2.trans (List.Perm.cons y (List.Perm.cons a ?_))
    rw [p0, hgx, ← kJ.2.1]
    show (ro 3 :: (_ ++ [])).Perm _
    rw [List.append_nil]
  have s2 : tr_sh g2 (hs 3 + 1) a := by
    show a < 100 ∧ (g2 a).2.length = (g2 a).1.length + 1 ∧ ∀ c, c ∈ (g2 a).2 → tr_sh g2 (hs 3) c
    rw [ea]
    refine ⟨ha, rfl, fun c mc => ?_⟩
    rcases List.mem_cons.mp mc with e | mc
    · rw [e, tr_she, gx2]; exact ⟨hr, t1⟩
    · rw [List.mem_singleton.mp mc, tr_she, gy2]; exact ⟨hy, t2⟩
  refine ⟨⟨ot_fr O1 (fun q m => e2 q (fun e => aF (e ▸ m))) (fun s hs => ⟨rc_3 (fun s hs => un_n hs) s hs, un_n hs⟩), ?_, ?_, ?_, ?_⟩, fun q mq => ?_⟩
  · rw [un_s, un_s]
    exact wt_more2 W s2 p2 yW yF aW aF hay
  · rw [un_s]; exact ha
  · rw [un_s, un_s, p2.length_eq, List.length_cons, List.length_cons]; omega
  · rw [un_s, un_s, f2]; exact hfl
  · rcases List.mem_cons.mp (p2.mem_iff.mp mq) with e | m1
    · rw [e, gy2]
      dsimp only
      exact ⟨by omega, by omega, fun _ => by omega⟩
    · rcases List.mem_cons.mp m1 with e | m1
      · rw [e, ea]
        exact ⟨Nat.le_refl _, by show 1 ≤ 4; omega, fun h => absurd rfl h⟩
      · rw [p0] at m1
        rcases List.mem_cons.mp m1 with e | m2
        · rw [e, gx2]
          dsimp only
          exact ⟨by omega, by omega, fun _ => by omega⟩
        · have bq := B q (by rw [p0]; exact m1)
          rw [hu q m2]
          exact ⟨bq.1, bq.2.2.2 (nD q m2).1, fun _ => bq.2.1 (nD q m2).1⟩
end
section
/-! X's walk: insert -/
theorem xw_ins67 {mr : Nat → Nat} {ms : Nat → Nat} {mn : Nat → Nat} {mv : Nat → Bool} {sz : Nat → Nat} {nu : Nat → Nat} {wp : Nat → Nat} {wi : Nat → Nat} {post : SX → Prop} {G : Nat → pg_T} {F C : List Nat} {fl0 : List kv_T} {hs0 ro0 : Nat → Nat} {we : Nat}
    (K : ∀ (kc ks : Nat → Nat) (vs : Nat → Int32) (bl : Nat → Nat) (fr us : Nat → Bool) (ro wa hs : Nat → Nat) (w : Nat), gs_b kc ks → op_S G (gp_c kc ks vs bl) fr ro mv mr hs F C w fl0 → bd_0 (gp_c kc ks vs bl) (hs 3) (ro 3) → (∀ s, s ≠ 3 → hs s = hs0 s) → (∀ s, s ≠ 3 → ro s = ro0 s) → post ((nI we), (eu_N kc), (eu_N ks), vs, (eu_P bl), (eu_B fr), (eu_B us), (eu_P mr), (eu_N ms), (eu_N mn), (eu_B mv), (eu_P ro), (eu_N sz), (eu_N nu), (eu_N wp), (eu_N wi), (eu_P wa))) :
    ∀ (l : Nat) (kc ks : Nat → Nat) (vs : Nat → Int32) (bl : Nat → Nat) (fr us : Nat → Bool) (ro wa hs : Nat → Nat) (w : Nat), l < 8 → w + l ≤ 28 → l ≤ hs 3 → gs_b kc ks → op_S G (gp_c kc ks vs bl) fr ro mv mr hs F C w fl0 → bd_5 (gp_c kc ks vs bl) (hs 3) (ro 3) (wp l) → wp 0 = ro 3 → tr_pt (gp_c kc ks vs bl) wp wi l → (∀ j, j ≤ l → fr (wp j) = true) → (∀ s, s ≠ 3 → hs s = hs0 s) → (∀ s, s ≠ 3 → ro s = ro0 s) →
    wX_insert_67 post (l + 2) (nI l) (nI we) (eu_N kc) (eu_N ks) vs (eu_P bl) (eu_B fr) (eu_B us) (eu_P mr) (eu_N ms) (eu_N mn) (eu_B mv) (eu_P ro) (eu_N sz) (eu_N nu) (eu_N wp) (eu_N wi) (eu_P wa) := by
  intro l
  induction l with
  | zero =>
    intro kc ks vs bl fr us ro wa hs w hl hw hh gs S B h0 hp hf hhs hro
    have hx : wp 0 < 100 := by rw [h0]; exact S.2.2.1
    have h5' := gs.1 (wp 0)
    have N := op_np S (by omega)
    rw [wX_insert_67]
    refine br_f (nI_pos (by omega)) ?_
    rw [nI_clamp (by omega), eu_Nr, nI_clamp (by omega), eu_Nr]
    refine ⟨vp_in_nI (by omega) (by omega), vp_in_nI hx (by omega), br_c (fun h5 => ?_) (fun h5 => ?_)⟩
    · rw [ea_5, nI_eq (by omega) (by omega)] at h5
      have hsh := S.2.1.1
      rw [← h0] at hsh
      have hgt := gp_hgt hsh
      have f5 := gp_five (ks := ks) (vs := vs) (bl := bl) h5
      have fx := hf 0 (by omega)
      have hD : (if bl (6 * wp 0) < 100 then sg_l bl (6 * wp 0) 3 else []).length = if hs 3 = 0 then 0 else (sg_l (fun j => (ks j, vs j)) (5 * wp 0) 2).length + 1 := by
        by_cases e : hs 3 = 0
        · rw [if_pos e, if_neg (fun h => hgt.1.mp h e)]; rfl
        · rw [if_neg e, if_pos (hgt.1.mpr e), sg_len, sg_len]
      refine xw_split0 gs N.1 (by omega) N.2.2.1 N.2.2.2.1 hx rfl fx (fun hb => hgt.2 hb 3 (by omega)) (fun y g1 hy fy ny ex ey eq => ?_) N.2.1 (fun y a g1 kc' ks' vs' bl' us' wa' hy fy ny ha fa hay ex ey eq na gs' ga gq => ?_)
      · obtain ⟨yF, yW⟩ := N.2.2.2.2 y ny
        have O1 : ot_I G g1 (rc_f ro mv mr) hs F := ot_fr S.1 (fun q hq => eq q (fun e => by
          have := S.2.1.2.2.2.2.1 q hq
          rw [e, fx] at this
          exact (nomatch this)) (fun e => yF (e ▸ hq))) (fun s hs => ⟨rfl, rfl⟩)
        have p0 := tr_pge (gp_c kc ks vs bl) (hs 3) (wp 0)
        have nd := S.2.1.2.1
        rw [← h0] at nd yW
        rw [p0, List.nodup_cons] at nd
        rw [p0] at yW
        have hu : ∀ q, q ∈ tr_pp (gp_c kc ks vs bl) (hs 3) (gp_c kc ks vs bl (wp 0)) → g1 q = gp_c kc ks vs bl q := fun q m => eq q (fun e => nd.1 (ls_me e.symm m)) (fun e => yW (List.mem_cons_of_mem _ (ls_me e.symm m)))
        have kJ := tr_frc hu
        have sJ := kJ.2.2 ((tr_she _ _ _).mp hsh).2
        rw [f5] at sJ
        obtain ⟨t1, t2⟩ := tr_un sJ hD
        have j := tr_jn (m := (ks (5 * wp 0 + 2), vs (5 * wp 0 + 2))) t1 t2
        rw [← f5, kJ.2.1] at j
        have e3 : rc_f ro mv mr 3 = wp 0 := (rc_lo (by omega)).trans h0.symm
        have s3 : tr_sh g1 (hs 3) (wp 0) := by rw [tr_she, ex]; exact ⟨hx, t1⟩
        have sub : ∀ q, q ∈ tr_pg g1 (hs 3) (wp 0) → q ∈ tr_pg (gp_c kc ks vs bl) (hs 3) (ro 3) := by
          intro q hq
          rw [tr_pge, ex] at hq
          rw [← h0, p0]
          rcases List.mem_cons.mp hq with e | hq
          · rw [e]; exact List.mem_cons_self ..
          · refine List.mem_cons_of_mem _ ?_
            rw [j.2.1]
            exact List.mem_append_left _ hq
        have len : (tr_pg g1 (hs 3) (wp 0)).length ≤ 30 := by
          have := S.2.2.2.1
          rw [← h0, p0, List.length_cons, j.2.1, List.length_append] at this
          rw [tr_pge, ex, List.length_cons]
          omega
        refine ⟨fun s s1 s2 => ?_, fun s s1 s2 q hq => ?_⟩
        · by_cases e : s = 3
          · subst e; rw [e3]; exact ⟨s3, by omega⟩
          · have := O1.2.1 s s1 e s2
            exact ⟨this.1, by omega⟩
        · by_cases e : s = 3
          · subst e; rw [e3] at hq; exact List.mem_append_right _ (sub q hq)
          · exact List.mem_append_left _ ((O1.2.1 s s1 e s2).2.2 q hq)
      · obtain ⟨yF, yW⟩ := N.2.2.2.2 y ny
        obtain ⟨S2, B2⟩ := sp_0 S B h0 fx f5 (sg_len _ _ _) (sg_len _ _ _) hD hy fy yF yW ex ey eq ha fa hay na ga gq
        dsimp only
        refine nm_r (e' := -1) (by decide +kernel) ?_
        rw [wX_insert_67]
        refine br_t (by decide) ?_
        exact K kc' ks' vs' bl' _ us' _ wa' _ _ gs' S2 (by rw [un_s, un_s]; exact B2) (fun s hs => (un_n hs).trans (hhs s hs)) (fun s hs => (un_n hs).trans (hro s hs))
    · rw [ea_5, nI_eq (by omega) (by omega)] at h5
      exact K kc ks vs bl fr us ro wa hs w gs S (bd_50 B (by rw [gp_len]; omega)) hhs hro
  | succ l ih =>
    intro kc ks vs bl fr us ro wa hs w hl hw hh gs S B h0 hp hf hhs hro
    have hsh := S.2.1.1
    rw [← h0] at hsh
    obtain ⟨lf, rt, ps, E1, E2, C1, C2, I, hg, l1, l2, hps, ha, hx⟩ := bs_pt (l := l) hsh hh hp
    have hsl := (tr_ptd hsh (l + 1) hh hp).2
    have h5' := gs.1 (wp (l + 1))
    have N := op_np S (by omega)
    rw [wX_insert_67]
    refine br_f (nI_pos (by omega)) ?_
    rw [nI_clamp (by omega), eu_Nr, nI_clamp (by omega), eu_Nr]
    refine ⟨vp_in_nI (by omega) (by omega), vp_in_nI hx (by omega), br_c (fun h5 => ?_) (fun h5 => ?_)⟩
    · rw [ea_5, nI_eq (by omega) (by omega)] at h5
      have hgt := gp_hgt hsl
      have f5 := gp_five (ks := ks) (vs := vs) (bl := bl) h5
      obtain ⟨d1, d2, d3, d4, d5, d6, d7⟩ := gp_dec hg l1 l2 rfl
      have hD : (if bl (6 * wp (l + 1)) < 100 then sg_l bl (6 * wp (l + 1)) 3 else []).length = if hs 3 - (l + 1) = 0 then 0 else (sg_l (fun j => (ks j, vs j)) (5 * wp (l + 1)) 2).length + 1 := by
        by_cases e : hs 3 - (l + 1) = 0
        · rw [if_pos e, if_neg (fun h => hgt.1.mp h e)]; rfl
        · rw [if_neg e, if_pos (hgt.1.mpr e), sg_len, sg_len]
      rw [h0] at I
      obtain ⟨_, _, p1⟩ := bs_V1 I (fun _ _ => rfl) ha hx hg rfl
      have nd := p1.nodup_iff.mp S.2.1.2.1
      rw [List.nodup_cons] at nd
      have hax : wp (l + 1) ≠ wp l := fun e => nd.1 (ls_me e.symm (List.mem_cons_self ..))
      have ba := (B (wp l) (p1.mem_iff.mpr (List.mem_cons_self ..))).2.2.2 (fun e => hax e.symm)
      rw [gp_len] at ba
      refine xw_splitS gs N.1 (by omega) N.2.2.1 N.2.2.2.1 (by omega) hx rfl (hf (l + 1) (by omega)) ha rfl rfl (hf l (by omega)) hax rfl ba d2 d1 (fun hb => hgt.2 hb 3 (by omega)) (fun y kc' ks' vs' bl' us' wa' hy fy ny gs' ex ey ea eq => ?_)
      obtain ⟨yF, yW⟩ := N.2.2.2.2 y ny
      have ea' : gp_c kc' ks' vs' bl' (wp l) = (E1 ++ (ks (5 * wp (l + 1) + 2), vs (5 * wp (l + 1) + 2)) :: E2, C1 ++ wp (l + 1) :: y :: C2) := by
        rw [ea, d3, d4, d7]
        refine Prod.ext rfl ?_
        dsimp only
        rw [sg_app, d5, d6, List.append_assoc]
        rfl
      obtain ⟨S2, B2, P2, _⟩ := sp_S S B h0 hp hh hf hg l1 l2 f5 (sg_len _ _ _) (sg_len _ _ _) hD hy fy yF yW ex ey ea' eq
      dsimp only
      refine nm_r (pk_m1 l) ?_
      refine ih kc' ks' vs' bl' _ us' ro wa' hs (w + 1) (by omega) (by omega) (by omega) gs' S2 B2 h0 P2 (fun j hj => ?_) hhs hro
      have := hf j (by omega)
      by_cases e : wp j = y
      · rw [e, un_s]
      · rw [un_n e]; exact this
    · rw [ea_5, nI_eq (by omega) (by omega)] at h5
      exact K kc ks vs bl fr us ro wa hs w gs S (bd_50 B (by rw [gp_len]; omega)) hhs hro
end
section
/-! a leaf of the writer's tree changes -/
theorem tr_ne {g : Nat → pg_T} {wp wi : Nat → Nat} {H m j k : Nat} (hs : tr_sh g H (wp 0)) (nd : (tr_pg g H (wp 0)).Nodup) (hm : m ≤ H) (hp : tr_pt g wp wi m) (hjk : j < k) (hk : k ≤ m) : wp j ≠ wp k := by
  obtain ⟨⟨lf, rt, ps, hc, _⟩, _⟩ := tr_ptd hs j (by omega) (fun i hi => hp i (by omega))
  have p := (hc g (fun _ _ => rfl)).2.1
  have n1 := p.nodup_iff.mp nd
  have n2 := (List.nodup_append.mp n1).2.1
  rw [tr_pge, List.nodup_cons] at n2
  have := tr_dn hm hp (k - (j + 1)) j (by omega)
  rw [show j + 1 + (k - (j + 1)) = k by omega] at this
  exact fun e => n2.1 (ls_me e this)
theorem lf_S {G g g2 : Nat → pg_T} {fr : Nat → Bool} {ro : Nat → Nat} {mv : Nat → Bool} {mr hs : Nat → Nat} {F C : List Nat} {w : Nat} {fl0 lf rt E' : List kv_T} {ps : List Nat} {wp wi : Nat → Nat}
    (S : op_S G g fr ro mv mr hs F C w fl0) (h0 : wp 0 = ro 3) (hp : tr_pt g wp wi (hs 3)) (hc : tr_cx g (hs 3) (ro 3) 0 (wp (hs 3)) lf rt ps) (hx : wp (hs 3) < 100) (hf : fr (wp (hs 3)) = true) (ex : g2 (wp (hs 3)) = (E', [])) (e2 : ∀ q, q ≠ wp (hs 3) → g2 q = g q) :
    op_S G g2 fr ro mv mr hs F C w (lf ++ (E' ++ rt)) ∧ (tr_pg g2 (hs 3) (ro 3)).Perm (tr_pg g (hs 3) (ro 3)) ∧ tr_pt g2 wp wi (hs 3) := by
  obtain ⟨O, W, hr, hlen, hfl⟩ := S
  have p1 : (tr_pg g (hs 3) (ro 3)).Perm (ps ++ [wp (hs 3)]) := (hc g (fun _ _ => rfl)).2.1
  have nd := p1.nodup_iff.mp W.2.1
  have nps : ∀ q, q ∈ ps → q ≠ wp (hs 3) := fun q m => (List.nodup_append.mp nd).2.2 q m (wp (hs 3)) (List.mem_singleton.mpr rfl)
  obtain ⟨f2, p2, s2⟩ := hc g2 (fun q m => e2 q (nps q m))
  have p2' : (tr_pg g2 (hs 3) (ro 3)).Perm (ps ++ [wp (hs 3)]) := p2
  have sx : tr_sh g2 0 (wp (hs 3)) := ⟨hx, by rw [ex]⟩
  have p3 := p2'.trans p1.symm
  refine ⟨⟨ot_fr O (fun q m => e2 q (fun e => ?_)) (fun s hs => ⟨rfl, rfl⟩), wt_same W (s2 sx) p3, hr, by rw [p3.length_eq]; exact hlen, ?_⟩, p3, fun j hj => ?_⟩
  · have := W.2.2.2.2.1 q m
    rw [e, hf] at this
    exact (nomatch this)
  · rw [f2]
    show lf ++ ((g2 (wp (hs 3))).1 ++ rt) = _
    rw [ex]
  · have hs0 := W.1
    have nd0 := W.2.1
    rw [← h0] at hs0 nd0
    rw [e2 _ (tr_ne hs0 nd0 (Nat.le_refl _) hp hj (Nat.le_refl _))]
    exact hp j hj
theorem xw_ins26 {kc : Nat → Nat} {ks : Nat → Nat} {vs : Nat → Int32} {bl : Nat → Nat} {fr : Nat → Bool} {us : Nat → Bool} {mr : Nat → Nat} {ms : Nat → Nat} {mn : Nat → Nat} {mv : Nat → Bool} {ro : Nat → Nat} {sz : Nat → Nat} {nu : Nat → Nat} {wp : Nat → Nat} {wi : Nat → Nat} {wa : Nat → Nat} {post : SX → Prop} {G : Nat → pg_T} {F C : List Nat} {fl0 : List kv_T} {hs : Nat → Nat} {w m key : Nat} {v : Int32} (hm : m = hs 3) (hm8 : m < 8) (hw : w + m ≤ 28) (hk : key < 100) (gs : gs_b kc ks) (S : op_S G (gp_c kc ks vs bl) fr ro mv mr hs F C w fl0) (so : so_l fl0)
    (Bd : ∀ q, q ∈ tr_pg (gp_c kc ks vs bl) (hs 3) (ro 3) → (gp_c kc ks vs bl q).1.length ≤ 4 ∧ (q ≠ ro 3 → 2 ≤ (gp_c kc ks vs bl q).1.length) ∧ (q ≠ wp m → 1 ≤ (gp_c kc ks vs bl q).1.length))
    (h0 : wp 0 = ro 3) (hp : tr_pt (gp_c kc ks vs bl) wp wi m) (hf : ∀ j, j ≤ m → fr (wp j) = true) (hsp : ∀ j, j ≤ m → sp_l key (gp_c kc ks vs bl (wp j)).1 (wi j)) (hi : wi m ≤ kc (wp m))
    (K : ∀ (A B : List kv_T), fl0 = A ++ B → (∀ e, e ∈ A → e.1 < key) → (∀ e, e ∈ B → key < e.1) → ∀ (kc' ks' : Nat → Nat) (vs' : Nat → Int32) (bl' : Nat → Nat) (fr' us' : Nat → Bool) (ro' wa' hs' : Nat → Nat) (w' : Nat), gs_b kc' ks' → op_S G (gp_c kc' ks' vs' bl') fr' ro' mv mr hs' F C w' (A ++ (key, v) :: B) → bd_0 (gp_c kc' ks' vs' bl') (hs' 3) (ro' 3) → (∀ s, s ≠ 3 → hs' s = hs s) → (∀ s, s ≠ 3 → ro' s = ro s) →
      post ((nI (m + 1)), (eu_N kc'), (eu_N ks'), vs', (eu_P bl'), (eu_B fr'), (eu_B us'), (eu_P mr), (eu_N ms), (eu_N mn), (eu_B mv), (eu_P ro'), (eu_N sz), (eu_N nu), (eu_N wp), (eu_N wi), (eu_P wa'))) : wX_insert_26 post (nI key) v (nI (m + 1)) (eu_N kc) (eu_N ks) vs (eu_P bl) (eu_B fr) (eu_B us) (eu_P mr) (eu_N ms) (eu_N mn) (eu_B mv) (eu_P ro) (eu_N sz) (eu_N nu) (eu_N wp) (eu_N wi) (eu_P wa) := by
  have hsh := S.2.1.1
  have hfl := S.2.2.2.2
  rw [← h0] at hsh hfl
  have so' := so
  rw [← hfl] at so'
  obtain ⟨lf, rt, ps, hc, hx0, hlf, hrt⟩ := tr_ptk hsh so' m (by omega) hp (fun j hj => hsp j (by omega))
  have e0 : hs 3 - m = 0 := by omega
  rw [e0] at hc hx0
  obtain ⟨hx, hb⟩ := gp_leaf hx0
  have hin : wp m ∈ tr_pg (gp_c kc ks vs bl) (hs 3) (ro 3) := by
    rw [← h0]
    exact (hc _ (fun _ _ => rfl)).2.1.mem_iff.mpr (List.mem_append_right _ (tr_pgs _ _ _))
  have h4 := (Bd (wp m) hin).1
  rw [gp_len] at h4
  unfold wX_insert_26
  simp (disch := omega) only [forall_eq, true_implies, false_implies, not_true_eq_false, not_false_eq_true, and_true, true_and, ea_0, ea_1, ea_2, ea_3, ea_4, ea_5, ea_6, ea_24, ea_99, ea_100, ea_300, ea_n1, ea_n2, pk_mul, nI_add, pk_sub, ea_m1, nI_clamp, eu_Nr, eu_Br, eu_Pr, eu_pn, eu_nb, eu_i8, eu_pb, eu_pi, eu_vb0, eu_vb1, eu_vbb, eu_Nu, eu_Pu, eu_Pun, eu_Bu, eu_Bu0, eu_Bu1, ea_inT, nI_leI, Nat.zero_le, nI_ltI, nI_eq, eu_pl, eu_pg, eu_p2, eu_b0, Nat.add_sub_cancel]
  refine xw_openPlace hx h4 hi gs.2 (fun ks1 vs1 hk1 k1 k2 => ?_)
  dsimp only
  simp (disch := omega) only [forall_eq, true_implies, false_implies, not_true_eq_false, not_false_eq_true, and_true, true_and, ea_0, ea_1, ea_2, ea_3, ea_4, ea_5, ea_6, ea_24, ea_99, ea_100, ea_300, ea_n1, ea_n2, pk_mul, nI_add, pk_sub, ea_m1, nI_clamp, eu_Nr, eu_Br, eu_Pr, eu_pn, eu_nb, eu_i8, eu_pb, eu_pi, eu_vb0, eu_vb1, eu_vbb, eu_Nu, eu_Pu, eu_Pun, eu_Bu, eu_Bu0, eu_Bu1, ea_inT, nI_leI, Nat.zero_le, nI_ltI, nI_eq, eu_pl, eu_pg, eu_p2, eu_b0]
  refine xw_putAt hx (by omega) (by omega) ?_
  dsimp only
  have f0 : fl0 = (lf ++ sg_l (fun j => (ks j, vs j)) (5 * wp m) (wi m)) ++ (sg_l (fun j => (ks j, vs j)) (5 * wp m + wi m) (kc (wp m) - wi m) ++ rt) := by
    rw [← hfl, (hc _ (fun _ _ => rfl)).1]
    show lf ++ (sg_l (fun j => (ks j, vs j)) (5 * wp m) (kc (wp m)) ++ rt) = _
    rw [sg_cut _ _ hi]
    simp only [List.append_assoc]
  have hspm := hsp m (Nat.le_refl _)
  unfold sp_l at hspm
  rw [gp_1, sg_cut _ _ hi, List.take_left' (sg_len _ _ _), List.drop_left' (sg_len _ _ _)] at hspm
  -- the new content
  have gx : gp_c (un_f kc (wp m) (kc (wp m) + 1)) (un_f ks1 (5 * wp m + wi m) key) (upd vs1 (5 * wp m + wi m) v) bl (wp m) = (sg_l (fun j => (ks j, vs j)) (5 * wp m) (wi m) ++ (key, v) :: sg_l (fun j => (ks j, vs j)) (5 * wp m + wi m) (kc (wp m) - wi m), []) := by
    refine Prod.ext ?_ ?_
    · rw [gp_1, un_s, sg_mid (i := wi m) _ _ (by omega)]
      refine congr (congrArg _ ?_) (congr (congrArg _ ?_) ?_)
      · refine sg_kv (fun t ht => ⟨(un_n (by omega)).trans (k2 _ (by omega)).1, (pk_un (by omega)).trans (k2 _ (by omega)).2⟩)
      · rw [un_s, pk_us]
      · rw [show kc (wp m) + 1 - wi m - 1 = kc (wp m) - wi m by omega]
        refine sg_kv (fun t ht => ?_)
        have u := k1 (wi m + 1 + t) (by omega) (by omega)
        rw [show 5 * wp m + (wi m + 1 + t) = 5 * wp m + wi m + 1 + t by omega, show 5 * wp m + (wi m + 1 + t - 1) = 5 * wp m + wi m + t by omega] at u
        exact ⟨(un_n (by omega)).trans u.1, (pk_un (by omega)).trans u.2⟩
    · exact gp_3 hb
  have gq : ∀ q, q ≠ wp m → gp_c (un_f kc (wp m) (kc (wp m) + 1)) (un_f ks1 (5 * wp m + wi m) key) (upd vs1 (5 * wp m + wi m) v) bl q = gp_c kc ks vs bl q := by
    intro q hq
    have h5 := gs.1 q
    exact gp_eq (un_n hq) (fun t ht => ⟨(un_n (by omega)).trans (k2 _ (by omega)).1, (pk_un (by omega)).trans (k2 _ (by omega)).2⟩) (fun t ht => rfl)
  subst hm
  rw [h0] at hc
  obtain ⟨S2, p3, P2⟩ := lf_S S h0 hp hc hx (hf _ (Nat.le_refl _)) gx gq
  refine ⟨hs 3 + 2, ?_⟩
  refine xw_ins67 (K _ _ f0 (fun e me => ?_) (fun e me => ?_)) (hs 3) _ _ _ bl fr us ro wa hs w hm8 hw (Nat.le_refl _) ⟨fun p => ?_, fun j => ?_⟩ ?_ (fun q hq => ?_) h0 P2 hf (fun _ _ => rfl) (fun _ _ => rfl)
  · rcases List.mem_append.mp me with me | me
    · exact hlf e me
    · exact hspm.1 e me
  · rcases List.mem_append.mp me with me | me
    · exact hspm.2 e me
    · exact hrt e me
  · by_cases e : p = wp (hs 3)
    · rw [e, un_s]; omega
    · rw [un_n e]; exact gs.1 p
  · by_cases e : j = 5 * wp (hs 3) + wi (hs 3)
    · rw [e, un_s]; exact hk
    · rw [un_n e]; exact hk1 j
  · have e : lf ++ ((sg_l (fun j => (ks j, vs j)) (5 * wp (hs 3)) (wi (hs 3)) ++ (key, v) :: sg_l (fun j => (ks j, vs j)) (5 * wp (hs 3) + wi (hs 3)) (kc (wp (hs 3)) - wi (hs 3))) ++ rt) = (lf ++ sg_l (fun j => (ks j, vs j)) (5 * wp (hs 3)) (wi (hs 3))) ++ (key, v) :: (sg_l (fun j => (ks j, vs j)) (5 * wp (hs 3) + wi (hs 3)) (kc (wp (hs 3)) - wi (hs 3)) ++ rt) := by
      simp only [List.append_assoc, List.cons_append]
    rw [← e]
    exact S2
  · have b := Bd q (p3.mem_iff.mp hq)
    by_cases e : q = wp (hs 3)
    · rw [e, gp_len, un_s]
      rw [e, gp_len] at b
      exact ⟨by omega, fun h => by have := b.2.1 h; omega, by omega, fun h => absurd rfl h⟩
    · rw [gq q e]
      exact ⟨b.2.2 e, b.2.1, by omega, fun _ => b.1⟩
theorem xw_insert0 {kc : Nat → Nat} {ks : Nat → Nat} {vs : Nat → Int32} {bl : Nat → Nat} {fr : Nat → Bool} {us : Nat → Bool} {mr : Nat → Nat} {ms : Nat → Nat} {mn : Nat → Nat} {mv : Nat → Bool} {ro : Nat → Nat} {sz : Nat → Nat} {nu : Nat → Nat} {wp : Nat → Nat} {wi : Nat → Nat} {wa : Nat → Nat} {post : SX → Prop} {G : Nat → pg_T} {F C : List Nat} {hs : Nat → Nat} {key : Nat} {v : Int32} (hk : key < 100) (gs : gs_b kc ks) (O : ot_I G (gp_c kc ks vs bl) (rc_f ro mv mr) hs F) (hr : 100 ≤ ro 3) (hfr : ∀ q, q < 100 → fr q = false) (hFr : ∀ q, q ∈ F → fr q = false) (hCF : ∀ q, q ∈ C → q ∈ F)
    (K : ∀ (kc' ks' : Nat → Nat) (vs' : Nat → Int32) (bl' : Nat → Nat) (fr' us' : Nat → Bool) (ro' wp' wi' wa' hs' : Nat → Nat) (w' : Nat), gs_b kc' ks' → op_S G (gp_c kc' ks' vs' bl') fr' ro' mv mr hs' F C w' [(key, v)] → bd_0 (gp_c kc' ks' vs' bl') (hs' 3) (ro' 3) → (∀ s, s ≠ 3 → hs' s = hs s) → (∀ s, s ≠ 3 → ro' s = ro s) →
      post ((nI 1), (eu_N kc'), (eu_N ks'), vs', (eu_P bl'), (eu_B fr'), (eu_B us'), (eu_P mr), (eu_N ms), (eu_N mn), (eu_B mv), (eu_P ro'), (eu_N sz), (eu_N nu), (eu_N wp'), (eu_N wi'), (eu_P wa'))) : wpX_insert post ((nI 0), (eu_N kc), (eu_N ks), vs, (eu_P bl), (eu_B fr), (eu_B us), (eu_P mr), (eu_N ms), (eu_N mn), (eu_B mv), (eu_P ro), (eu_N sz), (eu_N nu), (eu_N wp), (eu_N wi), (eu_P wa)) (nI key) v := by
  unfold wpX_insert
  dsimp only
  refine br_t nI_0 ?_
  have e3 : rc_f ro mv mr 3 = ro 3 := rc_lo (by omega)
  refine xw_newPage (hs := hs) (L := F) gs (fun s s1 s2 => ?_) (by have := O.1.1; omega) (fun s s1 s2 q hq => ?_) (fun q hq hf => ?_) (fun x us' wa' hx fx nx => ?_)
  · by_cases e : s = 3
    · rw [e, e3] at s2; omega
    · have := O.2.1 s s1 e s2
      exact ⟨this.1, by omega⟩
  · by_cases e : s = 3
    · rw [e, e3] at s2; omega
    · exact (O.2.1 s s1 e s2).2.2 q hq
  · rw [hfr q hq] at hf; exact (nomatch hf)
  dsimp only
  have xF : x ∉ F := fun h => by
    obtain ⟨s, s1, _, s3, m⟩ := O.2.2 x h
    exact nx s s1 s3 m
  simp (disch := omega) only [forall_eq, true_implies, false_implies, not_true_eq_false, not_false_eq_true, and_true, true_and, ea_0, ea_1, ea_2, ea_3, ea_4, ea_5, ea_6, ea_24, ea_99, ea_100, ea_300, ea_n1, ea_n2, pk_mul, nI_add, pk_sub, ea_m1, nI_clamp, eu_Nr, eu_Br, eu_Pr, eu_pn, eu_nb, eu_i8, eu_pb, eu_pi, eu_vb0, eu_vb1, eu_vbb, eu_Nu, eu_Pu, eu_Pun, eu_Bu, eu_Bu0, eu_Bu1, ea_inT, nI_leI, Nat.zero_le, nI_ltI, nI_eq, eu_pl, eu_pg, eu_p2, eu_b0]
  refine xw_pushWay (we := 0) (by omega) (by omega) (by omega) ?_
  dsimp only
  have gx : gp_c (un_f kc x 0) ks vs (un_f bl (6 * x) 100) x = ([], []) := by
    refine Prod.ext ?_ ?_
    · rw [gp_1, un_s]; rfl
    · rw [gp_3 (by rw [un_s]; omega)]
  have gq : ∀ q, q ≠ x → gp_c (un_f kc x 0) ks vs (un_f bl (6 * x) 100) q = gp_c kc ks vs bl q := by
    intro q hq
    have h5 := gs.1 q
    exact gp_eq (un_n hq) (fun t ht => ⟨rfl, rfl⟩) (fun t ht => un_n (by omega))
  have gs1 : gs_b (un_f kc x 0) ks := by
    refine ⟨fun p => ?_, gs.2⟩
    by_cases e : p = x
    · rw [e, un_s]; omega
    · rw [un_n e]; exact gs.1 p
  have S : op_S G (gp_c (un_f kc x 0) ks vs (un_f bl (6 * x) 100)) (un_f fr x true) (un_f ro 3 x) mv mr (un_f hs 3 0) F C 1 [] := by
    refine ⟨ot_fr O (fun q m => gq q (fun e => xF (e ▸ m))) (fun s hs => ⟨rc_3 (fun s hs => un_n hs) s hs, un_n hs⟩), ?_, ?_, ?_, ?_⟩
    · rw [un_s, un_s]
      refine ⟨⟨hx, by rw [gx]⟩, ?_, fun q hq => ?_, fun q hq hf => ?_, fun q hq => ?_, hCF⟩
      · show [x].Nodup
        simp
      · have e : q = x := List.mem_singleton.mp hq
        exact Or.inl (by rw [e, un_s])
      · show q ∈ [x]
        rw [List.mem_singleton]
        refine Classical.byContradiction (fun e => ?_)
        rw [un_n e, hfr q hq] at hf
        exact (nomatch hf)
      · rw [un_n (show q ≠ x from fun e => xF (e ▸ hq))]; exact hFr q hq
    · rw [un_s]; exact hx
    · rw [un_s, un_s]; exact Nat.le_refl _
    · rw [un_s, un_s]
      show (gp_c (un_f kc x 0) ks vs (un_f bl (6 * x) 100) x).1 = []
      rw [gx]
  have w0 : un_f wp 0 x 0 = x := un_s
  have i0 : un_f wi 0 0 0 = 0 := un_s
  refine xw_ins26 (m := 0) (by rw [un_s]) (by omega) (by omega) hk gs1 S (List.Pairwise.nil) (fun q hq => ?_) (by rw [un_s, un_s]) (fun j hj => absurd hj (by omega)) (fun j hj => ?_) (fun j hj => ?_) (by rw [i0]; omega) (fun A B hAB hA hB kc' ks' vs' bl' fr' us2 ro' wa2 hs' w' gs' S' B' h1 h2 => ?_)
  · rw [un_s, un_s] at hq
    have e : q = x := List.mem_singleton.mp hq
    rw [e, gx, un_s]
    exact ⟨Nat.zero_le _, fun h => absurd rfl h, fun h => absurd w0.symm h⟩
  · rw [show j = 0 by omega, w0, un_s]
  · rw [show j = 0 by omega, w0, gx, i0]
    exact ⟨fun e me => (nomatch me), fun e me => (nomatch me)⟩
  · have e1 := List.append_eq_nil_iff.mp hAB.symm
    rw [e1.1, e1.2] at S'
    exact K kc' ks' vs' bl' fr' us2 ro' _ _ wa2 hs' w' gs' S' B' (fun s hs => (h1 s hs).trans (un_n hs)) (fun s hs => (h2 s hs).trans (un_n hs))
end
section
/-! X's walk: the way is lengthened to the greatest key before; an entry is replaced -/
theorem xw_len43 {kc : Nat → Nat} {ks : Nat → Nat} {vs : Nat → Int32} {bl : Nat → Nat} {fr : Nat → Bool} {us : Nat → Bool} {mr : Nat → Nat} {ms : Nat → Nat} {mn : Nat → Nat} {mv : Nat → Bool} {ro : Nat → Nat} {sz : Nat → Nat} {nu : Nat → Nat} {wa : Nat → Nat} {post : SX → Prop} (gs : gs_b kc ks) : ∀ (h y we : Nat) (wp wi : Nat → Nat), tr_sh (gp_c kc ks vs bl) h y → (∀ q, q ∈ tr_pg (gp_c kc ks vs bl) h y → 1 ≤ kc q) → we + h + 1 ≤ 8 →
    (∀ (wp' wi' : Nat → Nat), (∀ j, j < we → wp' j = wp j ∧ wi' j = wi j) → wp' we = y → (∀ j, we ≤ j → j < we + h → (gp_c kc ks vs bl (wp' j)).2[wi' j]? = some (wp' (j + 1)) ∧ wi' j = kc (wp' j)) → wi' (we + h) + 1 = kc (wp' (we + h)) → post ((nI (we + h + 1)), (eu_N kc), (eu_N ks), vs, (eu_P bl), (eu_B fr), (eu_B us), (eu_P mr), (eu_N ms), (eu_N mn), (eu_B mv), (eu_P ro), (eu_N sz), (eu_N nu), (eu_N wp'), (eu_N wi'), (eu_P wa))) →
    wX_lengthenWay_43 post (h + 1) (nI y) (nI we) (eu_N kc) (eu_N ks) vs (eu_P bl) (eu_B fr) (eu_B us) (eu_P mr) (eu_N ms) (eu_N mn) (eu_B mv) (eu_P ro) (eu_N sz) (eu_N nu) (eu_N wp) (eu_N wi) (eu_P wa) := by
  intro h
  induction h with
  | zero =>
    intro y we wp wi hs hb hw K
    obtain ⟨hy, hl⟩ := gp_leaf hs
    have h1 := hb y (tr_pgs _ _ _)
    have h5 := gs.1 y
    rw [wX_lengthenWay_43]
    refine xw_isLeaf hy (fun h => absurd h (by omega)) (fun _ => br_f (by decide) ?_)
    rw [nI_clamp (by omega), eu_Nr, ea_1, pk_sub h1]
    refine ⟨vp_in_nI hy (by omega), xw_pushWay (by omega) (by omega) (by omega) ?_⟩
    dsimp only
    refine K _ _ (fun j hj => ⟨un_n (by omega), un_n (by omega)⟩) un_s (fun j j1 j2 => absurd j1 (by omega)) ?_
    show un_f wi we (kc y - 1) we + 1 = kc (un_f wp we y we)
    rw [un_s, un_s]
    omega
  | succ h ih =>
    intro y we wp wi hs hb hw K
    obtain ⟨hy, hl, hch⟩ := gp_node hs
    have h5 := gs.1 y
    have hget := gp_below (ks := ks) (vs := vs) hl (Nat.le_refl (kc y))
    rw [wX_lengthenWay_43]
    refine xw_isLeaf hy (fun _ => br_t rfl ?_) (fun h => absurd h (by omega))
    rw [nI_clamp (by omega), eu_Nr]
    refine ⟨vp_in_nI hy (by omega), xw_pushWay (by omega) (by omega) (by omega) ?_⟩
    dsimp only
    have hc := hch (kc y) (Nat.le_refl _)
    have hc100 := tr_100 hc
    simp (disch := omega) only [forall_eq, true_and, ea_6, pk_mul, nI_add, nI_clamp, eu_Nr, eu_Pr, ea_inT, eu_pn]
    refine ih (bl (6 * y + kc y)) (we + 1) _ _ hc (fun q hq => hb q (List.mem_cons_of_mem _ (List.mem_flatMap.mpr ⟨_, List.mem_of_getElem? hget, hq⟩))) (by omega) (fun wp' wi' h1 h2 h3 h4 => ?_)
    have e1 : wp' we = y := (h1 we (by omega)).1.trans un_s
    have e2 : wi' we = kc y := (h1 we (by omega)).2.trans un_s
    rw [show we + 1 + h = we + (h + 1) by omega] at h4 ⊢
    refine K wp' wi' (fun j hj => ⟨(h1 j (by omega)).1.trans (un_n (by omega)), (h1 j (by omega)).2.trans (un_n (by omega))⟩) e1 (fun j j1 j2 => ?_) h4
    by_cases e : j = we
    · subst e
      rw [e1, e2, h2]
      exact ⟨hget, rfl⟩
    · exact h3 j (by omega) (by omega)
theorem xw_len {kc : Nat → Nat} {ks : Nat → Nat} {vs : Nat → Int32} {bl : Nat → Nat} {fr : Nat → Bool} {us : Nat → Bool} {mr : Nat → Nat} {ms : Nat → Nat} {mn : Nat → Nat} {mv : Nat → Bool} {ro : Nat → Nat} {sz : Nat → Nat} {nu : Nat → Nat} {wp : Nat → Nat} {wi : Nat → Nat} {wa : Nat → Nat} {post : SX → Prop} {H k : Nat} (gs : gs_b kc ks) (hs : tr_sh (gp_c kc ks vs bl) H (wp 0)) (hb : ∀ q, q ∈ tr_pg (gp_c kc ks vs bl) H (wp 0) → 1 ≤ kc q) (hH : H + 1 ≤ 8) (hk : k ≤ H) (hp : tr_pt (gp_c kc ks vs bl) wp wi k) (hi : wi k < kc (wp k))
    (K0 : k = H → post ((nI (k + 1)), (eu_N kc), (eu_N ks), vs, (eu_P bl), (eu_B fr), (eu_B us), (eu_P mr), (eu_N ms), (eu_N mn), (eu_B mv), (eu_P ro), (eu_N sz), (eu_N nu), (eu_N wp), (eu_N wi), (eu_P wa)))
    (K1 : k < H → ∀ (wp' wi' : Nat → Nat), (∀ j, j ≤ k → wp' j = wp j ∧ wi' j = wi j) → tr_pt (gp_c kc ks vs bl) wp' wi' H → (∀ j, k < j → j < H → wi' j = kc (wp' j)) → wi' H + 1 = kc (wp' H) → post ((nI (H + 1)), (eu_N kc), (eu_N ks), vs, (eu_P bl), (eu_B fr), (eu_B us), (eu_P mr), (eu_N ms), (eu_N mn), (eu_B mv), (eu_P ro), (eu_N sz), (eu_N nu), (eu_N wp'), (eu_N wi'), (eu_P wa))) : wpX_lengthenWay post ((nI (k + 1)), (eu_N kc), (eu_N ks), vs, (eu_P bl), (eu_B fr), (eu_B us), (eu_P mr), (eu_N ms), (eu_N mn), (eu_B mv), (eu_P ro), (eu_N sz), (eu_N nu), (eu_N wp), (eu_N wi), (eu_P wa)) := by
  obtain ⟨⟨lf, rt, ps, hc, _⟩, hsk⟩ := tr_ptd hs k hk hp
  have hx := tr_100 hsk
  have h5 := gs.1 (wp k)
  unfold wpX_lengthenWay
  simp (disch := omega) only [forall_eq, true_and, ea_1, ea_6, pk_mul, nI_add, pk_sub, nI_clamp, eu_Nr, eu_Pr, ea_inT, Nat.add_sub_cancel]
  by_cases e : k = H
  · subst e
    rw [Nat.sub_self] at hsk
    have := gp_leaf hsk
    exact xw_isLeaf hx (fun h => absurd h (by omega)) (fun _ => br_f (by decide) (K0 rfl))
  · have e1 : H - k = (H - (k + 1)) + 1 := by omega
    rw [e1] at hsk hc
    obtain ⟨_, hl, hch⟩ := gp_node hsk
    have hget := gp_below (ks := ks) (vs := vs) hl (Nat.le_of_lt hi)
    have hc' := hch (wi k) (by omega)
    refine xw_isLeaf hx (fun _ => br_t rfl ⟨H - (k + 1) + 1, ?_⟩) (fun h => absurd h (by omega))
    rw [eu_pn (tr_100 hc')]
    refine xw_len43 gs (H - (k + 1)) _ (k + 1) wp wi hc' (fun q hq => hb q ?_) (by omega) (fun wp' wi' h1 h2 h3 h4 => ?_)
    · refine (hc _ (fun _ _ => rfl)).2.1.mem_iff.mpr (List.mem_append_right _ ?_)
      rw [tr_pge]
      exact List.mem_cons_of_mem _ (tr_pps hget hq)
    · rw [show k + 1 + (H - (k + 1)) = H by omega] at h4 ⊢
      refine K1 (by omega) wp' wi' (fun j hj => h1 j (by omega)) (fun j hj => ?_) (fun j j1 j2 => (h3 j (by omega) (by omega)).2) h4
      by_cases ej : j < k
      · rw [(h1 j (by omega)).1, (h1 j (by omega)).2, (h1 (j + 1) (by omega)).1]
        exact hp j ej
      · by_cases ek : j = k
        · subst ek
          rw [(h1 j (by omega)).1, (h1 j (by omega)).2, h2]
          exact hget
        · exact (h3 j (by omega) (by omega)).1
theorem so_uni {e : kv_T} : ∀ {A A' B B' : List kv_T}, so_l (A ++ e :: B) → A ++ e :: B = A' ++ e :: B' → A = A' ∧ B = B' := by
  intro A
  induction A with
  | nil =>
    intro A' B B' hs he
    cases A' with
    | nil => exact ⟨rfl, (List.cons.inj he).2⟩
    | cons a A' =>
      have h := List.cons.inj (show e :: B = a :: (A' ++ e :: B') from he)
      have hs' : so_l (e :: B) := hs
      rw [so_cons] at hs'
      have := hs'.1 e (by rw [h.2]; exact List.mem_append_right _ (List.mem_cons_self ..))
      omega
  | cons a A ih =>
    intro A' B B' hs he
    cases A' with
    | nil =>
      have h := List.cons.inj (show a :: (A ++ e :: B) = e :: B' from he)
      have hs' : so_l (a :: (A ++ e :: B)) := hs
      rw [so_cons] at hs'
      have := hs'.1 e (List.mem_append_right _ (List.mem_cons_self ..))
      rw [h.1] at this
      omega
    | cons a' A' =>
      have h := List.cons.inj (show a :: (A ++ e :: B) = a' :: (A' ++ e :: B') from he)
      have hs' : so_l (a :: (A ++ e :: B)) := hs
      rw [so_cons] at hs'
      obtain ⟨h1, h2⟩ := ih hs'.2 h.2
      rw [h.1, h1, h2]
      exact ⟨rfl, rfl⟩
theorem en_pf {g : Nat → pg_T} {h : Nat} {E1 E2 : List kv_T} {e : kv_T} {D : List Nat} (s : tr_ps g h (E1 ++ e :: E2, D)) : ∃ P Q, ∀ e', tr_pf g h (E1 ++ e' :: E2, D) = P ++ e' :: Q := by
  cases h with
  | zero => exact ⟨E1, E2, fun e' => rfl⟩
  | succ h =>
    have s' : D.length = (E1 ++ e :: E2).length + 1 ∧ ∀ x, x ∈ D → tr_sh g h x := s
    obtain ⟨D1, D2, hD, hl⟩ := ls_cut D (E1.length + 1) (by rw [s'.1, List.length_append, List.length_cons]; omega)
    refine ⟨wv_l E1 (D1.map (tr_fl g h)), wv_l E2 (D2.map (tr_fl g h)), fun e' => ?_⟩
    show wv_l (E1 ++ e' :: E2) (D.map (tr_fl g h)) = _
    rw [hD, List.map_append]
    refine wv_spl (by rw [List.length_map]; exact hl) ?_
    intro hn
    have h1 := congrArg List.length hn
    rw [List.length_map] at h1
    have h2 := s'.1
    rw [hD, List.length_append, List.length_append, List.length_cons] at h2
    simp only [List.length_nil] at h1
    omega
/-- an entry of a fresh page on the way is replaced -/
theorem en_S {G g g2 : Nat → pg_T} {fr : Nat → Bool} {ro : Nat → Nat} {mv : Nat → Bool} {mr hs : Nat → Nat} {F C : List Nat} {w k m : Nat} {P Q E1 E2 : List kv_T} {e e' : kv_T} {D : List Nat} {wp wi : Nat → Nat}
    (S : op_S G g fr ro mv mr hs F C w (P ++ e :: Q)) (so : so_l (P ++ e :: Q)) (h0 : wp 0 = ro 3) (hk : k ≤ hs 3) (hkm : k ≤ m) (hp : tr_pt g wp wi m) (hf : fr (wp k) = true) (hg : g (wp k) = (E1 ++ e :: E2, D)) (ex : g2 (wp k) = (E1 ++ e' :: E2, D)) (e2 : ∀ q, q ≠ wp k → g2 q = g q) :
    op_S G g2 fr ro mv mr hs F C w (P ++ e' :: Q) ∧ tr_pg g2 (hs 3) (ro 3) = tr_pg g (hs 3) (ro 3) ∧ tr_pt g2 wp wi m := by
  obtain ⟨O, W, hr, hlen, hfl⟩ := S
  have hs0 := W.1
  rw [← h0] at hs0
  obtain ⟨⟨lf, rt, ps, hc, _⟩, hsk⟩ := tr_ptd hs0 k hk (fun j hj => hp j (by omega))
  rw [h0] at hc
  obtain ⟨f1, p1, _⟩ := hc g (fun _ _ => rfl)
  have nd := p1.nodup_iff.mp W.2.1
  obtain ⟨_, nd2, nd3⟩ := List.nodup_append.mp nd
  have nd4 := nd2
  rw [tr_pge, List.nodup_cons] at nd4
  obtain ⟨f2, p2, s2⟩ := hc g2 (fun q mq => e2 q (nd3 q mq (wp k) (tr_pgs _ _ _)))
  have kx := tr_frc (g := g) (g' := g2) (h := hs 3 - k) (c := g (wp k)) (fun q mq => e2 q (fun z => nd4.1 (ls_me z.symm mq)))
  have sx := ((tr_she _ _ _).mp hsk).2
  rw [hg] at sx
  obtain ⟨P', Q', hPQ⟩ := en_pf sx
  rw [hg] at kx
  have shape : ∀ e'' : kv_T, tr_ps g2 (hs 3 - k) (E1 ++ e :: E2, D) → tr_ps g2 (hs 3 - k) (E1 ++ e'' :: E2, D) := by
    intro e'' h
    cases hh : hs 3 - k with
    | zero => rw [hh] at h; exact h
    | succ n =>
      rw [hh] at h
      have h' : D.length = (E1 ++ e :: E2).length + 1 ∧ ∀ x, x ∈ D → tr_sh g2 n x := h
      refine ⟨?_, h'.2⟩
      rw [List.length_append, List.length_cons] at h' ⊢
      exact h'.1
  have ppx : ∀ (g : Nat → pg_T) (e'' : kv_T), tr_pp g (hs 3 - k) (E1 ++ e'' :: E2, D) = tr_pp g (hs 3 - k) (E1 ++ e :: E2, D) := by
    intro g e''
    cases hs 3 - k <;> rfl
  have pfx : ∀ e'' : kv_T, tr_pf g2 (hs 3 - k) (E1 ++ e'' :: E2, D) = tr_pf g (hs 3 - k) (E1 ++ e'' :: E2, D) := by
    intro e''
    refine (tr_frc (g := g) (g' := g2) (h := hs 3 - k) (c := (E1 ++ e'' :: E2, D)) (fun q mq => e2 q (fun z => nd4.1 ?_))).1
    rw [ppx g e'', ← hg] at mq
    exact ls_me z.symm mq
  have hsx : tr_sh g2 (hs 3 - k) (wp k) := by
    rw [tr_she, ex]
    exact ⟨tr_100 hsk, shape e' (kx.2.2 sx)⟩
  have pk : tr_pg g2 (hs 3 - k) (wp k) = tr_pg g (hs 3 - k) (wp k) := by
    rw [tr_pge, tr_pge g, ex, hg, ppx g2 e', kx.2.1]
  -- the whole list of pages: by the way down
  have pall : tr_pg g2 (hs 3) (ro 3) = tr_pg g (hs 3) (ro 3) := by
    have : ∀ h p, (∀ q, q ∈ tr_pg g h p → (g2 q).2 = (g q).2) → tr_pg g2 h p = tr_pg g h p := by
      intro h
      induction h with
      | zero => intro p _; rfl
      | succ h ih =>
        intro p hq
        show p :: (g2 p).2.flatMap (tr_pg g2 h) = p :: (g p).2.flatMap (tr_pg g h)
        rw [hq p (tr_pgs _ _ _), fm_cong (fun c hcm => ih c (fun q hqc => hq q (List.mem_cons_of_mem _ (List.mem_flatMap.mpr ⟨c, hcm, hqc⟩))))]
    refine this _ _ (fun q _ => ?_)
    by_cases z : q = wp k
    · rw [z, ex, hg]
    · rw [e2 q z]
  rw [f1, tr_fle, hg, hPQ e] at hfl
  have hfl' : (lf ++ P') ++ e :: (Q' ++ rt) = P ++ e :: Q := by
    rw [← hfl]
    simp only [List.append_assoc, List.cons_append]
  have so2 := so
  rw [← hfl'] at so2
  obtain ⟨u1, u2⟩ := so_uni so2 hfl'
  refine ⟨⟨ot_fr O (fun q mq => e2 q (fun z => ?_)) (fun s hs => ⟨rfl, rfl⟩), wt_same W (s2 hsx) (by rw [pall]), hr, by rw [pall]; exact hlen, ?_⟩, pall, fun j hj => ?_⟩
  · have := W.2.2.2.2.1 q mq
    rw [z, hf] at this
    exact (nomatch this)
  · rw [f2, tr_fle, ex, pfx e', hPQ e', ← u1, ← u2]
    simp only [List.append_assoc, List.cons_append]
  · have := hp j hj
    by_cases z : wp j = wp k
    · rw [z, hg] at this
      rw [z, ex]
      exact this
    · rw [e2 _ z]
      exact this
end
section
/-! refilling a page: the tree's list stays -/
theorem ls_ne {α : Type} {u v : α} : ∀ {A B : List α} {i : Nat}, i ≠ A.length → (A ++ u :: B)[i]? = (A ++ v :: B)[i]? := by
  intro A
  induction A with
  | nil =>
    intro B i h
    cases i with
    | zero => exact absurd rfl h
    | succ i => rfl
  | cons a A ih =>
    intro B i h
    cases i with
    | zero => rfl
    | succ i =>
      show (A ++ u :: B)[i]? = (A ++ v :: B)[i]?
      exact ih (by simp at h; exact h)
theorem bs_ix {g : Nat → pg_T} {wp wi : Nat → Nat} {H l x : Nat} {E1 E2 : List kv_T} {C1 C2 : List Nat} (hs : tr_sh g H (wp 0)) (hl : l + 1 ≤ H) (hp : tr_pt g wp wi l) (hg : g (wp l) = (E1 ++ E2, C1 ++ x :: C2)) (hE : E1.length = C1.length) :
    ∃ lf rt ps, bs_I g H (wp 0) (H - (l + 1)) (wp l) lf rt ps E1 E2 C1 C2 (g x) ∧ (∀ j, j < l → wp j ∈ ps) ∧ wp l < 100 ∧ x < 100 := by
  obtain ⟨⟨lf, rt, ps, hc, hw⟩, hsl⟩ := tr_ptd hs l (by omega) hp
  have e : H - l = (H - (l + 1)) + 1 := by omega
  rw [e] at hc hsl
  have hs' : wp l < 100 ∧ (g (wp l)).2.length = (g (wp l)).1.length + 1 ∧ ∀ c, c ∈ (g (wp l)).2 → tr_sh g (H - (l + 1)) c := hsl
  rw [hg] at hs'
  have hlen := hs'.2.1
  simp only [List.length_append, List.length_cons] at hlen
  have hx := hs'.2.2 x (List.mem_append_right _ (List.mem_cons_self ..))
  exact ⟨lf, rt, ps, ⟨hc, fun c m => hs'.2.2 c (List.mem_append_left _ m), fun c m => hs'.2.2 c (List.mem_append_right _ (List.mem_cons_of_mem _ m)), ((tr_she _ _ _).mp hx).2, hE, by omega⟩, hw, hs'.1, tr_100 hx⟩
theorem bs_ix2 {g : Nat → pg_T} {wp wi : Nat → Nat} {H l x y : Nat} {E1 E2 : List kv_T} {m : kv_T} {C1 C2 : List Nat} (hs : tr_sh g H (wp 0)) (hl : l + 1 ≤ H) (hp : tr_pt g wp wi l) (hg : g (wp l) = (E1 ++ m :: E2, C1 ++ x :: y :: C2)) (hE : E1.length = C1.length) :
    ∃ lf rt ps, bs_I g H (wp 0) (H - (l + 1)) (wp l) lf rt ps E1 E2 C1 C2 ((g x).1 ++ m :: (g y).1, (g x).2 ++ (g y).2) ∧ (∀ j, j < l → wp j ∈ ps) ∧ wp l < 100 ∧ x < 100 ∧ y < 100 ∧ ((g x).2.length = if H - (l + 1) = 0 then 0 else (g x).1.length + 1) := by
  obtain ⟨⟨lf, rt, ps, hc, hw⟩, hsl⟩ := tr_ptd hs l (by omega) hp
  have e : H - l = (H - (l + 1)) + 1 := by omega
  rw [e] at hc hsl
  have hs' : wp l < 100 ∧ (g (wp l)).2.length = (g (wp l)).1.length + 1 ∧ ∀ c, c ∈ (g (wp l)).2 → tr_sh g (H - (l + 1)) c := hsl
  rw [hg] at hs'
  have hlen := hs'.2.1
  simp only [List.length_append, List.length_cons] at hlen
  have hx := hs'.2.2 x (List.mem_append_right _ (List.mem_cons_self ..))
  have hy := hs'.2.2 y (List.mem_append_right _ (List.mem_cons_of_mem _ (List.mem_cons_self ..)))
  have px := ((tr_she _ _ _).mp hx).2
  have py := ((tr_she _ _ _).mp hy).2
  refine ⟨lf, rt, ps, ⟨hc, fun c m => hs'.2.2 c (List.mem_append_left _ m), fun c m => hs'.2.2 c (List.mem_append_right _ (List.mem_cons_of_mem _ (List.mem_cons_of_mem _ m))), (tr_jn px py).2.2, hE, by omega⟩, hw, hs'.1, tr_100 hx, tr_100 hy, ?_⟩
  cases hh : H - (l + 1) with
  | zero =>
    rw [hh] at px
    rw [if_pos rfl, show (g x).2 = [] from px]
    rfl
  | succ n =>
    rw [hh] at px
    rw [if_neg (by omega)]
    exact px.1
/-- bounds, but for the page z: one key is enough there, none if it is the root -/
def bd_1 (g : Nat → pg_T) (H r z : Nat) : Prop := ∀ q, q ∈ tr_pg g H r → (g q).1.length ≤ 4 ∧ (q ≠ z → 1 ≤ (g q).1.length) ∧ (q ≠ r → 1 ≤ (g q).1.length) ∧ (q ≠ r → q ≠ z → 2 ≤ (g q).1.length)
theorem rf_copy {G g g2 : Nat → pg_T} {fr : Nat → Bool} {ro : Nat → Nat} {mv : Nat → Bool} {mr hs : Nat → Nat} {F C : List Nat} {w : Nat} {fl0 : List kv_T} {wp wi : Nat → Nat} {l y c : Nat} {E1 E2 : List kv_T} {C1 C2 : List Nat}
    (S : op_S G g fr ro mv mr hs F C w fl0) (B : bd_1 g (hs 3) (ro 3) (wp (l + 1))) (h0 : wp 0 = ro 3) (hp : tr_pt g wp wi (l + 1)) (hl : l + 1 ≤ hs 3) (hfr : ∀ j, j ≤ l + 1 → fr (wp j) = true)
    (hga : g (wp l) = (E1 ++ E2, C1 ++ y :: C2)) (hE : E1.length = C1.length) (hwi : wi l ≠ C1.length) (fy : fr y = false) (hc : c < 100) (fc : fr c = false) (cF : c ∉ F) (cW : c ∉ tr_pg g (hs 3) (ro 3))
    (e1 : g2 c = g y) (ea : g2 (wp l) = (E1 ++ E2, C1 ++ c :: C2)) (e2 : ∀ q, q ≠ c → q ≠ wp l → g2 q = g q) :
    op_S G g2 (un_f fr c true) ro mv mr hs F C w fl0 ∧ bd_1 g2 (hs 3) (ro 3) (wp (l + 1)) ∧ tr_pt g2 wp wi (l + 1) ∧ (∀ j, j ≤ l + 1 → un_f fr c true (wp j) = true) := by
  obtain ⟨O, W, hr, hlen, hfl⟩ := S
  have hs0 := W.1
  rw [← h0] at hs0
  obtain ⟨lf, rt, ps, I, hps, ha, hy⟩ := bs_ix hs0 hl (fun j hj => hp j (by omega)) hga hE
  rw [h0] at I
  obtain ⟨f, s, p1, p2, hu⟩ := cp_child I hga W.2.1 ha hy hc cW e1 ea e2
  have nd := p1.nodup_iff.mp W.2.1
  rw [List.nodup_cons] at nd
  have nc : ∀ j, j ≤ l + 1 → wp j ≠ c := fun j hj e => by
    have := hfr j hj
    rw [e, fc] at this
    exact (nomatch this)
  have yz : y ≠ wp (l + 1) := fun e => by
    rw [e, hfr (l + 1) (by omega)] at fy
    exact (nomatch fy)
  have yr : y ≠ ro 3 := fun e => by
    rw [e, ← h0, hfr 0 (by omega)] at fy
    exact (nomatch fy)
  have hB := fun q m => B q (p1.mem_iff.mpr m)
  refine ⟨⟨ot_fr O (fun q m => e2 q (fun e => cF (e ▸ m)) (fun e => ?_)) (fun s hs => ⟨rfl, rfl⟩), wt_swap W s p1 p2 cW cF fy, hr, ?_, f.trans hfl⟩, fun q mq => ?_, fun j hj => ?_, fun j hj => ?_⟩
  · have := W.2.2.2.2.1 q m
    rw [e, hfr l (by omega)] at this
    exact (nomatch this)
  · rw [p2.length_eq]
    rw [p1.length_eq] at hlen
    exact hlen
  · rcases List.mem_cons.mp (p2.mem_iff.mp mq) with e | m1
    · have := hB y (List.mem_cons_self ..)
      rw [e, e1]
      exact ⟨this.1, fun _ => this.2.1 yz, fun _ => this.2.1 yz, fun _ _ => this.2.2.2 yr yz⟩
    · have := hB q (List.mem_cons_of_mem _ m1)
      have e3 : (g2 q).1 = (g q).1 := by
        rcases List.mem_cons.mp m1 with e | m1
        · rw [e, ea, hga]
        · rw [hu q m1]
      rw [e3]
      exact this
  · have := hp j hj
    by_cases e : j = l
    · subst e
      rw [hga] at this
      rw [ea]
      exact (ls_ne hwi).trans this
    · rw [e2 _ (nc j (by omega)) (fun z => nd.1 ?_)]
      · exact this
      · exact absurd z (tr_ne hs0 (by rw [h0]; exact W.2.1) hl hp (show j < l by omega) (by omega))
  · rw [un_n (nc j hj)]
    exact hfr j hj
theorem rf_melt {G g g2 : Nat → pg_T} {fr : Nat → Bool} {ro : Nat → Nat} {mv : Nat → Bool} {mr hs : Nat → Nat} {F C : List Nat} {w : Nat} {fl0 : List kv_T} {wp wi : Nat → Nat} {l x y z : Nat} {E1 E2 : List kv_T} {m : kv_T} {C1 C2 : List Nat}
    (S : op_S G g fr ro mv mr hs F C w fl0) (B : bd_1 g (hs 3) (ro 3) z) (hz : z = x ∨ z = y) (h0 : wp 0 = ro 3) (hp : tr_pt g wp wi l) (hl : l + 1 ≤ hs 3) (hfr : ∀ j, j ≤ l → fr (wp j) = true) (fx : fr x = true)
    (hga : g (wp l) = (E1 ++ m :: E2, C1 ++ x :: y :: C2)) (hE : E1.length = C1.length) (hsum : (g x).1.length + 1 + (g y).1.length ≤ 4) (hsum2 : 1 ≤ (g x).1.length + (g y).1.length)
    (ex : g2 x = ((g x).1 ++ m :: (g y).1, (g x).2 ++ (g y).2)) (ea : g2 (wp l) = (E1 ++ E2, C1 ++ x :: C2)) (e2 : ∀ q, q ≠ x → q ≠ wp l → g2 q = g q) :
    op_S G g2 (un_f fr y false) ro mv mr hs F C w fl0 ∧ bd_1 g2 (hs 3) (ro 3) (wp l) ∧ tr_pt g2 wp wi l ∧ (∀ j, j ≤ l → un_f fr y false (wp j) = true) := by
  obtain ⟨O, W, hr, hlen, hfl⟩ := S
  have hs0 := W.1
  rw [← h0] at hs0
  obtain ⟨lf, rt, ps, I, hps, ha, hx, hy, hD⟩ := bs_ix2 hs0 hl hp hga hE
  rw [h0] at I
  obtain ⟨f1, _, p1⟩ := bs_V2 I (fun _ _ => rfl) ha hx hy hga rfl rfl rfl hD
  have nd := p1.nodup_iff.mp W.2.1
  rw [List.nodup_cons, List.nodup_cons, List.nodup_cons] at nd
  have nU : ∀ q, q ∈ bs_U g (hs 3 - (l + 1)) ps C1 C2 ((g x).1 ++ m :: (g y).1, (g x).2 ++ (g y).2) → q ≠ x ∧ q ≠ y ∧ q ≠ wp l := fun q m => ⟨fun e => nd.2.2.1 (ls_me e.symm m), fun e => nd.1 (List.mem_cons_of_mem _ (List.mem_cons_of_mem _ (ls_me e.symm m))), fun e => nd.2.1 (List.mem_cons_of_mem _ (ls_me e.symm m))⟩
  have hu : ∀ q, q ∈ bs_U g (hs 3 - (l + 1)) ps C1 C2 ((g x).1 ++ m :: (g y).1, (g x).2 ++ (g y).2) → g2 q = g q := fun q m => e2 q (nU q m).1 (nU q m).2.2
  obtain ⟨f2, s2, p2⟩ := bs_V1 I hu ha hx ea ex
  have p3 : (tr_pg g (hs 3) (ro 3)).Perm (y :: tr_pg g2 (hs 3) (ro 3)) := p1.trans (List.Perm.cons y p2.symm)
  have hB := fun q m => B q (p1.mem_iff.mpr m)
  have ay : wp l ≠ y := fun e => nd.1 (ls_me e.symm (List.mem_cons_self ..))
  have ax : wp l ≠ x := fun e => nd.2.1 (ls_me e (List.mem_cons_self ..))
  refine ⟨⟨ot_fr O (fun q mq => e2 q (fun e => ?_) (fun e => ?_)) (fun s hs => ⟨rfl, rfl⟩), wt_less W s2 p3, hr, ?_, f2.trans (f1.symm.trans hfl)⟩, fun q mq => ?_, fun j hj => ?_, fun j hj => ?_⟩
  · have := W.2.2.2.2.1 q mq
    rw [e, fx] at this
    exact (nomatch this)
  · have := W.2.2.2.2.1 q mq
    rw [e, hfr l (by omega)] at this
    exact (nomatch this)
  · rw [p3.length_eq, List.length_cons] at hlen; omega
  · rcases List.mem_cons.mp (p2.mem_iff.mp mq) with e | m1
    · have ba := hB (wp l) (List.mem_cons_of_mem _ (List.mem_cons_self ..))
      have az : wp l ≠ z := by
        rcases hz with h | h
        · rw [h]; exact ax
        · rw [h]; exact ay
      rw [hga] at ba
      simp only [List.length_append, List.length_cons] at ba
      rw [e, ea]
      simp only [List.length_append]
      exact ⟨by omega, fun h => absurd rfl h, fun h => by have := ba.2.2.2 h az; omega, fun _ h => absurd rfl h⟩
    · rcases List.mem_cons.mp m1 with e | m1
      · rw [e, ex]
        simp only [List.length_append, List.length_cons]
        exact ⟨by omega, fun _ => by omega, fun _ => by omega, fun _ _ => by omega⟩
      · have bq := hB q (List.mem_cons_of_mem _ (List.mem_cons_of_mem _ (List.mem_cons_of_mem _ m1)))
        have qz : q ≠ z := by
          rcases hz with h | h
          · rw [h]; exact (nU q m1).1
          · rw [h]; exact (nU q m1).2.1
        rw [hu q m1]
        exact ⟨bq.1, fun _ => bq.2.1 qz, bq.2.2.1, fun h _ => bq.2.2.2 h qz⟩
  · rw [hu _ (List.mem_append_left _ (hps j hj))]
    exact hp j hj
  · have : wp j ≠ y := by
      by_cases e : j = l
      · rw [e]; exact ay
      · exact (nU _ (List.mem_append_left _ (hps j (by omega)))).2.1
    rw [un_n this]
    exact hfr j hj
theorem rf_take {G g g2 : Nat → pg_T} {fr : Nat → Bool} {ro : Nat → Nat} {mv : Nat → Bool} {mr hs : Nat → Nat} {F C : List Nat} {w : Nat} {fl0 : List kv_T} {wp wi : Nat → Nat} {l x y z : Nat} {E1 E2 X1 X2 : List kv_T} {m m' : kv_T} {C1 C2 D1 D2 : List Nat}
    (S : op_S G g fr ro mv mr hs F C w fl0) (B : bd_1 g (hs 3) (ro 3) z) (hz : z = x ∨ z = y) (h0 : wp 0 = ro 3) (hp : tr_pt g wp wi l) (hl : l + 1 ≤ hs 3) (hfr : ∀ j, j ≤ l → fr (wp j) = true) (fx : fr x = true) (fy : fr y = true)
    (hga : g (wp l) = (E1 ++ m :: E2, C1 ++ x :: y :: C2)) (hE : E1.length = C1.length) (hX : (g x).1 ++ m :: (g y).1 = X1 ++ m' :: X2) (hDD : (g x).2 ++ (g y).2 = D1 ++ D2) (hD1 : D1.length = if hs 3 - (l + 1) = 0 then 0 else X1.length + 1)
    (x2 : 2 ≤ X1.length) (x4 : X1.length ≤ 4) (y2 : 2 ≤ X2.length) (y4 : X2.length ≤ 4)
    (ex : g2 x = (X1, D1)) (ey : g2 y = (X2, D2)) (ea : g2 (wp l) = (E1 ++ m' :: E2, C1 ++ x :: y :: C2)) (e2 : ∀ q, q ≠ x → q ≠ y → q ≠ wp l → g2 q = g q) :
    op_S G g2 fr ro mv mr hs F C w fl0 ∧ bd_1 g2 (hs 3) (ro 3) (wp l) ∧ tr_pt g2 wp wi l := by
  obtain ⟨O, W, hr, hlen, hfl⟩ := S
  have hs0 := W.1
  rw [← h0] at hs0
  obtain ⟨lf, rt, ps, I, hps, ha, hx, hy, hD⟩ := bs_ix2 hs0 hl hp hga hE
  rw [h0] at I
  obtain ⟨f1, _, p1⟩ := bs_V2 I (fun _ _ => rfl) ha hx hy hga rfl rfl rfl hD
  have nd := p1.nodup_iff.mp W.2.1
  rw [List.nodup_cons, List.nodup_cons, List.nodup_cons] at nd
  have nU : ∀ q, q ∈ bs_U g (hs 3 - (l + 1)) ps C1 C2 ((g x).1 ++ m :: (g y).1, (g x).2 ++ (g y).2) → q ≠ x ∧ q ≠ y ∧ q ≠ wp l := fun q m => ⟨fun e => nd.2.2.1 (ls_me e.symm m), fun e => nd.1 (List.mem_cons_of_mem _ (List.mem_cons_of_mem _ (ls_me e.symm m))), fun e => nd.2.1 (List.mem_cons_of_mem _ (ls_me e.symm m))⟩
  have hu : ∀ q, q ∈ bs_U g (hs 3 - (l + 1)) ps C1 C2 ((g x).1 ++ m :: (g y).1, (g x).2 ++ (g y).2) → g2 q = g q := fun q m => e2 q (nU q m).1 (nU q m).2.1 (nU q m).2.2
  obtain ⟨f2, s2, p2⟩ := bs_V2 I hu ha hx hy ea ex ey (by rw [hX, hDD]) hD1
  have p3 : (tr_pg g2 (hs 3) (ro 3)).Perm (tr_pg g (hs 3) (ro 3)) := p2.trans p1.symm
  have hB := fun q m => B q (p1.mem_iff.mpr m)
  have ay : wp l ≠ y := fun e => nd.1 (ls_me e.symm (List.mem_cons_self ..))
  have ax : wp l ≠ x := fun e => nd.2.1 (ls_me e (List.mem_cons_self ..))
  refine ⟨⟨ot_fr O (fun q mq => e2 q (fun e => ?_) (fun e => ?_) (fun e => ?_)) (fun s hs => ⟨rfl, rfl⟩), wt_same W s2 p3, hr, ?_, f2.trans (f1.symm.trans hfl)⟩, fun q mq => ?_, fun j hj => ?_⟩
  · have := W.2.2.2.2.1 q mq
    rw [e, fx] at this
    exact (nomatch this)
  · have := W.2.2.2.2.1 q mq
    rw [e, fy] at this
    exact (nomatch this)
  · have := W.2.2.2.2.1 q mq
    rw [e, hfr l (by omega)] at this
    exact (nomatch this)
  · rw [p3.length_eq]; exact hlen
  · rcases List.mem_cons.mp (p2.mem_iff.mp mq) with e | m1
    · rw [e, ey]
      dsimp only
      exact ⟨by omega, fun _ => by omega, fun _ => by omega, fun _ _ => by omega⟩
    · rcases List.mem_cons.mp m1 with e | m1
      · have ba := hB (wp l) (List.mem_cons_of_mem _ (List.mem_cons_self ..))
        have az : wp l ≠ z := by
          rcases hz with h | h
          · rw [h]; exact ax
          · rw [h]; exact ay
        rw [hga] at ba
        simp only [List.length_append, List.length_cons] at ba
        rw [e, ea]
        simp only [List.length_append, List.length_cons]
        exact ⟨by omega, fun h => absurd rfl h, fun h => by omega, fun _ h => absurd rfl h⟩
      · rcases List.mem_cons.mp m1 with e | m1
        · rw [e, ex]
          dsimp only
          exact ⟨by omega, fun _ => by omega, fun _ => by omega, fun _ _ => by omega⟩
        · have bq := hB q (List.mem_cons_of_mem _ (List.mem_cons_of_mem _ (List.mem_cons_of_mem _ m1)))
          have qz : q ≠ z := by
            rcases hz with h | h
            · rw [h]; exact (nU q m1).1
            · rw [h]; exact (nU q m1).2.1
          rw [hu q m1]
          exact ⟨bq.1, fun _ => bq.2.1 qz, bq.2.2.1, fun h _ => bq.2.2.2 h qz⟩
  · rw [hu _ (List.mem_append_left _ (hps j hj))]
    exact hp j hj
end
section
/-! X's walks: the four ways to refill a page -/
def rf_I (G g : Nat → pg_T) (fr : Nat → Bool) (ro : Nat → Nat) (mv : Nat → Bool) (mr hs : Nat → Nat) (F C : List Nat) (w : Nat) (fl0 : List kv_T) (wp wi : Nat → Nat) (l : Nat) : Prop :=
  op_S G g fr ro mv mr hs F C w fl0 ∧ bd_1 g (hs 3) (ro 3) (wp l) ∧ wp 0 = ro 3 ∧ tr_pt g wp wi l ∧ l ≤ hs 3 ∧ (∀ j, j ≤ l → fr (wp j) = true)
theorem gp_pair {kc ks : Nat → Nat} {vs : Nat → Int32} {bl : Nat → Nat} {a i : Nat} (hb : bl (6 * a) < 100) (hi : i < kc a) :
    gp_c kc ks vs bl a = (sg_l (fun j => (ks j, vs j)) (5 * a) i ++ (ks (5 * a + i), vs (5 * a + i)) :: sg_l (fun j => (ks j, vs j)) (5 * a + i + 1) (kc a - i - 1), sg_l bl (6 * a) i ++ bl (6 * a + i) :: bl (6 * a + i + 1) :: sg_l bl (6 * a + i + 1 + 1) (kc a - i - 1)) := by
  refine Prod.ext ?_ ?_
  · rw [gp_1]
    exact sg_mid _ _ hi
  · rw [gp_2 hb, sg_mid (i := i) _ _ (by omega)]
    dsimp only
    rw [show kc a + 1 - i - 1 = (kc a - i - 1) + 1 by omega]
    rfl
/-- two neighbours below a page of the way -/
theorem pr_ne {G g : Nat → pg_T} {fr : Nat → Bool} {ro : Nat → Nat} {mv : Nat → Bool} {mr hs : Nat → Nat} {F C : List Nat} {w : Nat} {fl0 : List kv_T} {wp wi : Nat → Nat} {l x y : Nat} {E1 E2 : List kv_T} {m : kv_T} {C1 C2 : List Nat}
    (S : op_S G g fr ro mv mr hs F C w fl0) (h0 : wp 0 = ro 3) (hp : tr_pt g wp wi l) (hl : l + 1 ≤ hs 3) (hga : g (wp l) = (E1 ++ m :: E2, C1 ++ x :: y :: C2)) (hE : E1.length = C1.length) :
    wp l ≠ x ∧ wp l ≠ y ∧ x ≠ y ∧ x ≠ ro 3 ∧ y ≠ ro 3 ∧ tr_sh g (hs 3 - (l + 1)) x ∧ tr_sh g (hs 3 - (l + 1)) y ∧ x ∈ tr_pg g (hs 3) (ro 3) ∧ y ∈ tr_pg g (hs 3) (ro 3) ∧ wp l ∈ tr_pg g (hs 3) (ro 3) ∧ wp l < 100 := by
  obtain ⟨O, W, hr, hlen, hfl⟩ := S
  have hs0 := W.1
  rw [← h0] at hs0
  obtain ⟨lf, rt, ps, I, hps, ha, hx, hy, hD⟩ := bs_ix2 hs0 hl hp hga hE
  rw [h0] at I
  obtain ⟨f1, _, p1⟩ := bs_V2 I (fun _ _ => rfl) ha hx hy hga rfl rfl rfl hD
  have nd := p1.nodup_iff.mp W.2.1
  rw [List.nodup_cons, List.nodup_cons, List.nodup_cons] at nd
  have hsl := (tr_ptd hs0 l (by omega) hp).2
  rw [show hs 3 - l = (hs 3 - (l + 1)) + 1 by omega] at hsl
  have hs' : wp l < 100 ∧ (g (wp l)).2.length = (g (wp l)).1.length + 1 ∧ ∀ c, c ∈ (g (wp l)).2 → tr_sh g (hs 3 - (l + 1)) c := hsl
  rw [hga] at hs'
  have ay : wp l ≠ y := fun e => nd.1 (ls_me e.symm (List.mem_cons_self ..))
  have ax : wp l ≠ x := fun e => nd.2.1 (ls_me e (List.mem_cons_self ..))
  refine ⟨ax, ay, fun e => nd.1 (List.mem_cons_of_mem _ (ls_me e.symm (List.mem_cons_self ..))), fun e => ?_, fun e => ?_, hs'.2.2 x (List.mem_append_right _ (List.mem_cons_self ..)), hs'.2.2 y (List.mem_append_right _ (List.mem_cons_of_mem _ (List.mem_cons_self ..))), p1.mem_iff.mpr (List.mem_cons_of_mem _ (List.mem_cons_of_mem _ (List.mem_cons_self ..))), p1.mem_iff.mpr (List.mem_cons_self ..), p1.mem_iff.mpr (List.mem_cons_of_mem _ (List.mem_cons_self ..)), ha⟩
  · rw [← h0] at e
    by_cases el : l = 0
    · subst el; exact ax e.symm
    · exact nd.2.2.1 (ls_me e (List.mem_append_left _ (hps 0 (by omega))))
  · rw [← h0] at e
    by_cases el : l = 0
    · subst el; exact ay e.symm
    · exact nd.1 (List.mem_cons_of_mem _ (List.mem_cons_of_mem _ (ls_me e (List.mem_append_left _ (hps 0 (by omega))))))
theorem xw_rtR {we : Nat} {kc : Nat → Nat} {ks : Nat → Nat} {vs : Nat → Int32} {bl : Nat → Nat} {fr : Nat → Bool} {us : Nat → Bool} {mr : Nat → Nat} {ms : Nat → Nat} {mn : Nat → Nat} {mv : Nat → Bool} {ro : Nat → Nat} {sz : Nat → Nat} {nu : Nat → Nat} {wp : Nat → Nat} {wi : Nat → Nat} {wa : Nat → Nat} {post : SX → Prop} {G : Nat → pg_T} {F C : List Nat} {fl0 : List kv_T} {hs : Nat → Nat} {w l x y i : Nat} (gs : gs_b kc ks) (R : rf_I G (gp_c kc ks vs bl) fr ro mv mr hs F C w fl0 wp wi (l + 1)) (hb : bl (6 * wp l) < 100) (hi : i < kc (wp l)) (ex : bl (6 * wp l + i) = x) (ey : bl (6 * wp l + i + 1) = y) (hxw : x = wp (l + 1)) (hx1 : kc x = 1) (fy : fr y = true) (hy3 : 2 < kc y)
    (K : ∀ (kc' ks' : Nat → Nat) (vs' : Nat → Int32) (bl' : Nat → Nat), gs_b kc' ks' → rf_I G (gp_c kc' ks' vs' bl') fr ro mv mr hs F C w fl0 wp wi l → post ((nI we), (eu_N kc'), (eu_N ks'), vs', (eu_P bl'), (eu_B fr), (eu_B us), (eu_P mr), (eu_N ms), (eu_N mn), (eu_B mv), (eu_P ro), (eu_N sz), (eu_N nu), (eu_N wp), (eu_N wi), (eu_P wa))) : wpX_takeFromRight post ((nI we), (eu_N kc), (eu_N ks), vs, (eu_P bl), (eu_B fr), (eu_B us), (eu_P mr), (eu_N ms), (eu_N mn), (eu_B mv), (eu_P ro), (eu_N sz), (eu_N nu), (eu_N wp), (eu_N wi), (eu_P wa)) (nI (wp l)) (nI i) := by
  obtain ⟨S, B, h0, hp, hl, hf⟩ := R
  have hp' : tr_pt (gp_c kc ks vs bl) wp wi l := fun j hj => hp j (by omega)
  have hga := gp_pair (ks := ks) (vs := vs) hb hi
  rw [ex, ey] at hga
  have hE : (sg_l (fun j => (ks j, vs j)) (5 * wp l) i).length = (sg_l bl (6 * wp l) i).length := by rw [sg_len, sg_len]
  obtain ⟨ax, ay, xy, xr, yr, sx, sy, xW, yW, aW, ha⟩ := pr_ne S h0 hp' hl hga hE
  have hgx := gp_hgt sx
  have hgy := gp_hgt sy
  have b4 := (B y yW).1
  have a4 := (B (wp l) aW).1
  rw [gp_len] at b4 a4
  obtain ⟨f, hf1⟩ : ∃ f, kc y = f + 1 := ⟨kc y - 1, by omega⟩
  refine xw_takeR gs ha (tr_100 sx) (tr_100 sy) ax ay xy ex ey rfl a4 hi (by omega) hf1 (by omega) hb (by rw [hgx.1, hgy.1]) (fun h => hgy.2 h 1 (by omega)) (fun kc' ks' vs' bl' gs' gx gy ga gq => ?_)
  have gy0 : (gp_c kc ks vs bl y).1 = (ks (5 * y), vs (5 * y)) :: sg_l (fun j => (ks j, vs j)) (5 * y + 1) f := by rw [gp_1, hf1]; rfl
  have ga' : gp_c kc' ks' vs' bl' (wp l) = (sg_l (fun j => (ks j, vs j)) (5 * wp l) i ++ (ks (5 * y), vs (5 * y)) :: sg_l (fun j => (ks j, vs j)) (5 * wp l + i + 1) (kc (wp l) - i - 1), sg_l bl (6 * wp l) i ++ x :: y :: sg_l bl (6 * wp l + i + 1 + 1) (kc (wp l) - i - 1)) := by
    rw [ga]
    refine Prod.ext rfl ?_
    have := congrArg Prod.snd hga
    rw [gp_2 hb] at this
    exact this
  have lx : (gp_c kc ks vs bl x).1.length = 1 := by rw [gp_len, hx1]
  obtain ⟨S2, B2, P2⟩ := rf_take S B (Or.inl hxw.symm) h0 hp' hl (fun j hj => hf j (by omega)) (by rw [hxw]; exact hf (l + 1) (by omega)) fy hga hE (m' := (ks (5 * y), vs (5 * y))) (X1 := (gp_c kc ks vs bl x).1 ++ [(ks (5 * wp l + i), vs (5 * wp l + i))]) (X2 := sg_l (fun j => (ks j, vs j)) (5 * y + 1) f)
    (by rw [gy0, List.append_assoc]; rfl) (D1 := if bl (6 * y) < 100 then (gp_c kc ks vs bl x).2 ++ [bl (6 * y)] else []) (D2 := if bl (6 * y) < 100 then sg_l bl (6 * y + 1) (f + 1) else [])
    (by
      by_cases h : bl (6 * y) < 100
      · rw [if_pos h, if_pos h, gp_2 h, hf1, List.append_assoc]; rfl
      · rw [if_neg h, if_neg h, gp_3 (show 100 ≤ bl (6 * y) by omega), gp_3 (p := x) (Nat.le_of_not_lt (fun hx => h (hgy.1.mpr (hgx.1.mp hx))))])
    (by
      by_cases h : bl (6 * y) < 100
      · have hx := hgx.1.mpr (hgy.1.mp h)
        rw [if_pos h, if_neg (hgy.1.mp h), gp_2 hx, List.length_append, List.length_append, sg_len, lx, hx1]; rfl
      · rw [if_neg h, if_pos (Classical.byContradiction (fun z => h (hgy.1.mpr z)))]; rfl)
    (by rw [List.length_append, lx]; exact Nat.le_refl _) (by rw [List.length_append, lx]; show 2 ≤ 4; omega) (by rw [sg_len]; omega) (by rw [sg_len]; omega) gx gy ga' gq
  exact K kc' ks' vs' bl' gs' ⟨S2, B2, h0, P2, by omega, fun j hj => hf j (by omega)⟩
theorem xw_rtL {we : Nat} {kc : Nat → Nat} {ks : Nat → Nat} {vs : Nat → Int32} {bl : Nat → Nat} {fr : Nat → Bool} {us : Nat → Bool} {mr : Nat → Nat} {ms : Nat → Nat} {mn : Nat → Nat} {mv : Nat → Bool} {ro : Nat → Nat} {sz : Nat → Nat} {nu : Nat → Nat} {wp : Nat → Nat} {wi : Nat → Nat} {wa : Nat → Nat} {post : SX → Prop} {G : Nat → pg_T} {F C : List Nat} {fl0 : List kv_T} {hs : Nat → Nat} {w l x y i : Nat} (gs : gs_b kc ks) (R : rf_I G (gp_c kc ks vs bl) fr ro mv mr hs F C w fl0 wp wi (l + 1)) (hb : bl (6 * wp l) < 100) (hi : i < kc (wp l)) (ey : bl (6 * wp l + i) = y) (ex : bl (6 * wp l + i + 1) = x) (hxw : x = wp (l + 1)) (hx1 : kc x = 1) (fy : fr y = true) (hy3 : 2 < kc y)
    (K : ∀ (kc' ks' : Nat → Nat) (vs' : Nat → Int32) (bl' : Nat → Nat), gs_b kc' ks' → rf_I G (gp_c kc' ks' vs' bl') fr ro mv mr hs F C w fl0 wp wi l → post ((nI we), (eu_N kc'), (eu_N ks'), vs', (eu_P bl'), (eu_B fr), (eu_B us), (eu_P mr), (eu_N ms), (eu_N mn), (eu_B mv), (eu_P ro), (eu_N sz), (eu_N nu), (eu_N wp), (eu_N wi), (eu_P wa))) : wpX_takeFromLeft post ((nI we), (eu_N kc), (eu_N ks), vs, (eu_P bl), (eu_B fr), (eu_B us), (eu_P mr), (eu_N ms), (eu_N mn), (eu_B mv), (eu_P ro), (eu_N sz), (eu_N nu), (eu_N wp), (eu_N wi), (eu_P wa)) (nI (wp l)) (nI (i + 1)) := by
  obtain ⟨S, B, h0, hp, hl, hf⟩ := R
  have hp' : tr_pt (gp_c kc ks vs bl) wp wi l := fun j hj => hp j (by omega)
  have hga := gp_pair (ks := ks) (vs := vs) hb hi
  rw [ex, ey] at hga
  have hE : (sg_l (fun j => (ks j, vs j)) (5 * wp l) i).length = (sg_l bl (6 * wp l) i).length := by rw [sg_len, sg_len]
  obtain ⟨ay, ax, yx, yr, xr, sy, sx, yW, xW, aW, ha⟩ := pr_ne S h0 hp' hl hga hE
  have hgx := gp_hgt sx
  have hgy := gp_hgt sy
  have b4 := (B y yW).1
  have a4 := (B (wp l) aW).1
  rw [gp_len] at b4 a4
  obtain ⟨f, hf1⟩ : ∃ f, kc y = f + 1 := ⟨kc y - 1, by omega⟩
  refine xw_takeL gs ha (tr_100 sx) (tr_100 sy) ax ay (fun e => yx e.symm) ex ey rfl a4 hi (by omega) hf1 hb (by rw [hgx.1, hgy.1]) (fun h => hgy.2 h (f + 1) (by omega)) (fun kc' ks' vs' bl' gs' gx gy ga gq => ?_)
  have gy0 : (gp_c kc ks vs bl y).1 = sg_l (fun j => (ks j, vs j)) (5 * y) f ++ [(ks (5 * y + f), vs (5 * y + f))] := by rw [gp_1, hf1, sg_app]; rfl
  have ga' : gp_c kc' ks' vs' bl' (wp l) = (sg_l (fun j => (ks j, vs j)) (5 * wp l) i ++ (ks (5 * y + f), vs (5 * y + f)) :: sg_l (fun j => (ks j, vs j)) (5 * wp l + i + 1) (kc (wp l) - i - 1), sg_l bl (6 * wp l) i ++ y :: x :: sg_l bl (6 * wp l + i + 1 + 1) (kc (wp l) - i - 1)) := by
    rw [ga]
    refine Prod.ext rfl ?_
    have := congrArg Prod.snd hga
    rw [gp_2 hb] at this
    exact this
  have lx : (gp_c kc ks vs bl x).1.length = 1 := by rw [gp_len, hx1]
  obtain ⟨S2, B2, P2⟩ := rf_take S B (Or.inr hxw.symm) h0 hp' hl (fun j hj => hf j (by omega)) fy (by rw [hxw]; exact hf (l + 1) (by omega)) hga hE (m' := (ks (5 * y + f), vs (5 * y + f))) (X1 := sg_l (fun j => (ks j, vs j)) (5 * y) f) (X2 := (ks (5 * wp l + i), vs (5 * wp l + i)) :: (gp_c kc ks vs bl x).1)
    (by rw [gy0, List.append_assoc]; rfl) (D1 := if bl (6 * y) < 100 then sg_l bl (6 * y) (f + 1) else []) (D2 := if bl (6 * y) < 100 then bl (6 * y + (f + 1)) :: (gp_c kc ks vs bl x).2 else [])
    (by
      by_cases h : bl (6 * y) < 100
      · rw [if_pos h, if_pos h, gp_2 h, hf1, sg_app, List.append_assoc]; rfl
      · rw [if_neg h, if_neg h, gp_3 (show 100 ≤ bl (6 * y) by omega), gp_3 (p := x) (Nat.le_of_not_lt (fun hx => h (hgy.1.mpr (hgx.1.mp hx))))])
    (by
      by_cases h : bl (6 * y) < 100
      · rw [if_pos h, if_neg (hgy.1.mp h), sg_len, sg_len]
      · rw [if_neg h, if_pos (Classical.byContradiction (fun z => h (hgy.1.mpr z)))]; rfl)
    (by rw [sg_len]; omega) (by rw [sg_len]; omega) (by rw [List.length_cons, lx]; exact Nat.le_refl _) (by rw [List.length_cons, lx]; show 2 ≤ 4; omega) gy gx ga' (fun q q1 q2 q3 => gq q q2 q1 q3)
  exact K kc' ks' vs' bl' gs' ⟨S2, B2, h0, P2, by omega, fun j hj => hf j (by omega)⟩
theorem xw_rm {we : Nat} {kc : Nat → Nat} {ks : Nat → Nat} {vs : Nat → Int32} {bl : Nat → Nat} {fr : Nat → Bool} {us : Nat → Bool} {mr : Nat → Nat} {ms : Nat → Nat} {mn : Nat → Nat} {mv : Nat → Bool} {ro : Nat → Nat} {sz : Nat → Nat} {nu : Nat → Nat} {wp : Nat → Nat} {wi : Nat → Nat} {wa : Nat → Nat} {post : SX → Prop} {G : Nat → pg_T} {F C : List Nat} {fl0 : List kv_T} {hs : Nat → Nat} {w l x y i : Nat} (gs : gs_b kc ks) (R : rf_I G (gp_c kc ks vs bl) fr ro mv mr hs F C w fl0 wp wi (l + 1)) (hb : bl (6 * wp l) < 100) (hi : i < kc (wp l)) (ex : bl (6 * wp l + i) = x) (ey : bl (6 * wp l + i + 1) = y) (hw : wp (l + 1) = x ∨ wp (l + 1) = y) (hsum : kc x + 1 + kc y ≤ 4) (hsum2 : 1 ≤ kc x + kc y) (fx : fr x = true)
    (K : ∀ (kc' ks' : Nat → Nat) (vs' : Nat → Int32) (bl' : Nat → Nat), gs_b kc' ks' → rf_I G (gp_c kc' ks' vs' bl') (un_f fr y false) ro mv mr hs F C w fl0 wp wi l → post ((nI we), (eu_N kc'), (eu_N ks'), vs', (eu_P bl'), (eu_B (un_f fr y false)), (eu_B us), (eu_P mr), (eu_N ms), (eu_N mn), (eu_B mv), (eu_P ro), (eu_N sz), (eu_N nu), (eu_N wp), (eu_N wi), (eu_P wa))) : wpX_melt post ((nI we), (eu_N kc), (eu_N ks), vs, (eu_P bl), (eu_B fr), (eu_B us), (eu_P mr), (eu_N ms), (eu_N mn), (eu_B mv), (eu_P ro), (eu_N sz), (eu_N nu), (eu_N wp), (eu_N wi), (eu_P wa)) (nI (wp l)) (nI i) := by
  obtain ⟨S, B, h0, hp, hl, hf⟩ := R
  have hp' : tr_pt (gp_c kc ks vs bl) wp wi l := fun j hj => hp j (by omega)
  have hga := gp_pair (ks := ks) (vs := vs) hb hi
  rw [ex, ey] at hga
  have hE : (sg_l (fun j => (ks j, vs j)) (5 * wp l) i).length = (sg_l bl (6 * wp l) i).length := by rw [sg_len, sg_len]
  obtain ⟨ax, ay, xy, xr, yr, sx, sy, xW, yW, aW, ha⟩ := pr_ne S h0 hp' hl hga hE
  have hgx := gp_hgt sx
  have hgy := gp_hgt sy
  have a4 := (B (wp l) aW).1
  rw [gp_len] at a4
  obtain ⟨n, hn⟩ : ∃ n, kc (wp l) = n + 1 := ⟨kc (wp l) - 1, by omega⟩
  refine xw_melt gs ha (tr_100 sx) (tr_100 sy) ax ay xy ex ey hn (by omega) (by omega) hsum hb (by rw [hgx.1, hgy.1]) (fun kc' ks' vs' bl' gs' gx ga gq => ?_)
  have ga' : gp_c kc' ks' vs' bl' (wp l) = (sg_l (fun j => (ks j, vs j)) (5 * wp l) i ++ sg_l (fun j => (ks j, vs j)) (5 * wp l + i + 1) (kc (wp l) - i - 1), sg_l bl (6 * wp l) i ++ x :: sg_l bl (6 * wp l + i + 1 + 1) (kc (wp l) - i - 1)) := by
    rw [ga, hn, show n + 1 - i - 1 = n - i by omega]
    refine Prod.ext rfl ?_
    dsimp only
    rw [sg_app, List.append_assoc, ← ex]
    rfl
  obtain ⟨S2, B2, P2, f2⟩ := rf_melt S B hw h0 hp' hl (fun j hj => hf j (by omega)) fx hga hE (by rw [gp_len, gp_len]; exact hsum) (by rw [gp_len, gp_len]; exact hsum2) gx ga' gq
  exact K kc' ks' vs' bl' gs' ⟨S2, B2, h0, P2, by omega, f2⟩
end
section
/-! X's walk: refill -/
theorem gp_one {kc ks : Nat → Nat} {vs : Nat → Int32} {bl : Nat → Nat} {a i : Nat} (hb : bl (6 * a) < 100) (hi : i ≤ kc a) :
    gp_c kc ks vs bl a = (sg_l (fun j => (ks j, vs j)) (5 * a) i ++ sg_l (fun j => (ks j, vs j)) (5 * a + i) (kc a - i), sg_l bl (6 * a) i ++ bl (6 * a + i) :: sg_l bl (6 * a + i + 1) (kc a - i)) := by
  refine Prod.ext ?_ ?_
  · rw [gp_1]
    exact sg_cut _ _ hi
  · rw [gp_2 hb, sg_mid (i := i) _ _ (by omega)]
    dsimp only
    rw [show kc a + 1 - i - 1 = kc a - i by omega]
theorem rf_at {kc ks : Nat → Nat} {vs : Nat → Int32} {bl : Nat → Nat} {G : Nat → pg_T} {fr : Nat → Bool} {ro : Nat → Nat} {mv : Nat → Bool} {mr hs : Nat → Nat} {F C : List Nat} {w : Nat} {fl0 : List kv_T} {wp wi : Nat → Nat} {l : Nat} (R : rf_I G (gp_c kc ks vs bl) fr ro mv mr hs F C w fl0 wp wi (l + 1)) :
    bl (6 * wp l) < 100 ∧ wi l ≤ kc (wp l) ∧ bl (6 * wp l + wi l) = wp (l + 1) ∧ wp l < 100 ∧ wp (l + 1) < 100 ∧ 1 ≤ kc (wp l) ∧ kc (wp l) ≤ 4 ∧ (∀ i, i ≤ kc (wp l) → bl (6 * wp l + i) < 100 ∧ bl (6 * wp l + i) ∈ tr_pg (gp_c kc ks vs bl) (hs 3) (ro 3)) := by
  obtain ⟨S, B, h0, hp, hl, hf⟩ := R
  have hs0 := S.2.1.1
  rw [← h0] at hs0
  obtain ⟨⟨lf, rt, ps, hc, _⟩, hsl⟩ := tr_ptd hs0 l (by omega) (fun j hj => hp j (by omega))
  have e : hs 3 - l = (hs 3 - (l + 1)) + 1 := by omega
  rw [e] at hc hsl
  obtain ⟨ha, hb, hch⟩ := gp_node hsl
  obtain ⟨hx, hi, _⟩ := tr_shc hsl (hp l (by omega))
  rw [gp_len] at hi
  have h1 := gp_below (ks := ks) (vs := vs) hb hi
  rw [hp l (by omega)] at h1
  have p := (hc _ (fun _ _ => rfl)).2.1
  rw [h0] at p
  have inW : ∀ q, q ∈ tr_pg (gp_c kc ks vs bl) (hs 3 - (l + 1) + 1) (wp l) → q ∈ tr_pg (gp_c kc ks vs bl) (hs 3) (ro 3) := fun q hq => p.mem_iff.mpr (List.mem_append_right _ hq)
  have ba := B (wp l) (inW _ (tr_pgs _ _ _))
  rw [gp_len] at ba
  have nd := S.2.1.2.1
  rw [← h0] at nd
  have ne : wp l ≠ wp (l + 1) := tr_ne hs0 nd hl hp (by omega) (Nat.le_refl _)
  refine ⟨hb, hi, (Option.some.inj h1).symm, ha, tr_100 hx, ba.2.1 ne, ba.1, fun i hi => ⟨tr_100 (hch i hi), inW _ ?_⟩⟩
  rw [tr_pge]
  exact List.mem_cons_of_mem _ (tr_pps (gp_below (ks := ks) (vs := vs) hb hi) (tr_pgs _ _ _))
/-- the neighbour at the place b is made fresh -/
theorem xw_rfc {we : Nat} {kc : Nat → Nat} {ks : Nat → Nat} {vs : Nat → Int32} {bl : Nat → Nat} {fr : Nat → Bool} {us : Nat → Bool} {mr : Nat → Nat} {ms : Nat → Nat} {mn : Nat → Nat} {mv : Nat → Bool} {ro : Nat → Nat} {sz : Nat → Nat} {nu : Nat → Nat} {wp : Nat → Nat} {wi : Nat → Nat} {wa : Nat → Nat} {post : Int32 → SX → Prop} {G : Nat → pg_T} {F C : List Nat} {fl0 : List kv_T} {hs : Nat → Nat} {w l b : Nat} (gs : gs_b kc ks) (R : rf_I G (gp_c kc ks vs bl) fr ro mv mr hs F C w fl0 wp wi (l + 1)) (hw : w ≤ 30) (hb : b ≤ kc (wp l)) (hbi : wi l ≠ b)
    (K : ∀ (c : Nat) (kc' ks' : Nat → Nat) (vs' : Nat → Int32) (bl' : Nat → Nat) (fr' us' : Nat → Bool) (wa' : Nat → Nat), c < 100 → gs_b kc' ks' → rf_I G (gp_c kc' ks' vs' (un_f bl' (6 * wp l + b) c)) fr' ro mv mr hs F C w fl0 wp wi (l + 1) → fr' c = true → kc' (wp l) = kc (wp l) → kc' (wp (l + 1)) = kc (wp (l + 1)) → kc' c = kc (bl (6 * wp l + b)) →
      post (nI c) ((nI we), (eu_N kc'), (eu_N ks'), vs', (eu_P bl'), (eu_B fr'), (eu_B us'), (eu_P mr), (eu_N ms), (eu_N mn), (eu_B mv), (eu_P ro), (eu_N sz), (eu_N nu), (eu_N wp), (eu_N wi), (eu_P wa'))) : wpX_freshCopy post ((nI we), (eu_N kc), (eu_N ks), vs, (eu_P bl), (eu_B fr), (eu_B us), (eu_P mr), (eu_N ms), (eu_N mn), (eu_B mv), (eu_P ro), (eu_N sz), (eu_N nu), (eu_N wp), (eu_N wi), (eu_P wa)) (eu_p (bl (6 * wp l + b))) := by
  obtain ⟨a1, a2, a3, a4, a5, a6, a7, a8⟩ := rf_at R
  obtain ⟨hy, yW⟩ := a8 b hb
  have R0 := R
  obtain ⟨S, B, h0, hp, hl, hf⟩ := R
  have N := op_np S hw
  have hga := gp_one (ks := ks) (vs := vs) a1 hb
  have hE : (sg_l (fun j => (ks j, vs j)) (5 * wp l) b).length = (sg_l bl (6 * wp l) b).length := by rw [sg_len, sg_len]
  have e3 : rc_f ro mv mr 3 = ro 3 := rc_lo (by omega)
  rw [eu_pn hy]
  refine xw_freshCopy gs N.1 (by omega) N.2.2.1 N.2.2.2.1 hy (Or.inr ⟨3, by omega, by rw [e3]; exact S.2.2.1, by rw [e3]; exact yW⟩) (fun fy => ?_) (fun fy c kc' ks' vs' bl' us' wa' hc fc nc gs' gc gq => ?_)
  · have e : un_f bl (6 * wp l + b) (bl (6 * wp l + b)) = bl := un_id rfl
    exact K _ kc ks vs bl fr us wa hy gs (by rw [e]; exact R0) fy rfl rfl rfl
  · obtain ⟨cF, cW⟩ := N.2.2.2.2 c nc
    have nc' : ∀ j, j ≤ l + 1 → wp j ≠ c := fun j hj e => by
      have := hf j hj
      rw [e, fc] at this
      exact (nomatch this)
    obtain ⟨b1, b2, b3, b4, b5⟩ := gp_set gs'.1 ((gq (wp l) (nc' l (by omega))).trans hga) (sg_len _ _ _) hc
    obtain ⟨S2, B2, P2, f2⟩ := rf_copy (g2 := gp_c kc' ks' vs' (un_f bl' (6 * wp l + b) c)) S B h0 hp hl hf hga hE (by rw [sg_len]; exact hbi) fy hc fc cF cW ((b5 c (fun e => nc' l (by omega) e.symm)).trans gc) b4 (fun q q1 q2 => (b5 q q2).trans (gq q q1))
    have len : ∀ p q, gp_c kc' ks' vs' bl' p = gp_c kc ks vs bl q → kc' p = kc q := fun p q e => by
      have := congrArg (fun z : pg_T => z.1.length) e
      rw [gp_len, gp_len] at this
      exact this
    exact K c kc' ks' vs' bl' _ us' wa' hc gs' ⟨S2, B2, h0, P2, hl, f2⟩ un_s (len _ _ (gq _ (nc' l (by omega)))) (len _ _ (gq _ (nc' (l + 1) (by omega)))) (len _ _ gc)
theorem xw_rf105R {we : Nat} {kc : Nat → Nat} {ks : Nat → Nat} {vs : Nat → Int32} {bl : Nat → Nat} {fr : Nat → Bool} {us : Nat → Bool} {mr : Nat → Nat} {ms : Nat → Nat} {mn : Nat → Nat} {mv : Nat → Bool} {ro : Nat → Nat} {sz : Nat → Nat} {nu : Nat → Nat} {wp : Nat → Nat} {wi : Nat → Nat} {wa : Nat → Nat} {post : SX → Prop} {G : Nat → pg_T} {F C : List Nat} {fl0 : List kv_T} {hs : Nat → Nat} {w l : Nat} (gs : gs_b kc ks) (R : rf_I G (gp_c kc ks vs bl) fr ro mv mr hs F C w fl0 wp wi (l + 1)) (hw : w ≤ 30) (hi : wi l < kc (wp l)) (hx1 : kc (wp (l + 1)) = 1)
    (K : ∀ (kc' ks' : Nat → Nat) (vs' : Nat → Int32) (bl' : Nat → Nat) (fr' us' : Nat → Bool) (wa' : Nat → Nat), gs_b kc' ks' → rf_I G (gp_c kc' ks' vs' bl') fr' ro mv mr hs F C w fl0 wp wi l → post ((nI we), (eu_N kc'), (eu_N ks'), vs', (eu_P bl'), (eu_B fr'), (eu_B us'), (eu_P mr), (eu_N ms), (eu_N mn), (eu_B mv), (eu_P ro), (eu_N sz), (eu_N nu), (eu_N wp), (eu_N wi), (eu_P wa'))) :
    wX_refill_105 post (nI (wp l)) (nI (wi l)) 0 (nI (wi l + 1)) (nI we) (eu_N kc) (eu_N ks) vs (eu_P bl) (eu_B fr) (eu_B us) (eu_P mr) (eu_N ms) (eu_N mn) (eu_B mv) (eu_P ro) (eu_N sz) (eu_N nu) (eu_N wp) (eu_N wi) (eu_P wa) := by
  obtain ⟨a1, a2, a3, a4, a5, a6, a7, a8⟩ := rf_at R
  unfold wX_refill_105
  simp (disch := omega) only [ea_6, pk_mul, nI_add, nI_clamp, ea_inT, eu_Pr, true_and]
  refine xw_rfc gs R hw (by omega) (by omega) (fun c kc' ks' vs' bl' fr' us' wa' hc gs' R' fc k1 k2 k3 => ?_)
  dsimp only
  obtain ⟨b1, b2, b3, b4, b5, b6, b7, b8⟩ := rf_at R'
  have ey : un_f bl' (6 * wp l + (wi l + 1)) c (6 * wp l + wi l + 1) = c := by rw [Nat.add_assoc]; exact un_s
  have hga := gp_pair (kc := kc') (ks := ks') (vs := vs') b1 (show wi l < kc' (wp l) by omega)
  rw [b3, ey] at hga
  have pn := pr_ne R'.1 R'.2.2.1 (fun j hj => R'.2.2.2.1 j (by omega)) R'.2.2.2.2.1 hga (by rw [sg_len, sg_len])
  have bc := R'.2.1 c pn.2.2.2.2.2.2.2.2.1
  rw [gp_len] at bc
  have c2 := bc.2.2.2 pn.2.2.2.2.1 (fun e => pn.2.2.1 e.symm)
  have c5 := gs'.1 c
  simp (disch := omega) only [forall_eq, true_and, nI_clamp, eu_Nr, eu_i8, eu_nb, eu_Pun, ea_inT, ea_2, nI_ltI]
  refine ⟨fun h3 => br_t (by trivial) ?_, fun h3 => br_t (by trivial) ?_⟩
  · exact xw_rtR gs' R' b1 (by omega) b3 ey rfl (by omega) fc h3 (fun kc2 ks2 vs2 bl2 g2 R2 => K kc2 ks2 vs2 bl2 fr' us' wa' g2 R2)
  · unfold wX_refill_165
    exact xw_rm gs' R' b1 (by omega) b3 ey (Or.inl rfl) (by omega) (by omega) (R'.2.2.2.2.2 (l + 1) (Nat.le_refl _)) (fun kc2 ks2 vs2 bl2 g2 R2 => K kc2 ks2 vs2 bl2 _ us' wa' g2 R2)
theorem xw_rf105L {we : Nat} {kc : Nat → Nat} {ks : Nat → Nat} {vs : Nat → Int32} {bl : Nat → Nat} {fr : Nat → Bool} {us : Nat → Bool} {mr : Nat → Nat} {ms : Nat → Nat} {mn : Nat → Nat} {mv : Nat → Bool} {ro : Nat → Nat} {sz : Nat → Nat} {nu : Nat → Nat} {wp : Nat → Nat} {wi : Nat → Nat} {wa : Nat → Nat} {post : SX → Prop} {G : Nat → pg_T} {F C : List Nat} {fl0 : List kv_T} {hs : Nat → Nat} {w l i : Nat} (gs : gs_b kc ks) (R : rf_I G (gp_c kc ks vs bl) fr ro mv mr hs F C w fl0 wp wi (l + 1)) (hw : w ≤ 30) (hi : wi l = i + 1) (hx1 : kc (wp (l + 1)) = 1)
    (K : ∀ (kc' ks' : Nat → Nat) (vs' : Nat → Int32) (bl' : Nat → Nat) (fr' us' : Nat → Bool) (wa' : Nat → Nat), gs_b kc' ks' → rf_I G (gp_c kc' ks' vs' bl') fr' ro mv mr hs F C w fl0 wp wi l → post ((nI we), (eu_N kc'), (eu_N ks'), vs', (eu_P bl'), (eu_B fr'), (eu_B us'), (eu_P mr), (eu_N ms), (eu_N mn), (eu_B mv), (eu_P ro), (eu_N sz), (eu_N nu), (eu_N wp), (eu_N wi), (eu_P wa'))) :
    wX_refill_105 post (nI (wp l)) (nI (i + 1)) 1 (nI i) (nI we) (eu_N kc) (eu_N ks) vs (eu_P bl) (eu_B fr) (eu_B us) (eu_P mr) (eu_N ms) (eu_N mn) (eu_B mv) (eu_P ro) (eu_N sz) (eu_N nu) (eu_N wp) (eu_N wi) (eu_P wa) := by
  obtain ⟨a1, a2, a3, a4, a5, a6, a7, a8⟩ := rf_at R
  unfold wX_refill_105
  simp (disch := omega) only [ea_6, pk_mul, nI_add, nI_clamp, ea_inT, eu_Pr, true_and]
  refine xw_rfc gs R hw (by omega) (by omega) (fun c kc' ks' vs' bl' fr' us' wa' hc gs' R' fc k1 k2 k3 => ?_)
  dsimp only
  obtain ⟨b1, b2, b3, b4, b5, b6, b7, b8⟩ := rf_at R'
  rw [hi] at b3
  have ey : un_f bl' (6 * wp l + i) c (6 * wp l + i) = c := un_s
  have hga := gp_pair (kc := kc') (ks := ks') (vs := vs') b1 (show i < kc' (wp l) by omega)
  rw [show 6 * wp l + i + 1 = 6 * wp l + (i + 1) by omega, b3, ey] at hga
  have pn := pr_ne R'.1 R'.2.2.1 (fun j hj => R'.2.2.2.1 j (by omega)) R'.2.2.2.2.1 hga (by rw [sg_len, sg_len])
  have bc := R'.2.1 c pn.2.2.2.2.2.2.2.1
  rw [gp_len] at bc
  have c2 := bc.2.2.2 pn.2.2.2.1 pn.2.2.1
  have c5 := gs'.1 c
  simp (disch := omega) only [forall_eq, true_and, nI_clamp, eu_Nr, eu_i8, eu_nb, eu_Pun, ea_inT, ea_2, nI_ltI]
  refine ⟨fun h3 => br_f (by decide) ?_, fun h3 => br_f (by decide) ?_⟩
  · exact xw_rtL gs' R' b1 (by omega) ey b3 rfl (by omega) fc h3 (fun kc2 ks2 vs2 bl2 g2 R2 => K kc2 ks2 vs2 bl2 fr' us' wa' g2 R2)
  · rw [show nI (i + 1) - 1 = nI i by rw [ea_1, pk_sub (by omega)]; rfl]
    unfold wX_refill_165
    exact xw_rm gs' R' b1 (by omega) ey b3 (Or.inr rfl) (by omega) (by omega) fc (fun kc2 ks2 vs2 bl2 g2 R2 => K kc2 ks2 vs2 bl2 _ us' wa' g2 R2)
theorem xw_refill {we : Nat} {kc : Nat → Nat} {ks : Nat → Nat} {vs : Nat → Int32} {bl : Nat → Nat} {fr : Nat → Bool} {us : Nat → Bool} {mr : Nat → Nat} {ms : Nat → Nat} {mn : Nat → Nat} {mv : Nat → Bool} {ro : Nat → Nat} {sz : Nat → Nat} {nu : Nat → Nat} {wp : Nat → Nat} {wi : Nat → Nat} {wa : Nat → Nat} {post : SX → Prop} {G : Nat → pg_T} {F C : List Nat} {fl0 : List kv_T} {hs : Nat → Nat} {w l : Nat} (hl8 : l < 8) (gs : gs_b kc ks) (R : rf_I G (gp_c kc ks vs bl) fr ro mv mr hs F C w fl0 wp wi (l + 1)) (hw : w ≤ 30) (hx1 : kc (wp (l + 1)) = 1)
    (K : ∀ (kc' ks' : Nat → Nat) (vs' : Nat → Int32) (bl' : Nat → Nat) (fr' us' : Nat → Bool) (wa' : Nat → Nat), gs_b kc' ks' → rf_I G (gp_c kc' ks' vs' bl') fr' ro mv mr hs F C w fl0 wp wi l → post ((nI we), (eu_N kc'), (eu_N ks'), vs', (eu_P bl'), (eu_B fr'), (eu_B us'), (eu_P mr), (eu_N ms), (eu_N mn), (eu_B mv), (eu_P ro), (eu_N sz), (eu_N nu), (eu_N wp), (eu_N wi), (eu_P wa'))) : wpX_refill post ((nI we), (eu_N kc), (eu_N ks), vs, (eu_P bl), (eu_B fr), (eu_B us), (eu_P mr), (eu_N ms), (eu_N mn), (eu_B mv), (eu_P ro), (eu_N sz), (eu_N nu), (eu_N wp), (eu_N wi), (eu_P wa)) (nI (l + 1)) := by
  obtain ⟨a1, a2, a3, a4, a5, a6, a7, a8⟩ := rf_at R
  have toR : wi l < kc (wp l) → wX_refill_91 post (nI (wp l)) (nI (wi l)) 0 (nI we) (eu_N kc) (eu_N ks) vs (eu_P bl) (eu_B fr) (eu_B us) (eu_P mr) (eu_N ms) (eu_N mn) (eu_B mv) (eu_P ro) (eu_N sz) (eu_N nu) (eu_N wp) (eu_N wi) (eu_P wa) := fun hi => by
    unfold wX_refill_91
    refine br_t rfl ?_
    rw [nI_1]
    exact xw_rf105R gs R hw hi hx1 K
  have toL : wi l ≠ 0 → wX_refill_91 post (nI (wp l)) (nI (wi l)) 1 (nI we) (eu_N kc) (eu_N ks) vs (eu_P bl) (eu_B fr) (eu_B us) (eu_P mr) (eu_N ms) (eu_N mn) (eu_B mv) (eu_P ro) (eu_N sz) (eu_N nu) (eu_N wp) (eu_N wi) (eu_P wa) := fun hi => by
    unfold wX_refill_91
    refine br_f (by decide) ?_
    obtain ⟨i, e⟩ : ∃ i, wi l = i + 1 := ⟨wi l - 1, by omega⟩
    rw [e, nI_pred]
    exact xw_rf105L gs R hw e hx1 K
  unfold wpX_refill
  simp (disch := omega) only [forall_eq, true_and, ea_1, pk_sub, Nat.add_sub_cancel, nI_clamp, eu_Nr, ea_inT]
  refine br_c (fun h => ?_) (fun h => ?_)
  · rw [ea_0, nI_leI (by omega) (by omega)] at h
    unfold wX_refill_27
    exact br_t rfl (toR (by omega))
  · rw [ea_0, nI_leI (by omega) (by omega)] at h
    have y1 := a8 (wi l - 1) (by omega)
    have k5 := gs.1 (bl (6 * wp l + wi l - 1))
    rw [show 6 * wp l + (wi l - 1) = 6 * wp l + wi l - 1 by omega] at y1
    unfold wX_refill_27
    refine br_f (by decide +kernel) ?_
    simp (disch := omega) only [forall_eq, true_implies, false_implies, not_true_eq_false, not_false_eq_true, and_true, true_and, ea_0, ea_1, ea_2, ea_3, ea_4, ea_5, ea_6, ea_24, ea_99, ea_100, ea_300, ea_n1, ea_n2, pk_mul, nI_add, pk_sub, ea_m1, nI_clamp, eu_Nr, eu_Br, eu_Pr, eu_pn, eu_nb, eu_i8, eu_pb, eu_pi, eu_vb0, eu_vb1, eu_vbb, eu_Nu, eu_Pu, eu_Pun, eu_Bu, eu_Bu0, eu_Bu1, ea_inT, nI_leI, Nat.zero_le, nI_ltI, nI_eq, eu_pl, eu_pg, eu_p2, eu_b0]
    refine ⟨fun _ => toL (by omega), fun _ => ⟨fun _ => toL (by omega), fun hn => ?_⟩⟩
    have y2 := a8 (wi l + 1) (by omega)
    rw [show 6 * wp l + (wi l + 1) = 6 * wp l + wi l + 1 by omega] at y2
    have k6 := gs.1 (bl (6 * wp l + wi l + 1))
    simp (disch := omega) only [forall_eq, true_implies, false_implies, not_true_eq_false, not_false_eq_true, and_true, true_and, ea_0, ea_1, ea_2, ea_3, ea_4, ea_5, ea_6, ea_24, ea_99, ea_100, ea_300, ea_n1, ea_n2, pk_mul, nI_add, pk_sub, ea_m1, nI_clamp, eu_Nr, eu_Br, eu_Pr, eu_pn, eu_nb, eu_i8, eu_pb, eu_pi, eu_vb0, eu_vb1, eu_vbb, eu_Nu, eu_Pu, eu_Pun, eu_Bu, eu_Bu0, eu_Bu1, ea_inT, nI_leI, Nat.zero_le, nI_ltI, nI_eq, eu_pl, eu_pg, eu_p2, eu_b0]
    exact ⟨fun _ => toL (by omega), fun _ => toR (by omega)⟩
end
section
/-! X's walk: takeOut -/
def wo_I (G g : Nat → pg_T) (fr : Nat → Bool) (ro : Nat → Nat) (mv : Nat → Bool) (mr hs : Nat → Nat) (F C : List Nat) (fl0 : List kv_T) : Prop :=
  ot_I G g (rc_f ro mv mr) hs F ∧ (∀ q, q ∈ F → fr q = false) ∧ (∀ q, q ∈ C → q ∈ F) ∧ ((ro 3 < 100 ∧ wt_I g fr F C (hs 3) (ro 3) ∧ tr_fl g (hs 3) (ro 3) = fl0 ∧ bd_0 g (hs 3) (ro 3)) ∨ (ro 3 = 100 ∧ fl0 = [] ∧ ∀ q, q < 100 → fr q = false))
theorem wo_of {G g : Nat → pg_T} {fr : Nat → Bool} {ro : Nat → Nat} {mv : Nat → Bool} {mr hs : Nat → Nat} {F C : List Nat} {w : Nat} {fl0 : List kv_T} (S : op_S G g fr ro mv mr hs F C w fl0) (B : bd_0 g (hs 3) (ro 3)) : wo_I G g fr ro mv mr hs F C fl0 :=
  ⟨S.1, S.2.1.2.2.2.2.1, S.2.1.2.2.2.2.2, Or.inl ⟨S.2.2.1, S.2.1, S.2.2.2.2, B⟩⟩
theorem xw_to165 {we : Nat} {kc : Nat → Nat} {ks : Nat → Nat} {vs : Nat → Int32} {bl : Nat → Nat} {fr : Nat → Bool} {us : Nat → Bool} {mr : Nat → Nat} {ms : Nat → Nat} {mn : Nat → Nat} {mv : Nat → Bool} {ro : Nat → Nat} {sz : Nat → Nat} {nu : Nat → Nat} {wp : Nat → Nat} {wi : Nat → Nat} {wa : Nat → Nat} {post : SX → Prop} {G : Nat → pg_T} {F C : List Nat} {fl0 : List kv_T} {hs : Nat → Nat} {w z : Nat} (gs : gs_b kc ks) (S : op_S G (gp_c kc ks vs bl) fr ro mv mr hs F C w fl0) (B : bd_1 (gp_c kc ks vs bl) (hs 3) (ro 3) z) (hz : z = ro 3 ∨ 2 ≤ kc z)
    (K : ∀ (fr' : Nat → Bool) (ro' hs' : Nat → Nat), wo_I G (gp_c kc ks vs bl) fr' ro' mv mr hs' F C fl0 → (∀ s, s ≠ 3 → hs' s = hs s) → (∀ s, s ≠ 3 → ro' s = ro s) → post ((nI we), (eu_N kc), (eu_N ks), vs, (eu_P bl), (eu_B fr'), (eu_B us), (eu_P mr), (eu_N ms), (eu_N mn), (eu_B mv), (eu_P ro'), (eu_N sz), (eu_N nu), (eu_N wp), (eu_N wi), (eu_P wa))) : wX_takeOut_165 post (nI we) (eu_N kc) (eu_N ks) vs (eu_P bl) (eu_B fr) (eu_B us) (eu_P mr) (eu_N ms) (eu_N mn) (eu_B mv) (eu_P ro) (eu_N sz) (eu_N nu) (eu_N wp) (eu_N wi) (eu_P wa) := by
  obtain ⟨O, W, hr, hlen, hfl⟩ := S
  have k5 := gs.1 (ro 3)
  unfold wX_takeOut_165
  simp (disch := omega) only [forall_eq, true_implies, false_implies, not_true_eq_false, not_false_eq_true, and_true, true_and, ea_0, ea_1, ea_2, ea_3, ea_4, ea_5, ea_6, ea_24, ea_99, ea_100, ea_300, ea_n1, ea_n2, pk_mul, nI_add, pk_sub, ea_m1, nI_clamp, eu_Nr, eu_Br, eu_Pr, eu_pn, eu_nb, eu_i8, eu_pb, eu_pi, eu_vb0, eu_vb1, eu_vbb, eu_Nu, eu_Pu, eu_Pun, eu_Bu, eu_Bu0, eu_Bu1, ea_inT, nI_leI, Nat.zero_le, nI_ltI, nI_eq, eu_pl, eu_pg, eu_p2, eu_b0]
  refine ⟨fun hk => ?_, fun hk => ?_⟩
  · have hz' : ro 3 = z := Classical.byContradiction (fun hn => by
      have := (B (ro 3) (tr_pgs _ _ _)).2.1 hn
      rw [gp_len] at this
      omega)
    have e1 : (gp_c kc ks vs bl (ro 3)).1 = [] := List.eq_nil_of_length_eq_zero (by rw [gp_len]; omega)
    refine xw_isLeaf hr (fun hb => br_t (by trivial) ?_) (fun hb => br_f (by decide +kernel) ?_)
    · have hgt := gp_hgt W.1
      obtain ⟨n, hn⟩ : ∃ n, hs 3 = n + 1 := ⟨hs 3 - 1, by have := hgt.1.mp hb; omega⟩
      have W1 := W.1
      rw [hn] at W1
      obtain ⟨_, _, hch⟩ := gp_node W1
      have e2 : (gp_c kc ks vs bl (ro 3)).2 = [bl (6 * ro 3)] := by rw [gp_2 hb, show kc (ro 3) + 1 = 1 by omega]; rfl
      have hc := hch 0 (by omega)
      rw [Nat.add_zero] at hc
      have p : tr_pg (gp_c kc ks vs bl) (hs 3) (ro 3) = ro 3 :: tr_pg (gp_c kc ks vs bl) n (bl (6 * ro 3)) := by
        rw [hn]
        show ro 3 :: (gp_c kc ks vs bl (ro 3)).2.flatMap _ = _
        rw [e2]
        show ro 3 :: (_ ++ []) = _
        rw [List.append_nil]
      have f : tr_fl (gp_c kc ks vs bl) n (bl (6 * ro 3)) = fl0 := by
        rw [← hfl, hn]
        show _ = wv_l (gp_c kc ks vs bl (ro 3)).1 ((gp_c kc ks vs bl (ro 3)).2.map _)
        rw [e1, e2]
        show _ = _ ++ []
        rw [List.append_nil]
      refine K _ _ (un_f hs 3 n) ⟨ot_fr O (fun _ _ => rfl) (fun s hs => ⟨rc_3 (fun s hs => un_n hs) s hs, un_n hs⟩), fun q hq => ?_, W.2.2.2.2.2, Or.inl ?_⟩ (fun s hs => un_n hs) (fun s hs => un_n hs)
      · by_cases e : q = ro 3
        · rw [e]; exact un_s
        · rw [un_n e]; exact W.2.2.2.2.1 q hq
      · rw [un_s, un_s]
        refine ⟨tr_100 hc, wt_less W hc (by rw [p]), f, fun q hq => ?_⟩
        have nd := W.2.1
        rw [p, List.nodup_cons] at nd
        have qr : q ≠ ro 3 := fun e => nd.1 (ls_me e.symm hq)
        have b := B q (by rw [p]; exact List.mem_cons_of_mem _ hq)
        have b2 := b.2.2.2 qr (by rw [← hz']; exact qr)
        exact ⟨by omega, b.1, fun _ => b2⟩
    · have h0 : hs 3 = 0 := Classical.byContradiction (fun h => by have := (gp_hgt W.1).1.mpr h; omega)
      refine K _ _ hs ⟨ot_fr O (fun _ _ => rfl) (fun s hs => ⟨rc_3 (fun s hs => un_n hs) s hs, rfl⟩), fun q hq => ?_, W.2.2.2.2.2, Or.inr ⟨un_s, ?_, fun q hq => ?_⟩⟩ (fun s hs => rfl) (fun s hs => un_n hs)
      · by_cases e : q = ro 3
        · rw [e]; exact un_s
        · rw [un_n e]; exact W.2.2.2.2.1 q hq
      · rw [← hfl, h0]
        exact e1
      · by_cases e : q = ro 3
        · rw [e]; exact un_s
        · rw [un_n e]
          cases hq2 : fr q with
          | false => rfl
          | true =>
            have := W.2.2.2.1 q hq hq2
            rw [h0] at this
            exact absurd (List.mem_singleton.mp this) e
  · refine K fr ro hs (wo_of ⟨O, W, hr, hlen, hfl⟩ (fun q hq => ?_)) (fun _ _ => rfl) (fun _ _ => rfl)
    have b := B q hq
    rw [gp_len] at b ⊢
    by_cases e : q = z
    · rcases hz with h | h
      · rw [e, h] at b ⊢
        exact ⟨by omega, b.1, fun h => absurd rfl h⟩
      · rw [e] at b ⊢
        exact ⟨by omega, b.1, fun _ => h⟩
    · exact ⟨b.2.1 e, b.1, fun h => b.2.2.2 h e⟩
theorem xw_to132 {we : Nat} {mr : Nat → Nat} {ms : Nat → Nat} {mn : Nat → Nat} {mv : Nat → Bool} {ro : Nat → Nat} {sz : Nat → Nat} {nu : Nat → Nat} {wp : Nat → Nat} {wi : Nat → Nat} {post : SX → Prop} {G : Nat → pg_T} {F C : List Nat} {fl0 : List kv_T} {hs : Nat → Nat} {w : Nat} (hw : w ≤ 30)
    (K : ∀ (kc ks : Nat → Nat) (vs : Nat → Int32) (bl : Nat → Nat) (fr' us : Nat → Bool) (ro' wa hs' : Nat → Nat), gs_b kc ks → wo_I G (gp_c kc ks vs bl) fr' ro' mv mr hs' F C fl0 → (∀ s, s ≠ 3 → hs' s = hs s) → (∀ s, s ≠ 3 → ro' s = ro s) → post ((nI we), (eu_N kc), (eu_N ks), vs, (eu_P bl), (eu_B fr'), (eu_B us), (eu_P mr), (eu_N ms), (eu_N mn), (eu_B mv), (eu_P ro'), (eu_N sz), (eu_N nu), (eu_N wp), (eu_N wi), (eu_P wa))) :
    ∀ (l : Nat) (kc ks : Nat → Nat) (vs : Nat → Int32) (bl : Nat → Nat) (fr us : Nat → Bool) (wa : Nat → Nat), l < 8 → gs_b kc ks → rf_I G (gp_c kc ks vs bl) fr ro mv mr hs F C w fl0 wp wi l → wX_takeOut_132 post (l + 1) (nI l) (nI we) (eu_N kc) (eu_N ks) vs (eu_P bl) (eu_B fr) (eu_B us) (eu_P mr) (eu_N ms) (eu_N mn) (eu_B mv) (eu_P ro) (eu_N sz) (eu_N nu) (eu_N wp) (eu_N wi) (eu_P wa) := by
  intro l
  induction l with
  | zero =>
    intro kc ks vs bl fr us wa hl gs R
    obtain ⟨S, B, h0, hp, hl, hf⟩ := R
    rw [wX_takeOut_132]
    refine br_t (by decide +kernel) ?_
    exact xw_to165 gs S B (Or.inl h0) (fun fr' ro' hs' I h1 h2 => K kc ks vs bl fr' us ro' wa hs' gs I h1 h2)
  | succ l ih =>
    intro kc ks vs bl fr us wa hl8 gs R
    obtain ⟨a1, a2, a3, a4, a5, a6, a7, a8⟩ := rf_at R
    have R0 := R
    obtain ⟨S, B, h0, hp, hl, hf⟩ := R
    have k5 := gs.1 (wp (l + 1))
    rw [wX_takeOut_132]
    refine br_f (nI_nle (by omega) (by omega)) ?_
    rw [nI_clamp (by omega), eu_Nr, nI_clamp (by omega), eu_Nr]
    refine ⟨vp_in_nI (by omega) (by omega), vp_in_nI a5 (by omega), br_c (fun h2 => ?_) (fun h2 => ?_)⟩
    · rw [ea_2, nI_leI (by omega) (by omega)] at h2
      exact xw_to165 gs S B (Or.inr h2) (fun fr' ro' hs' I h1 h2 => K kc ks vs bl fr' us ro' wa hs' gs I h1 h2)
    · rw [ea_2, nI_leI (by omega) (by omega)] at h2
      have hs0 := S.2.1.1
      have nd := S.2.1.2.1
      rw [← h0] at hs0 nd
      have hr := tr_ne hs0 nd hl hp (show 0 < l + 1 by omega) (Nat.le_refl _)
      have hin : wp (l + 1) ∈ tr_pg (gp_c kc ks vs bl) (hs 3) (ro 3) := by
        have := (a8 (wi l) a2).2
        rw [a3] at this
        exact this
      have b1 := (B (wp (l + 1)) hin).2.2.1 (by rw [← h0]; exact fun e => hr e.symm)
      rw [gp_len] at b1
      refine xw_refill (by omega) gs R0 hw (by omega) (fun kc' ks' vs' bl' fr' us' wa' gs' R' => ?_)
      dsimp only
      refine nm_r (pk_m1 l) ?_
      exact ih kc' ks' vs' bl' fr' us' wa' (by omega) gs' R'
theorem xw_to27s {kc : Nat → Nat} {ks : Nat → Nat} {vs : Nat → Int32} {bl : Nat → Nat} {fr : Nat → Bool} {us : Nat → Bool} {mr : Nat → Nat} {ms : Nat → Nat} {mn : Nat → Nat} {mv : Nat → Bool} {ro : Nat → Nat} {sz : Nat → Nat} {nu : Nat → Nat} {wp : Nat → Nat} {wi : Nat → Nat} {wa : Nat → Nat} {post : SX → Prop} {key leaf place m : Nat} (hm : m < 8) (hk : key < 100) (gs : gs_b kc ks) : ∀ (d l n : Nat), l + d ≤ m → (∀ j, l ≤ j → j < l + d → wp j < 100 ∧ wi j ≤ kc (wp j) ∧ (wi j < kc (wp j) → ks (5 * wp j + wi j) ≠ key)) →
    wX_takeOut_27 post (nI key) (nI leaf) (nI place) n (nI (l + d)) (nI (m + 1)) (eu_N kc) (eu_N ks) vs (eu_P bl) (eu_B fr) (eu_B us) (eu_P mr) (eu_N ms) (eu_N mn) (eu_B mv) (eu_P ro) (eu_N sz) (eu_N nu) (eu_N wp) (eu_N wi) (eu_P wa) → wX_takeOut_27 post (nI key) (nI leaf) (nI place) (n + d) (nI l) (nI (m + 1)) (eu_N kc) (eu_N ks) vs (eu_P bl) (eu_B fr) (eu_B us) (eu_P mr) (eu_N ms) (eu_N mn) (eu_B mv) (eu_P ro) (eu_N sz) (eu_N nu) (eu_N wp) (eu_N wi) (eu_P wa) := by
  intro d
  induction d with
  | zero => intro l n _ _ h; exact h
  | succ d ih =>
    intro l n hd hsk h
    obtain ⟨s1, s2, s3⟩ := hsk l (by omega) (by omega)
    have k5 := gs.1 (wp l)
    have k100 := gs.2 (5 * wp l + wi l)
    have nxt : wX_takeOut_27 post (nI key) (nI leaf) (nI place) (n + d) (nI (l + 1)) (nI (m + 1)) (eu_N kc) (eu_N ks) vs (eu_P bl) (eu_B fr) (eu_B us) (eu_P mr) (eu_N ms) (eu_N mn) (eu_B mv) (eu_P ro) (eu_N sz) (eu_N nu) (eu_N wp) (eu_N wi) (eu_P wa) := ih (l + 1) n (by omega) (fun j j1 j2 => hsk j (by omega) (by omega)) (by rw [show l + 1 + d = l + (d + 1) by omega]; exact h)
    rw [show n + (d + 1) = (n + d) + 1 by omega, wX_takeOut_27]
    refine br_f (by rw [nI_pred]; exact nI_ge (by omega) (by omega)) ?_
    simp (disch := omega) only [forall_eq, true_and, nI_clamp, eu_Nr, ea_inT, nI_leI, nI_1]
    refine ⟨fun _ => nxt, fun hlt => ?_⟩
    have := s3 (by omega)
    simp (disch := omega) only [forall_eq, true_and, nI_clamp, eu_Nr, ea_inT, ea_5, pk_mul, nI_add, nI_eq]
    exact br_f this nxt
theorem tr_ptx {g : Nat → pg_T} {wp wi : Nat → Nat} {H k m : Nat} {e : kv_T} (hs : tr_sh g H (wp 0)) (hm : m ≤ H) (hp : tr_pt g wp wi m) (hk : (g (wp k)).1[wi k]? = some e) (hr : ∀ j, k < j → j < m → wi j = (g (wp j)).1.length) :
    ∀ d, k + 1 + d ≤ m → ∃ lf R ps, tr_cx g H (wp 0) (H - (k + 1 + d)) (wp (k + 1 + d)) lf (e :: R) ps := by
  intro d
  induction d with
  | zero =>
    intro hd
    obtain ⟨⟨lf, rt, ps, hc, hw⟩, hsl⟩ := tr_ptd hs k (by omega) (fun j hj => hp j (by omega))
    have e1 : H - k = (H - (k + 1)) + 1 := by omega
    rw [e1] at hc hsl
    obtain ⟨hx, _, E1, E2, C1, C2, hg, l1, l2⟩ := tr_shc hsl (hp k (by omega))
    have hc' := tr_cxs hc hsl hg (l1.trans l2.symm)
    have hlen : (g (wp k)).2.length = (g (wp k)).1.length + 1 := (show _ ∧ _ ∧ _ from hsl).2.1
    rw [hg] at hlen hk
    simp only [List.length_append, List.length_cons] at hlen
    cases E2 with
    | nil =>
      rw [List.append_nil] at hk
      have := List.getElem?_eq_none (l := E1) (i := wi k) (by omega)
      rw [this] at hk
      exact (nomatch hk)
    | cons f E2 =>
      have h1 : (E1 ++ f :: E2)[wi k]? = some f := ls_at l1
      have h2 : f = e := Option.some.inj (h1.symm.trans hk)
      subst h2
      cases C2 with
      | nil => simp only [List.length_cons, List.length_nil] at hlen; omega
      | cons c C2 => exact ⟨_, _, _, hc'⟩
  | succ d ih =>
    intro hd
    obtain ⟨lf, R, ps, hc⟩ := ih (by omega)
    have hsl := (tr_ptd hs (k + 1 + d) (by omega) (fun j hj => hp j (by omega))).2
    have e1 : H - (k + 1 + d) = (H - (k + 1 + (d + 1))) + 1 := by omega
    rw [e1] at hc hsl
    obtain ⟨hx, _, E1, E2, C1, C2, hg, l1, l2⟩ := tr_shc hsl (hp (k + 1 + d) (by omega))
    have hc' := tr_cxs hc hsl hg (l1.trans l2.symm)
    have h3 := hr (k + 1 + d) (by omega) (by omega)
    rw [hg, List.length_append] at h3
    have : E2 = [] := List.eq_nil_of_length_eq_zero (by omega)
    subst this
    exact ⟨_, _, _, hc'⟩
end
section
/-! X's walk: takeOut, from a leaf and from above -/
theorem sp_ne {key i : Nat} {ks : Nat → Nat} {vs : Nat → Int32} {a n : Nat} (h : sp_l key (sg_l (fun j => (ks j, vs j)) a n) i) (hi : i < n) : ks (a + i) ≠ key := by
  unfold sp_l at h
  rw [sg_cut (i := i) _ _ (by omega), List.drop_left' (sg_len _ _ _)] at h
  have := h.2 (ks (a + i), vs (a + i)) ((sg_mem _ _).mpr ⟨0, by omega, rfl⟩)
  dsimp only at this
  omega
theorem tr_pti {kc ks : Nat → Nat} {vs : Nat → Int32} {bl : Nat → Nat} {wp wi : Nat → Nat} {H m : Nat} (hs : tr_sh (gp_c kc ks vs bl) H (wp 0)) (hm : m ≤ H) (hp : tr_pt (gp_c kc ks vs bl) wp wi m) : (∀ j, j ≤ m → wp j < 100) ∧ (∀ j, j < m → wi j ≤ kc (wp j)) := by
  refine ⟨fun j hj => tr_100 (tr_ptd hs j (by omega) (fun i hi => hp i (by omega))).2, fun j hj => ?_⟩
  have h1 := (tr_ptd hs j (by omega) (fun i hi => hp i (by omega))).2
  rw [show H - j = (H - (j + 1)) + 1 by omega] at h1
  have := (tr_shc h1 (hp j hj)).2.1
  rw [gp_len] at this
  exact this
/-- a leaf's place is closed, then the pages are refilled -/
theorem xw_toEnd {kc : Nat → Nat} {ks : Nat → Nat} {vs : Nat → Int32} {bl : Nat → Nat} {fr : Nat → Bool} {us : Nat → Bool} {mr : Nat → Nat} {ms : Nat → Nat} {mn : Nat → Nat} {mv : Nat → Bool} {ro : Nat → Nat} {sz : Nat → Nat} {nu : Nat → Nat} {wp : Nat → Nat} {wi : Nat → Nat} {wa : Nat → Nat} {post : SX → Prop} {G : Nat → pg_T} {F C : List Nat} {fl1 : List kv_T} {hs : Nat → Nat} {w m i n key n0 : Nat} (hm : m = hs 3) (hm8 : m < 8) (hw : w ≤ 30) (gs : gs_b kc ks) (hx : wp m < 100) (hn : kc (wp m) = n + 1) (hi : i ≤ n) (hn4 : n ≤ 4)
    (H : ∀ (kc' ks' : Nat → Nat) (vs' : Nat → Int32), gs_b kc' ks' → (bl (6 * wp m) < 100 ∨ gp_c kc' ks' vs' bl (wp m) = (sg_l (fun j => (ks j, vs j)) (5 * wp m) i ++ sg_l (fun j => (ks j, vs j)) (5 * wp m + i + 1) (n - i), [])) → (∀ q, q ≠ wp m → gp_c kc' ks' vs' bl q = gp_c kc ks vs bl q) → rf_I G (gp_c kc' ks' vs' bl) fr ro mv mr hs F C w fl1 wp wi m)
    (K : ∀ (kc ks : Nat → Nat) (vs : Nat → Int32) (bl : Nat → Nat) (fr' us : Nat → Bool) (ro' wa hs' : Nat → Nat), gs_b kc ks → wo_I G (gp_c kc ks vs bl) fr' ro' mv mr hs' F C fl1 → (∀ s, s ≠ 3 → hs' s = hs s) → (∀ s, s ≠ 3 → ro' s = ro s) → post ((nI (m + 1)), (eu_N kc), (eu_N ks), vs, (eu_P bl), (eu_B fr'), (eu_B us), (eu_P mr), (eu_N ms), (eu_N mn), (eu_B mv), (eu_P ro'), (eu_N sz), (eu_N nu), (eu_N wp), (eu_N wi), (eu_P wa))) :
    wX_takeOut_27 post (nI key) (nI (wp m)) (nI i) (n0 + 1) (nI m) (nI (m + 1)) (eu_N kc) (eu_N ks) vs (eu_P bl) (eu_B fr) (eu_B us) (eu_P mr) (eu_N ms) (eu_N mn) (eu_B mv) (eu_P ro) (eu_N sz) (eu_N nu) (eu_N wp) (eu_N wi) (eu_P wa) := by
  rw [wX_takeOut_27]
  refine br_t (by rw [nI_pred]; exact nI_le (by omega) (by omega)) ?_
  refine xw_closePlace hx hn hn4 hi gs.2 (fun ks1 vs1 hk1 k1 k2 => ?_)
  dsimp only
  refine nm_r (nI_pred m) ⟨m + 1, ?_⟩
  have gs1 : gs_b (un_f kc (wp m) n) ks1 := by
    refine ⟨fun p => ?_, hk1⟩
    by_cases e : p = wp m
    · rw [e, un_s]; omega
    · rw [un_n e]; exact gs.1 p
  refine xw_to132 hw K m _ ks1 vs1 bl fr us wa hm8 gs1 (H _ _ _ gs1 ?_ (fun q hq => ?_))
  · by_cases hb : bl (6 * wp m) < 100
    · exact Or.inl hb
    · refine Or.inr (Prod.ext ?_ (gp_3 (by omega)))
      rw [gp_1, un_s, sg_cut (i := i) _ _ hi]
      refine congr (congrArg _ ?_) ?_
      · exact sg_kv (fun t ht => k2 _ (by omega))
      · refine sg_kv (fun t ht => ?_)
        have := k1 (i + t) (by omega) (by omega)
        rw [show 5 * wp m + i + t = 5 * wp m + (i + t) by omega, show 5 * wp m + i + 1 + t = 5 * wp m + (i + t) + 1 by omega]
        exact this
  · have h5 := gs.1 q
    exact gp_eq (un_n hq) (fun t ht => k2 _ (by omega)) (fun t ht => rfl)
theorem bd_01 {g g2 : Nat → pg_T} {H r x : Nat} (B : bd_0 g H r) (p : ∀ q, q ∈ tr_pg g2 H r → q ∈ tr_pg g H r) (e : ∀ q, q ∈ tr_pg g H r → q ≠ x → (g2 q).1.length = (g q).1.length) (ex : (g2 x).1.length + 1 = (g x).1.length) : bd_1 g2 H r x := by
  intro q hq
  have b := B q (p q hq)
  by_cases ez : q = x
  · subst ez
    exact ⟨by omega, fun h => absurd rfl h, fun h => by have := b.2.2 h; omega, fun _ h => absurd rfl h⟩
  · rw [e q (p q hq) ez]
    exact ⟨b.2.1, fun _ => b.1, fun _ => b.1, fun h _ => b.2.2 h⟩
theorem xw_takeOutA {kc : Nat → Nat} {ks : Nat → Nat} {vs : Nat → Int32} {bl : Nat → Nat} {fr : Nat → Bool} {us : Nat → Bool} {mr : Nat → Nat} {ms : Nat → Nat} {mn : Nat → Nat} {mv : Nat → Bool} {ro : Nat → Nat} {sz : Nat → Nat} {nu : Nat → Nat} {wp : Nat → Nat} {wi : Nat → Nat} {wa : Nat → Nat} {post : SX → Prop} {G : Nat → pg_T} {F C : List Nat} {fl0 : List kv_T} {hs : Nat → Nat} {w m key : Nat} {v : Int32} (hm : m = hs 3) (hm8 : m < 8) (hw : w ≤ 30) (hk : key < 100) (gs : gs_b kc ks) (S : op_S G (gp_c kc ks vs bl) fr ro mv mr hs F C w fl0) (B : bd_0 (gp_c kc ks vs bl) (hs 3) (ro 3))
    (h0 : wp 0 = ro 3) (hp : tr_pt (gp_c kc ks vs bl) wp wi m) (hf : ∀ j, j ≤ m → fr (wp j) = true) (hsp : ∀ j, j < m → sp_l key (gp_c kc ks vs bl (wp j)).1 (wi j)) (hi : wi m < kc (wp m)) (hkv : ks (5 * wp m + wi m) = key ∧ vs (5 * wp m + wi m) = v)
    (K : ∀ (A B : List kv_T), fl0 = A ++ (key, v) :: B → ∀ (kc ks : Nat → Nat) (vs : Nat → Int32) (bl : Nat → Nat) (fr' us : Nat → Bool) (ro' wa hs' : Nat → Nat), gs_b kc ks → wo_I G (gp_c kc ks vs bl) fr' ro' mv mr hs' F C (A ++ B) → (∀ s, s ≠ 3 → hs' s = hs s) → (∀ s, s ≠ 3 → ro' s = ro s) → post ((nI (m + 1)), (eu_N kc), (eu_N ks), vs, (eu_P bl), (eu_B fr'), (eu_B us), (eu_P mr), (eu_N ms), (eu_N mn), (eu_B mv), (eu_P ro'), (eu_N sz), (eu_N nu), (eu_N wp), (eu_N wi), (eu_P wa))) :
    wpX_takeOut post ((nI (m + 1)), (eu_N kc), (eu_N ks), vs, (eu_P bl), (eu_B fr), (eu_B us), (eu_P mr), (eu_N ms), (eu_N mn), (eu_B mv), (eu_P ro), (eu_N sz), (eu_N nu), (eu_N wp), (eu_N wi), (eu_P wa)) (nI key) := by
  have hsh := S.2.1.1
  have hfl := S.2.2.2.2
  rw [← h0] at hsh hfl
  obtain ⟨hw100, hwi⟩ := tr_pti hsh (by omega) hp
  obtain ⟨⟨lf, rt, ps, hc, _⟩, hsx⟩ := tr_ptd hsh m (by omega) hp
  rw [show hs 3 - m = 0 by omega] at hc hsx
  obtain ⟨hx, hb⟩ := gp_leaf hsx
  have k5 := gs.1 (wp m)
  obtain ⟨n, hn⟩ : ∃ n, kc (wp m) = n + 1 := ⟨kc (wp m) - 1, by omega⟩
  have f0 : fl0 = (lf ++ sg_l (fun j => (ks j, vs j)) (5 * wp m) (wi m)) ++ (key, v) :: (sg_l (fun j => (ks j, vs j)) (5 * wp m + wi m + 1) (n - wi m) ++ rt) := by
    rw [← hfl, (hc _ (fun _ _ => rfl)).1]
    show lf ++ (sg_l (fun j => (ks j, vs j)) (5 * wp m) (kc (wp m)) ++ rt) = _
    rw [sg_mid _ _ hi, hkv.1, hkv.2, hn, show n + 1 - wi m - 1 = n - wi m by omega]
    simp only [List.append_assoc, List.cons_append]
  unfold wpX_takeOut
  simp (disch := omega) only [forall_eq, true_and, ea_1, pk_sub, Nat.add_sub_cancel, nI_clamp, eu_Nr, ea_inT]
  refine ⟨0 + 1 + m, ?_⟩
  rw [ea_0]
  refine xw_to27s hm8 hk gs m 0 (0 + 1) (by omega) (fun j _ hj => ⟨hw100 j (by omega), hwi j (by omega), fun hlt => sp_ne (hsp j (by omega)) hlt⟩) ?_
  rw [Nat.zero_add m]
  refine xw_toEnd hm hm8 hw gs hx hn (by omega) (by omega) (fun kc' ks' vs' gs' gx gq => ?_) (K _ _ f0)
  have gx' : gp_c kc' ks' vs' bl (wp m) = (sg_l (fun j => (ks j, vs j)) (5 * wp m) (wi m) ++ sg_l (fun j => (ks j, vs j)) (5 * wp m + wi m + 1) (n - wi m), []) := by
    rcases gx with h | h
    · omega
    · exact h
  subst hm
  rw [h0] at hc
  obtain ⟨S2, p3, P2⟩ := lf_S S h0 hp hc hx (hf _ (Nat.le_refl _)) gx' gq
  refine ⟨?_, bd_01 B (fun q hq => p3.mem_iff.mp hq) (fun q _ hq => by rw [gq q hq]) (by rw [gx', gp_len, hn, List.length_append, sg_len, sg_len]; omega), h0, P2, Nat.le_refl _, hf⟩
  have e : lf ++ ((sg_l (fun j => (ks j, vs j)) (5 * wp (hs 3)) (wi (hs 3)) ++ sg_l (fun j => (ks j, vs j)) (5 * wp (hs 3) + wi (hs 3) + 1) (n - wi (hs 3))) ++ rt) = (lf ++ sg_l (fun j => (ks j, vs j)) (5 * wp (hs 3)) (wi (hs 3))) ++ (sg_l (fun j => (ks j, vs j)) (5 * wp (hs 3) + wi (hs 3) + 1) (n - wi (hs 3)) ++ rt) := by
    simp only [List.append_assoc]
  rw [← e]
  exact S2
theorem xw_takeOutB {kc : Nat → Nat} {ks : Nat → Nat} {vs : Nat → Int32} {bl : Nat → Nat} {fr : Nat → Bool} {us : Nat → Bool} {mr : Nat → Nat} {ms : Nat → Nat} {mn : Nat → Nat} {mv : Nat → Bool} {ro : Nat → Nat} {sz : Nat → Nat} {nu : Nat → Nat} {wp : Nat → Nat} {wi : Nat → Nat} {wa : Nat → Nat} {post : SX → Prop} {G : Nat → pg_T} {F C : List Nat} {fl0 : List kv_T} {hs : Nat → Nat} {w m k key : Nat} {v : Int32} (hm : m = hs 3) (hm8 : m < 8) (hw : w ≤ 30) (hk : key < 100) (hkm : k < m) (gs : gs_b kc ks) (S : op_S G (gp_c kc ks vs bl) fr ro mv mr hs F C w fl0) (so : so_l fl0) (B : bd_0 (gp_c kc ks vs bl) (hs 3) (ro 3))
    (h0 : wp 0 = ro 3) (hp : tr_pt (gp_c kc ks vs bl) wp wi m) (hf : ∀ j, j ≤ m → fr (wp j) = true) (hsp : ∀ j, j < k → sp_l key (gp_c kc ks vs bl (wp j)).1 (wi j)) (hi : wi k < kc (wp k)) (hkv : ks (5 * wp k + wi k) = key ∧ vs (5 * wp k + wi k) = v)
    (hr : ∀ j, k < j → j < m → wi j = kc (wp j)) (hlast : wi m + 1 = kc (wp m))
    (K : ∀ (A B : List kv_T), fl0 = A ++ (key, v) :: B → ∀ (kc ks : Nat → Nat) (vs : Nat → Int32) (bl : Nat → Nat) (fr' us : Nat → Bool) (ro' wa hs' : Nat → Nat), gs_b kc ks → wo_I G (gp_c kc ks vs bl) fr' ro' mv mr hs' F C (A ++ B) → (∀ s, s ≠ 3 → hs' s = hs s) → (∀ s, s ≠ 3 → ro' s = ro s) → post ((nI (m + 1)), (eu_N kc), (eu_N ks), vs, (eu_P bl), (eu_B fr'), (eu_B us), (eu_P mr), (eu_N ms), (eu_N mn), (eu_B mv), (eu_P ro'), (eu_N sz), (eu_N nu), (eu_N wp), (eu_N wi), (eu_P wa))) :
    wpX_takeOut post ((nI (m + 1)), (eu_N kc), (eu_N ks), vs, (eu_P bl), (eu_B fr), (eu_B us), (eu_P mr), (eu_N ms), (eu_N mn), (eu_B mv), (eu_P ro), (eu_N sz), (eu_N nu), (eu_N wp), (eu_N wi), (eu_P wa)) (nI key) := by
  have hsh := S.2.1.1
  have hfl := S.2.2.2.2
  have nd := S.2.1.2.1
  rw [← h0] at hsh hfl nd
  obtain ⟨hw100, hwi⟩ := tr_pti hsh (by omega) hp
  have hsx := (tr_ptd hsh m (by omega) hp).2
  rw [show hs 3 - m = 0 by omega] at hsx
  obtain ⟨hx, hb⟩ := gp_leaf hsx
  have k5 := gs.1 (wp m)
  have k5' := gs.1 (wp k)
  have kl := gs.2 (5 * wp m + wi m)
  have hka := hw100 k (by omega)
  have hne : ∀ j, k < j → j ≤ m → wp k ≠ wp j := fun j j1 j2 => tr_ne hsh nd (by omega) hp j1 j2
  have hkx := hne m hkm (Nat.le_refl _)
  obtain ⟨lf, R, ps, hc⟩ := tr_ptx hsh (show m ≤ hs 3 by omega) hp (e := (key, v)) (by rw [gp_at hi, hkv.1, hkv.2]) (fun j j1 j2 => by rw [gp_len]; exact hr j j1 j2) (m - (k + 1)) (by omega)
  rw [show k + 1 + (m - (k + 1)) = m by omega, show hs 3 - m = 0 by omega] at hc
  have esx : (gp_c kc ks vs bl (wp m)).1 = sg_l (fun j => (ks j, vs j)) (5 * wp m) (wi m) ++ [(ks (5 * wp m + wi m), vs (5 * wp m + wi m))] := by
    rw [gp_1, ← hlast, sg_app]
    rfl
  have f0 : fl0 = (lf ++ (sg_l (fun j => (ks j, vs j)) (5 * wp m) (wi m) ++ [(ks (5 * wp m + wi m), vs (5 * wp m + wi m))])) ++ (key, v) :: R := by
    rw [← hfl, (hc _ (fun _ _ => rfl)).1]
    show lf ++ ((gp_c kc ks vs bl (wp m)).1 ++ (key, v) :: R) = _
    rw [esx]
    simp only [List.append_assoc, List.cons_append]
  unfold wpX_takeOut
  simp (disch := omega) only [forall_eq, true_and, ea_1, pk_sub, Nat.add_sub_cancel, nI_clamp, eu_Nr, ea_inT]
  refine ⟨(0 + 1 + (m - (k + 1))) + 1 + k, ?_⟩
  rw [ea_0]
  refine xw_to27s hm8 hk gs k 0 _ (by omega) (fun j _ hj => ⟨hw100 j (by omega), hwi j (by omega), fun hlt => sp_ne (hsp j (by omega)) hlt⟩) ?_
  rw [Nat.zero_add k, wX_takeOut_27]
  refine br_f (by rw [nI_pred]; exact nI_ge (by omega) (by omega)) ?_
  simp (disch := omega) only [forall_eq, true_and, nI_clamp, eu_Nr, ea_inT, nI_leI, nI_1]
  refine br_f (by omega) ?_
  simp (disch := omega) only [forall_eq, true_and, nI_clamp, eu_Nr, ea_inT, ea_5, pk_mul, nI_add, nI_eq]
  refine br_t hkv.1 ?_
  refine xw_putAt hka (by omega) (by omega) ?_
  dsimp only
  have gs1 : gs_b kc (un_f ks (5 * wp k + wi k) (ks (5 * wp m + wi m))) := by
    refine ⟨gs.1, fun j => ?_⟩
    by_cases e : j = 5 * wp k + wi k
    · rw [e, un_s]; exact kl
    · rw [un_n e]; exact gs.2 j
  refine xw_to27s hm8 hk gs1 (m - (k + 1)) (k + 1) (0 + 1) (by omega) (fun j j1 j2 => ⟨hw100 j (by omega), hwi j (by omega), fun hlt => absurd (hr j (by omega) (by omega)) (by omega)⟩) ?_
  rw [show k + 1 + (m - (k + 1)) = m by omega]
  refine xw_toEnd (n := wi m) hm hm8 hw gs1 hx hlast.symm (Nat.le_refl _) (by omega) (fun kc' ks' vs' gs' gx gq => ?_) (K (lf ++ (sg_l (fun j => (ks j, vs j)) (5 * wp m) (wi m) ++ [(ks (5 * wp m + wi m), vs (5 * wp m + wi m))])) R f0)
  -- the contents
  have gx' : gp_c kc' ks' vs' bl (wp m) = (sg_l (fun j => (ks j, vs j)) (5 * wp m) (wi m), []) := by
    rcases gx with h | h
    · omega
    · rw [h, Nat.sub_self]
      refine Prod.ext ?_ rfl
      show _ ++ [] = _
      rw [List.append_nil]
      exact sg_kv (fun t ht => ⟨un_n (by omega), pk_un (by omega)⟩)
  have ga : gp_c kc' ks' vs' bl (wp k) = (sg_l (fun j => (ks j, vs j)) (5 * wp k) (wi k) ++ (ks (5 * wp m + wi m), vs (5 * wp m + wi m)) :: sg_l (fun j => (ks j, vs j)) (5 * wp k + wi k + 1) (kc (wp k) - wi k - 1), (gp_c kc ks vs bl (wp k)).2) := by
    rw [gq (wp k) hkx]
    refine Prod.ext ?_ rfl
    rw [gp_1, sg_mid _ _ hi]
    refine congr (congrArg _ ?_) (congr (congrArg _ ?_) ?_)
    · exact sg_kv (fun t ht => ⟨un_n (by omega), pk_un (by omega)⟩)
    · rw [un_s, pk_us]
    · exact sg_kv (fun t ht => ⟨un_n (by omega), pk_un (by omega)⟩)
  have ga0 : gp_c kc ks vs bl (wp k) = (sg_l (fun j => (ks j, vs j)) (5 * wp k) (wi k) ++ (key, v) :: sg_l (fun j => (ks j, vs j)) (5 * wp k + wi k + 1) (kc (wp k) - wi k - 1), (gp_c kc ks vs bl (wp k)).2) := by
    refine Prod.ext ?_ rfl
    rw [gp_1, sg_mid _ _ hi, hkv.1, hkv.2]
  have gq' : ∀ q, q ≠ wp m → q ≠ wp k → gp_c kc' ks' vs' bl q = gp_c kc ks vs bl q := by
    intro q q1 q2
    have h5 := gs.1 q
    rw [gq q q1]
    exact gp_eq rfl (fun t ht => ⟨un_n (by omega), pk_un (by omega)⟩) (fun t ht => rfl)
  -- first the leaf, then the entry
  subst hm
  rw [h0] at hc
  obtain ⟨S2, p3, P2⟩ := lf_S (g2 := fun q => if q = wp (hs 3) then (sg_l (fun j => (ks j, vs j)) (5 * wp (hs 3)) (wi (hs 3)), []) else gp_c kc ks vs bl q) S h0 hp hc hx (hf _ (Nat.le_refl _)) (if_pos rfl) (fun q hq => if_neg hq)
  rw [← List.append_assoc] at S2
  have so2 : so_l ((lf ++ sg_l (fun j => (ks j, vs j)) (5 * wp (hs 3)) (wi (hs 3))) ++ (key, v) :: R) := by
    refine so_sub ?_ so
    rw [f0, List.append_assoc, List.append_assoc]
    refine List.Sublist.append_left (List.Sublist.append ?_ (List.Sublist.refl _)) _
    exact List.sublist_append_left ..
  obtain ⟨S3, p4, P3⟩ := en_S (g2 := gp_c kc' ks' vs' bl) (e' := (ks (5 * wp (hs 3) + wi (hs 3)), vs (5 * wp (hs 3) + wi (hs 3)))) S2 so2 h0 (by omega) (by omega) P2 (hf k (by omega)) ((if_neg hkx).trans ga0) ga (fun q hq => by
    by_cases e : q = wp (hs 3)
    · rw [e, gx']; exact (if_pos rfl).symm
    · rw [gq' q e hq]; exact (if_neg e).symm)
  refine ⟨?_, bd_01 B (fun q hq => p3.mem_iff.mp (by rw [← p4]; exact hq)) (fun q _ hq => ?_) (by rw [gx', gp_len, sg_len, ← hlast]), h0, P3, Nat.le_refl _, hf⟩
  · have e : lf ++ (sg_l (fun j => (ks j, vs j)) (5 * wp (hs 3)) (wi (hs 3)) ++ [(ks (5 * wp (hs 3) + wi (hs 3)), vs (5 * wp (hs 3) + wi (hs 3)))]) ++ R = (lf ++ sg_l (fun j => (ks j, vs j)) (5 * wp (hs 3)) (wi (hs 3))) ++ (ks (5 * wp (hs 3) + wi (hs 3)), vs (5 * wp (hs 3) + wi (hs 3))) :: R := by
      simp only [List.append_assoc, List.cons_append, List.nil_append]
    rw [e]
    exact S3
  · by_cases e : q = wp k
    · rw [e, ga, ga0]
      simp only [List.length_append, List.length_cons]
    · rw [gq' q hq e]
end
section
/-! the reference's walks -/
theorem yw_copy2 {nb : Nat} {opd : Nat → Bool} {sn : Nat → Nat} {post : SY → Prop} {s t : Nat} (hs : s < 5) (ht : t < 5) (hst : s ≠ t) : ∀ (d i : Nat) (th : Nat → Bool) (yv : Nat → Int32), i + d = 100 →
    (∀ (th' : Nat → Bool) (yv' : Nat → Int32), (∀ k, i ≤ k → k < 100 → th' (t * 100 + k) = th (s * 100 + k) ∧ yv' (t * 100 + k) = yv (s * 100 + k)) → (∀ j, (j < t * 100 + i ∨ t * 100 + 100 ≤ j) → th' j = th j ∧ yv' j = yv j) → post ((nI nb), (eu_B th'), yv', (eu_B opd), (eu_N sn))) →
    wY_copy_2 post (nI s) (nI t) (nI nb) (d + 1) (nI i) (eu_B th) yv (eu_B opd) (eu_N sn) := by
  intro d
  induction d with
  | zero =>
    intro i th yv hi K
    rw [wY_copy_2]
    refine br_t (by rw [ea_100]; exact nI_le (by omega) (by omega)) (K th yv (fun k h1 h2 => absurd h1 (by omega)) (fun _ _ => ⟨rfl, rfl⟩))
  | succ d ih =>
    intro i th yv hi K
    rw [wY_copy_2]
    refine br_f (by rw [ea_100]; exact nI_ge (by omega) (by omega)) ?_
    simp (disch := omega) only [forall_eq, true_implies, false_implies, not_true_eq_false, not_false_eq_true, and_true, true_and, ea_0, ea_1, ea_2, ea_3, ea_4, ea_5, ea_6, ea_24, ea_99, ea_100, ea_300, ea_n1, ea_n2, pk_mul, nI_add, pk_sub, ea_m1, nI_clamp, eu_Nr, eu_Br, eu_Pr, eu_pn, eu_nb, eu_i8, eu_pb, eu_pi, eu_vb0, eu_vb1, eu_vbb, eu_Nu, eu_Pu, eu_Pun, eu_Bu, eu_Bu0, eu_Bu1, ea_inT, nI_leI, Nat.zero_le, nI_ltI, nI_eq, eu_pl, eu_pg, eu_p2, eu_b0]
    refine ih (i + 1) _ _ (by omega) (fun th' yv' b1 b2 => K th' yv' (fun k h1 h2 => ?_) (fun j hj => ⟨(b2 j (by omega)).1.trans (un_n (by omega)), (b2 j (by omega)).2.trans (pk_un (by omega))⟩))
    by_cases e : k = i
    · subst e
      exact ⟨(b2 _ (by omega)).1.trans un_s, (b2 _ (by omega)).2.trans pk_us⟩
    · exact ⟨(b1 k (by omega) h2).1.trans (un_n (by omega)), (b1 k (by omega) h2).2.trans (pk_un (by omega))⟩
theorem yw_copy {nb : Nat} {th : Nat → Bool} {yv : Nat → Int32} {opd : Nat → Bool} {sn : Nat → Nat} {post : SY → Prop} {s t : Nat} (hs : s < 5) (ht : t < 5) (hst : s ≠ t)
    (K : ∀ (th' : Nat → Bool) (yv' : Nat → Int32), (∀ k, k < 100 → th' (t * 100 + k) = th (s * 100 + k) ∧ yv' (t * 100 + k) = yv (s * 100 + k)) → (∀ j, (j < t * 100 ∨ t * 100 + 100 ≤ j) → th' j = th j ∧ yv' j = yv j) → post ((nI nb), (eu_B th'), yv', (eu_B opd), (eu_N sn))) : wpY_copy post ((nI nb), (eu_B th), yv, (eu_B opd), (eu_N sn)) (nI s) (nI t) := by
  unfold wpY_copy
  dsimp only
  refine ⟨101, ?_⟩
  rw [ea_0]
  exact yw_copy2 hs ht hst 100 0 th yv (by omega) (fun th' yv' h1 h2 => K th' yv' (fun k hk => h1 k (by omega) hk) (fun j hj => h2 j (by omega)))
def cn_f (f : Nat → Bool) : Nat → Nat → Nat
  | _, 0 => 0
  | a, n + 1 => cond (f a) 1 0 + cn_f f (a + 1) n
theorem yw_size14 {nb : Nat} {th : Nat → Bool} {yv : Nat → Int32} {opd : Nat → Bool} {sn : Nat → Nat} {post : Int32 → Prop} {s : Nat} (hs : s < 5) : ∀ (d i c : Nat), i + d = 100 → post (nI (c + cn_f th (s * 100 + i) d)) → wY_size_14 post (nI s) (nI nb) (eu_B th) yv (eu_B opd) (eu_N sn) (d + 1) (nI c) (nI i) := by
  intro d
  induction d with
  | zero =>
    intro i c hi h
    rw [wY_size_14]
    exact br_t (by rw [ea_100]; exact nI_le (by omega) (by omega)) h
  | succ d ih =>
    intro i c hi h
    rw [wY_size_14]
    refine br_f (by rw [ea_100]; exact nI_ge (by omega) (by omega)) ?_
    simp (disch := omega) only [forall_eq, true_implies, false_implies, not_true_eq_false, not_false_eq_true, and_true, true_and, ea_0, ea_1, ea_2, ea_3, ea_4, ea_5, ea_6, ea_24, ea_99, ea_100, ea_300, ea_n1, ea_n2, pk_mul, nI_add, pk_sub, ea_m1, nI_clamp, eu_Nr, eu_Br, eu_Pr, eu_pn, eu_nb, eu_i8, eu_pb, eu_pi, eu_vb0, eu_vb1, eu_vbb, eu_Nu, eu_Pu, eu_Pun, eu_Bu, eu_Bu0, eu_Bu1, ea_inT, nI_leI, Nat.zero_le, nI_ltI, nI_eq, eu_pl, eu_pg, eu_p2, eu_b0]
    refine ⟨fun hf => ih (i + 1) c (by omega) ?_, fun hf => ih (i + 1) (c + 1) (by omega) ?_⟩
    · have h' : post (nI (c + (cond (th (s * 100 + i)) 1 0 + cn_f th (s * 100 + i + 1) d))) := h
      rw [hf, cond_false, Nat.zero_add] at h'
      exact h'
    · have h' : post (nI (c + (cond (th (s * 100 + i)) 1 0 + cn_f th (s * 100 + i + 1) d))) := h
      rw [show th (s * 100 + i) = true by cases hh : th (s * 100 + i); exact absurd hh hf; rfl, cond_true, ← Nat.add_assoc] at h'
      exact h'
theorem yw_next12 {nb : Nat} {th : Nat → Bool} {yv : Nat → Int32} {opd : Nat → Bool} {sn : Nat → Nat} {post : Int32 → Prop} {s : Nat} {key : Int32} (hs : s < 5) (K0 : (∀ j : Nat, j < 100 → ¬ (key.toInt < (j : Int) ∧ th (s * 100 + j) = true)) → post (-3))
    (K1 : ∀ k : Nat, k < 100 → key.toInt < (k : Int) → th (s * 100 + k) = true → (∀ j : Nat, j < k → ¬ (key.toInt < (j : Int) ∧ th (s * 100 + j) = true)) → post (nI k)) :
    ∀ (d i : Nat), i + d = 100 → (∀ j : Nat, j < i → ¬ (key.toInt < (j : Int) ∧ th (s * 100 + j) = true)) → wY_next_12 post (nI s) key (nI nb) (eu_B th) yv (eu_B opd) (eu_N sn) (d + 1) (nI i) := by
  intro d
  induction d with
  | zero =>
    intro i hi h
    rw [wY_next_12]
    exact br_t (by rw [ea_100]; exact nI_le (by omega) (by omega)) (K0 (fun j hj => h j (by omega)))
  | succ d ih =>
    intro i hi h
    have nx : ¬ (key.toInt < (i : Int) ∧ th (s * 100 + i) = true) → wY_next_12 post (nI s) key (nI nb) (eu_B th) yv (eu_B opd) (eu_N sn) (d + 1) (nI (i + 1)) := fun hn => ih (i + 1) (by omega) (fun j hj => by
      by_cases e : j = i
      · rw [e]; exact hn
      · exact h j (by omega))
    rw [wY_next_12]
    refine br_f (by rw [ea_100]; exact nI_ge (by omega) (by omega)) ?_
    refine br_c (fun hle => ?_) (fun hle => ?_)
    · rw [Int32.le_iff_toInt_le, nI_toInt (by omega)] at hle
      refine nm_r (nI_1 i) (nx (fun z => ?_))
      omega
    · rw [Int32.le_iff_toInt_le, nI_toInt (by omega)] at hle
      simp (disch := omega) only [forall_eq, true_implies, false_implies, not_true_eq_false, not_false_eq_true, and_true, true_and, ea_0, ea_1, ea_2, ea_3, ea_4, ea_5, ea_6, ea_24, ea_99, ea_100, ea_300, ea_n1, ea_n2, pk_mul, nI_add, pk_sub, ea_m1, nI_clamp, eu_Nr, eu_Br, eu_Pr, eu_pn, eu_nb, eu_i8, eu_pb, eu_pi, eu_vb0, eu_vb1, eu_vbb, eu_Nu, eu_Pu, eu_Pun, eu_Bu, eu_Bu0, eu_Bu1, ea_inT, nI_leI, Nat.zero_le, nI_ltI, nI_eq, eu_pl, eu_pg, eu_p2, eu_b0]
      refine ⟨fun hf => nx (fun z => ?_), fun hf => K1 i (by omega) (by omega) ?_ h⟩
      · rw [hf] at z; exact (nomatch z.2)
      · cases hh : th (s * 100 + i)
        · exact absurd hh hf
        · rfl
/-- one of the reference's copies against a list -/
def mp_ok (th : Nat → Bool) (yv : Nat → Int32) (s : Nat) (l : List kv_T) : Prop := ∀ k, k < 100 → (th (s * 100 + k) = true ↔ ∃ v, (k, v) ∈ l) ∧ ∀ v, (k, v) ∈ l → yv (s * 100 + k) = v
theorem cn_fil (f : Nat → Bool) : ∀ n a, cn_f f a n = ((sg_l (fun j => j) a n).filter f).length := by
  intro n
  induction n with
  | zero => intro a; rfl
  | succ n ih =>
    intro a
    show cond (f a) 1 0 + cn_f f (a + 1) n = ((a :: sg_l (fun j => j) (a + 1) n).filter f).length
    rw [ih, List.filter_cons]
    cases f a
    · show 0 + _ = _
      rw [Nat.zero_add]
      rfl
    · show 1 + _ = (a :: _).length
      rw [List.length_cons]
      omega
theorem sg_nd : ∀ n a, (sg_l (fun j => j) a n).Nodup := by
  intro n
  induction n with
  | zero => intro a; exact List.nodup_nil
  | succ n ih =>
    intro a
    show (a :: sg_l (fun j => j) (a + 1) n).Nodup
    rw [List.nodup_cons]
    refine ⟨fun h => ?_, ih (a + 1)⟩
    obtain ⟨i, _, e⟩ := (sg_mem _ _).mp h
    omega
theorem cn_len {th : Nat → Bool} {yv : Nat → Int32} {s : Nat} {l : List kv_T} (M : mp_ok th yv s l) (so : so_l l) (h100 : ∀ e, e ∈ l → e.1 < 100) : cn_f th (s * 100) 100 = l.length := by
  rw [cn_fil, ← List.length_map (as := l) (fun e => s * 100 + e.1)]
  refine List.Perm.length_eq ?_
  have n1 : ((sg_l (fun j => j) (s * 100) 100).filter th).Nodup := List.Nodup.sublist List.filter_sublist (sg_nd _ _)
  have n2 : (l.map (fun e => s * 100 + e.1)).Nodup := by
    rw [List.nodup_iff_pairwise_ne, List.pairwise_map]
    refine List.Pairwise.imp ?_ so
    intro a b h
    omega
  rw [List.perm_ext_iff_of_nodup n1 n2]
  intro a
  rw [List.mem_filter, sg_mem, List.mem_map]
  constructor
  · rintro ⟨⟨i, hi, e⟩, ht⟩
    rw [e] at ht
    obtain ⟨v, hv⟩ := (M i hi).1.mp ht
    exact ⟨(i, v), hv, e.symm⟩
  · rintro ⟨e, he, ea⟩
    have h1 := h100 e he
    refine ⟨⟨e.1, h1, ea.symm⟩, ?_⟩
    rw [← ea]
    exact (M e.1 h1).1.mpr ⟨e.2, he⟩
theorem mp_ins {th : Nat → Bool} {yv : Nat → Int32} {key : Nat} {v : Int32} {A B : List kv_T} (M : mp_ok th yv 3 (A ++ B)) (hk : key < 100) (hA : ∀ e, e ∈ A → e.1 < key) (hB : ∀ e, e ∈ B → key < e.1) : mp_ok (un_f th (300 + key) true) (upd yv (300 + key) v) 3 (A ++ (key, v) :: B) := by
  intro k hk'
  by_cases e : k = key
  · subst e
    rw [show 3 * 100 + k = 300 + k by omega, un_s, pk_us]
    refine ⟨⟨fun _ => ⟨v, List.mem_append_right _ (List.mem_cons_self ..)⟩, fun _ => rfl⟩, fun w hw => ?_⟩
    rcases List.mem_append.mp hw with h | h
    · have := hA _ h; dsimp only at this; omega
    · rcases List.mem_cons.mp h with h | h
      · exact ((Prod.mk.inj h).2).symm
      · have := hB _ h; dsimp only at this; omega
  · rw [un_n (by omega), pk_un (by omega)]
    have hm : ∀ w, (k, w) ∈ A ++ (key, v) :: B ↔ (k, w) ∈ A ++ B := by
      intro w
      rw [List.mem_append, List.mem_cons, List.mem_append]
      constructor
      · rintro (h | h | h)
        · exact Or.inl h
        · exact absurd (Prod.mk.inj h).1 e
        · exact Or.inr h
      · rintro (h | h)
        · exact Or.inl h
        · exact Or.inr (Or.inr h)
    have := M k hk'
    refine ⟨this.1.trans ⟨fun ⟨w, h⟩ => ⟨w, (hm w).mpr h⟩, fun ⟨w, h⟩ => ⟨w, (hm w).mp h⟩⟩, fun w hw => this.2 w ((hm w).mp hw)⟩
theorem mp_set {th : Nat → Bool} {yv : Nat → Int32} {key : Nat} {v v0 : Int32} {A B : List kv_T} (M : mp_ok th yv 3 (A ++ (key, v0) :: B)) (hk : key < 100) (so : so_l (A ++ (key, v0) :: B)) : mp_ok (un_f th (300 + key) true) (upd yv (300 + key) v) 3 (A ++ (key, v) :: B) := by
  rw [so_app, so_cons] at so
  have hA : ∀ e, e ∈ A → e.1 < key := fun e h => so.2.2 e h (key, v0) (List.mem_cons_self ..)
  have hB : ∀ e, e ∈ B → key < e.1 := so.2.1.1
  have hm : ∀ (v : Int32) (k : Nat), k ≠ key → ∀ w, (k, w) ∈ A ++ (key, v) :: B ↔ (k, w) ∈ A ++ B := by
    intro v k e w
    rw [List.mem_append, List.mem_cons, List.mem_append]
    constructor
    · rintro (h | h | h)
      · exact Or.inl h
      · exact absurd (Prod.mk.inj h).1 e
      · exact Or.inr h
    · rintro (h | h)
      · exact Or.inl h
      · exact Or.inr (Or.inr h)
  intro k hk'
  by_cases e : k = key
  · subst e
    rw [show 3 * 100 + k = 300 + k by omega, un_s, pk_us]
    refine ⟨⟨fun _ => ⟨v, List.mem_append_right _ (List.mem_cons_self ..)⟩, fun _ => rfl⟩, fun w hw => ?_⟩
    rcases List.mem_append.mp hw with h | h
    · have := hA _ h; dsimp only at this; omega
    · rcases List.mem_cons.mp h with h | h
      · exact ((Prod.mk.inj h).2).symm
      · have := hB _ h; dsimp only at this; omega
  · rw [un_n (by omega), pk_un (by omega)]
    have := M k hk'
    refine ⟨this.1.trans ⟨fun ⟨w, h⟩ => ⟨w, (hm v k e w).mpr ((hm v0 k e w).mp h)⟩, fun ⟨w, h⟩ => ⟨w, (hm v0 k e w).mpr ((hm v k e w).mp h)⟩⟩, fun w hw => this.2 w ((hm v0 k e w).mpr ((hm v k e w).mp hw))⟩
theorem mp_del {th : Nat → Bool} {yv : Nat → Int32} {key : Nat} {v0 : Int32} {A B : List kv_T} (M : mp_ok th yv 3 (A ++ (key, v0) :: B)) (hk : key < 100) (so : so_l (A ++ (key, v0) :: B)) : mp_ok (un_f th (300 + key) false) yv 3 (A ++ B) := by
  rw [so_app, so_cons] at so
  have hA : ∀ e, e ∈ A → e.1 < key := fun e h => so.2.2 e h (key, v0) (List.mem_cons_self ..)
  have hB : ∀ e, e ∈ B → key < e.1 := so.2.1.1
  intro k hk'
  by_cases e : k = key
  · subst e
    rw [show 3 * 100 + k = 300 + k by omega, un_s]
    have no : ∀ w, (k, w) ∉ A ++ B := by
      intro w hw
      rcases List.mem_append.mp hw with h | h
      · have := hA _ h; dsimp only at this; omega
      · have := hB _ h; dsimp only at this; omega
    exact ⟨⟨fun h => (nomatch h), fun ⟨w, h⟩ => absurd h (no w)⟩, fun w h => absurd h (no w)⟩
  · rw [un_n (by omega)]
    have hm : ∀ w, (k, w) ∈ A ++ (key, v0) :: B ↔ (k, w) ∈ A ++ B := by
      intro w
      rw [List.mem_append, List.mem_cons, List.mem_append]
      constructor
      · rintro (h | h | h)
        · exact Or.inl h
        · exact absurd (Prod.mk.inj h).1 e
        · exact Or.inr h
      · rintro (h | h)
        · exact Or.inl h
        · exact Or.inr (Or.inr h)
    have := M k hk'
    exact ⟨this.1.trans ⟨fun ⟨w, h⟩ => ⟨w, (hm w).mp h⟩, fun ⟨w, h⟩ => ⟨w, (hm w).mpr h⟩⟩, fun w hw => this.2 w ((hm w).mpr hw)⟩
/-- another copy isn't touched -/
theorem mp_other {th th' : Nat → Bool} {yv yv' : Nat → Int32} {s t : Nat} {l : List kv_T} (M : mp_ok th yv s l) (hst : s ≠ t) (h : ∀ j, (j < t * 100 ∨ t * 100 + 100 ≤ j) → th' j = th j ∧ yv' j = yv j) : mp_ok th' yv' s l := by
  intro k hk
  have e := h (s * 100 + k) (by omega)
  rw [e.1, e.2]
  exact M k hk
theorem mp_copy {th th' : Nat → Bool} {yv yv' : Nat → Int32} {s t : Nat} {l : List kv_T} (M : mp_ok th yv s l) (h : ∀ k, k < 100 → th' (t * 100 + k) = th (s * 100 + k) ∧ yv' (t * 100 + k) = yv (s * 100 + k)) : mp_ok th' yv' t l := by
  intro k hk
  rw [(h k hk).1, (h k hk).2]
  exact M k hk
end
section
/-! the trees between two calls -/
def tr_fc (g : Nat → pg_T) (h c : Nat) : List kv_T := if c < 100 then tr_fl g h c else []
def tr_pc (g : Nat → pg_T) (h c : Nat) : List Nat := if c < 100 then tr_pg g h c else []
theorem tr_pcm {g : Nat → pg_T} {h c q : Nat} : q ∈ tr_pc g h c ↔ c < 100 ∧ q ∈ tr_pg g h c := by
  unfold tr_pc
  split
  · rename_i h'; exact ⟨fun m => ⟨h', m⟩, fun m => m.2⟩
  · rename_i h'; exact ⟨fun m => (nomatch m), fun m => absurd m.1 h'⟩
def cf_F (g : Nat → pg_T) (rc hs : Nat → Nat) : List Nat := tr_pc g (hs 0) (rc 0) ++ (tr_pc g (hs 1) (rc 1) ++ (tr_pc g (hs 2) (rc 2) ++ (tr_pc g (hs 4) (rc 4) ++ tr_pc g (hs 5) (rc 5))))
theorem cf_m {g : Nat → pg_T} {rc hs : Nat → Nat} {q : Nat} : q ∈ cf_F g rc hs ↔ ∃ s, s < 6 ∧ s ≠ 3 ∧ rc s < 100 ∧ q ∈ tr_pg g (hs s) (rc s) := by
  unfold cf_F
  simp only [List.mem_append, tr_pcm]
  constructor
  · rintro (h | h | h | h | h)
    · exact ⟨0, by omega, by omega, h⟩
    · exact ⟨1, by omega, by omega, h⟩
    · exact ⟨2, by omega, by omega, h⟩
    · exact ⟨4, by omega, by omega, h⟩
    · exact ⟨5, by omega, by omega, h⟩
  · rintro ⟨s, h1, h2, h⟩
    rcases s with _ | _ | _ | _ | _ | _ | s
    · exact Or.inl h
    · exact Or.inr (Or.inl h)
    · exact Or.inr (Or.inr (Or.inl h))
    · exact absurd rfl h2
    · exact Or.inr (Or.inr (Or.inr (Or.inl h)))
    · exact Or.inr (Or.inr (Or.inr (Or.inr h)))
    · omega
def fr_I (g : Nat → pg_T) (fr : Nat → Bool) (rc hs : Nat → Nat) (cm : Nat) : Prop :=
  (∀ q, q < 100 → fr q = true → rc 3 < 100 ∧ q ∈ tr_pg g (hs 3) (rc 3) ∧ ∀ s, s < 6 → s ≠ 3 → rc s < 100 → q ∉ tr_pg g (hs s) (rc s)) ∧
  (rc 3 < 100 → ∀ q, q ∈ tr_pg g (hs 3) (rc 3) → fr q = true ∨ (rc (4 + cm) < 100 ∧ q ∈ tr_pg g (hs (4 + cm)) (rc (4 + cm))))
theorem pc_12 {g : Nat → pg_T} {h c : Nat} (I : gt_I g h c) : (tr_pc g h c).length ≤ 12 := by
  unfold tr_pc
  split
  · rename_i hc; exact (gt_12 I hc).1
  · exact Nat.zero_le _
theorem wo_in {g : Nat → pg_T} {fr : Nat → Bool} {ro : Nat → Nat} {mv : Nat → Bool} {mr hs : Nat → Nat} {cm : Nat} (T : ∀ s, s < 6 → gt_I g (hs s) (rc_f ro mv mr s)) (R : fr_I g fr (rc_f ro mv mr) hs cm) (h3 : ro 3 ≤ 100) (hcm : cm < 2) :
    wo_I g g fr ro mv mr hs (cf_F g (rc_f ro mv mr) hs) (tr_pc g (hs (4 + cm)) (rc_f ro mv mr (4 + cm))) (tr_fc g (hs 3) (ro 3)) := by
  have e3 : rc_f ro mv mr 3 = ro 3 := rc_lo (by omega)
  have F0 : ∀ q, q ∈ cf_F g (rc_f ro mv mr) hs → fr q = false := by
    intro q hq
    obtain ⟨s, s1, s2, s3, m⟩ := cf_m.mp hq
    cases hf : fr q with
    | false => rfl
    | true => exact absurd m ((R.1 q (tr_l100 _ _ (T s s1 s3).1 q m) hf).2.2 s s1 s2 s3)
  have CF : ∀ q, q ∈ tr_pc g (hs (4 + cm)) (rc_f ro mv mr (4 + cm)) → q ∈ cf_F g (rc_f ro mv mr) hs := by
    intro q hq
    have := tr_pcm.mp hq
    exact cf_m.mpr ⟨4 + cm, by omega, by omega, this.1, this.2⟩
  refine ⟨⟨⟨?_, fun _ _ => rfl⟩, fun s s1 s2 s3 => ⟨(T s s1 s3).1, (gt_12 (T s s1) s3).1, fun q hq => cf_m.mpr ⟨s, s1, s2, s3, hq⟩⟩, fun q hq => cf_m.mp hq⟩, F0, CF, ?_⟩
  · unfold cf_F
    simp only [List.length_append]
    have h0 := pc_12 (T 0 (by omega))
    have h1 := pc_12 (T 1 (by omega))
    have h2 := pc_12 (T 2 (by omega))
    have h4 := pc_12 (T 4 (by omega))
    have h5 := pc_12 (T 5 (by omega))
    omega
  · by_cases hr : ro 3 < 100
    · have T3 := T 3 (by omega) (by rw [e3]; exact hr)
      rw [e3] at T3
      refine Or.inl ⟨hr, ⟨T3.1, T3.2.1, fun q hq => ?_, fun q hq hf => ?_, F0, CF⟩, (if_pos hr).symm, fun q hq => T3.2.2.1 q hq⟩
      · rcases R.2 (by rw [e3]; exact hr) q (by rw [e3]; exact hq) with h | h
        · exact Or.inl h
        · exact Or.inr (tr_pcm.mpr h)
      · have := (R.1 q hq hf).2.1
        rw [e3] at this
        exact this
    · refine Or.inr ⟨by omega, if_neg hr, fun q hq => ?_⟩
      cases hf : fr q with
      | false => rfl
      | true =>
        have := (R.1 q hq hf).1
        rw [e3] at this
        omega
theorem wo_out {g g2 : Nat → pg_T} {fr fr2 : Nat → Bool} {ro ro2 : Nat → Nat} {mv : Nat → Bool} {mr hs hs2 : Nat → Nat} {cm : Nat} {fl2 : List kv_T} (T : ∀ s, s < 6 → gt_I g (hs s) (rc_f ro mv mr s)) (hcm : cm < 2)
    (W : wo_I g g2 fr2 ro2 mv mr hs2 (cf_F g (rc_f ro mv mr) hs) (tr_pc g (hs (4 + cm)) (rc_f ro mv mr (4 + cm))) fl2) (hh : ∀ s, s ≠ 3 → hs2 s = hs s) (hr : ∀ s, s ≠ 3 → ro2 s = ro s) (so : so_l fl2) (h24 : fl2.length ≤ 24) :
    (∀ s, s < 6 → gt_I g2 (hs2 s) (rc_f ro2 mv mr s)) ∧ fr_I g2 fr2 (rc_f ro2 mv mr) hs2 cm ∧ ro2 3 ≤ 100 ∧ tr_fc g2 (hs2 3) (ro2 3) = fl2 ∧ (∀ s, s < 6 → s ≠ 3 → rc_f ro2 mv mr s = rc_f ro mv mr s ∧ tr_fc g2 (hs2 s) (rc_f ro2 mv mr s) = tr_fc g (hs s) (rc_f ro mv mr s)) := by
  obtain ⟨O, F0, CF, WW⟩ := W
  have e3 : rc_f ro2 mv mr 3 = ro2 3 := rc_lo (by omega)
  have er : ∀ s, s ≠ 3 → rc_f ro2 mv mr s = rc_f ro mv mr s := fun s hs => rc_3 hr s hs
  have fr_s : ∀ s, s < 6 → s ≠ 3 → rc_f ro mv mr s < 100 → tr_fl g2 (hs s) (rc_f ro mv mr s) = tr_fl g (hs s) (rc_f ro mv mr s) ∧ tr_pg g2 (hs s) (rc_f ro mv mr s) = tr_pg g (hs s) (rc_f ro mv mr s) ∧ (tr_sh g (hs s) (rc_f ro mv mr s) → tr_sh g2 (hs s) (rc_f ro mv mr s)) := fun s s1 s2 s3 => tr_fr (g := g) (g' := g2) _ _ (fun q hq => O.1.2 q (cf_m.mpr ⟨s, s1, s2, s3, hq⟩))
  refine ⟨fun s s1 => ?_, ⟨fun q hq hf => ?_, fun h3 q hq => ?_⟩, ?_, ?_, fun s s1 s2 => ⟨er s s2, ?_⟩⟩
  · by_cases e : s = 3
    · subst e
      rw [e3]
      intro hc
      rcases WW with ⟨_, w, f, b⟩ | ⟨h, _, _⟩
      · exact ⟨w.1, w.2.1, fun q hq => b q hq, by rw [f]; exact so, by rw [f]; exact h24⟩
      · omega
    · rw [er s e, hh s e]
      intro hc
      obtain ⟨t1, t2, t3, t4, t5⟩ := T s s1 hc
      obtain ⟨f1, f2, f3⟩ := fr_s s s1 e hc
      refine ⟨f3 t1, by rw [f2]; exact t2, fun q hq => ?_, by rw [f1]; exact t4, by rw [f1]; exact t5⟩
      rw [f2] at hq
      rw [O.1.2 q (cf_m.mpr ⟨s, s1, e, hc, hq⟩)]
      exact t3 q hq
  · rw [e3]
    rcases WW with ⟨h, w, f, b⟩ | ⟨h, _, h0⟩
    · refine ⟨h, w.2.2.2.1 q hq hf, fun s s1 s2 s3 m => ?_⟩
      rw [er s s2] at s3 m
      rw [hh s s2, (fr_s s s1 s2 s3).2.1] at m
      have := F0 q (cf_m.mpr ⟨s, s1, s2, s3, m⟩)
      rw [hf] at this
      exact (nomatch this)
    · rw [h0 q hq] at hf; exact (nomatch hf)
  · rw [e3] at hq h3
    rcases WW with ⟨h, w, f, b⟩ | ⟨h, _, h0⟩
    · rcases w.2.2.1 q hq with h | h
      · exact Or.inl h
      · have := tr_pcm.mp h
        have ne : 4 + cm ≠ 3 := by omega
        refine Or.inr ⟨by rw [er _ ne]; exact this.1, ?_⟩
        rw [er _ ne, hh _ ne, (fr_s _ (by omega) ne this.1).2.1]
        exact this.2
    · omega
  · rcases WW with ⟨h, _⟩ | ⟨h, _⟩ <;> omega
  · rcases WW with ⟨h, w, f, b⟩ | ⟨h, f, _⟩
    · exact (if_pos h).trans f
    · rw [f]; exact if_neg (by omega)
  · rw [er s s2, hh s s2]
    unfold tr_fc
    split
    · rename_i hc
      exact (fr_s s s1 s2 hc).1
    · rfl
/-- what lies between two calls -/
def rl_I (k : Nat) (kc ks : Nat → Nat) (vs : Nat → Int32) (bl : Nat → Nat) (fr : Nat → Bool) (mr ms mn : Nat → Nat) (mv : Nat → Bool) (ro sz nu : Nat → Nat) (nb : Nat) (th : Nat → Bool) (yv : Nat → Int32) (opd : Nat → Bool) (sn : Nat → Nat) (hs : Nat → Nat) (cm : Nat) : Prop :=
  (gs_b kc ks ∧ (∀ s, s < 6 → gt_I (gp_c kc ks vs bl) (hs s) (rc_f ro mv mr s)) ∧ fr_I (gp_c kc ks vs bl) fr (rc_f ro mv mr) hs cm) ∧
  (ro 3 ≤ 100 ∧ mr cm ≤ 100 ∧ (∀ s, s < 4 → ro s ≤ 100 → sz s = (tr_fc (gp_c kc ks vs bl) (hs s) (ro s)).length) ∧ ms cm = (tr_fc (gp_c kc ks vs bl) (hs (4 + cm)) (mr cm)).length) ∧
  (cm < 2 ∧ mv cm = true ∧ mn cm = nb ∧ (mv (1 - cm) = true → mn (1 - cm) < nb) ∧ nb ≤ k) ∧
  (∀ r, r < 3 → (opd r = true ↔ ro r ≤ 100) ∧ (opd r = true → nu r = sn r ∧ mp_ok th yv r (tr_fc (gp_c kc ks vs bl) (hs r) (ro r)))) ∧
  mp_ok th yv 3 (tr_fc (gp_c kc ks vs bl) (hs 3) (ro 3)) ∧ mp_ok th yv 4 (tr_fc (gp_c kc ks vs bl) (hs (4 + cm)) (mr cm))
def i_Rel (k : Nat) (u : SX) (v : SY) : Prop :=
  ∃ (we : Nat) (kc ks : Nat → Nat) (vs : Nat → Int32) (bl : Nat → Nat) (fr us : Nat → Bool) (mr ms mn : Nat → Nat) (mv : Nat → Bool) (ro sz nu wp wi wa : Nat → Nat) (nb : Nat) (th : Nat → Bool) (yv : Nat → Int32) (opd : Nat → Bool) (sn hs : Nat → Nat) (cm : Nat),
    u = ((nI we), (eu_N kc), (eu_N ks), vs, (eu_P bl), (eu_B fr), (eu_B us), (eu_P mr), (eu_N ms), (eu_N mn), (eu_B mv), (eu_P ro), (eu_N sz), (eu_N nu), (eu_N wp), (eu_N wi), (eu_P wa)) ∧ v = ((nI nb), (eu_B th), yv, (eu_B opd), (eu_N sn)) ∧ rl_I k kc ks vs bl fr mr ms mn mv ro sz nu nb th yv opd sn hs cm
theorem re_in {we : Nat} {kc : Nat → Nat} {ks : Nat → Nat} {vs : Nat → Int32} {bl : Nat → Nat} {fr : Nat → Bool} {us : Nat → Bool} {mr : Nat → Nat} {ms : Nat → Nat} {mn : Nat → Nat} {mv : Nat → Bool} {ro : Nat → Nat} {sz : Nat → Nat} {nu : Nat → Nat} {wp : Nat → Nat} {wi : Nat → Nat} {wa : Nat → Nat} {nb : Nat} {th : Nat → Bool} {yv : Nat → Int32} {opd : Nat → Bool} {sn : Nat → Nat} {k : Nat} {hs : Nat → Nat} {cm : Nat} (h : rl_I k kc ks vs bl fr mr ms mn mv ro sz nu nb th yv opd sn hs cm) : i_Rel k ((nI we), (eu_N kc), (eu_N ks), vs, (eu_P bl), (eu_B fr), (eu_B us), (eu_P mr), (eu_N ms), (eu_N mn), (eu_B mv), (eu_P ro), (eu_N sz), (eu_N nu), (eu_N wp), (eu_N wi), (eu_P wa)) ((nI nb), (eu_B th), yv, (eu_B opd), (eu_N sn)) :=
  ⟨we, kc, ks, vs, bl, fr, us, mr, ms, mn, mv, ro, sz, nu, wp, wi, wa, nb, th, yv, opd, sn, hs, cm, rfl, rfl, h⟩
theorem re_el {k : Nat} {u : SX} {v : SY} {P : SX → SY → Prop} (I : i_Rel k u v)
    (h : ∀ (we : Nat) (kc ks : Nat → Nat) (vs : Nat → Int32) (bl : Nat → Nat) (fr us : Nat → Bool) (mr ms mn : Nat → Nat) (mv : Nat → Bool) (ro sz nu wp wi wa : Nat → Nat) (nb : Nat) (th : Nat → Bool) (yv : Nat → Int32) (opd : Nat → Bool) (sn hs : Nat → Nat) (cm : Nat), rl_I k kc ks vs bl fr mr ms mn mv ro sz nu nb th yv opd sn hs cm → P ((nI we), (eu_N kc), (eu_N ks), vs, (eu_P bl), (eu_B fr), (eu_B us), (eu_P mr), (eu_N ms), (eu_N mn), (eu_B mv), (eu_P ro), (eu_N sz), (eu_N nu), (eu_N wp), (eu_N wi), (eu_P wa)) ((nI nb), (eu_B th), yv, (eu_B opd), (eu_N sn))) : P u v := by
  refine I.elim fun we I => I.elim fun kc I => I.elim fun ks I => I.elim fun vs I => I.elim fun bl I => I.elim fun fr I => I.elim fun us I => I.elim fun mr I => I.elim fun ms I => I.elim fun mn I => I.elim fun mv I => I.elim fun ro I => I.elim fun sz I => I.elim fun nu I => I.elim fun wp I => I.elim fun wi I => I.elim fun wa I => I.elim fun nb I => I.elim fun th I => I.elim fun yv I => I.elim fun opd I => I.elim fun sn I => I.elim fun hs I => I.elim fun cm I => ?_
  rw [I.1, I.2.1]
  exact h we kc ks vs bl fr us mr ms mn mv ro sz nu wp wi wa nb th yv opd sn hs cm I.2.2
theorem rl_up {k : Nat} {kc ks : Nat → Nat} {vs : Nat → Int32} {bl : Nat → Nat} {fr : Nat → Bool} {mr ms mn : Nat → Nat} {mv : Nat → Bool} {ro sz nu : Nat → Nat} {nb : Nat} {th : Nat → Bool} {yv : Nat → Int32} {opd : Nat → Bool} {sn hs : Nat → Nat} {cm : Nat} (h : rl_I k kc ks vs bl fr mr ms mn mv ro sz nu nb th yv opd sn hs cm) : rl_I (k + 3) kc ks vs bl fr mr ms mn mv ro sz nu nb th yv opd sn hs cm :=
  ⟨h.1, h.2.1, ⟨h.2.2.1.1, h.2.2.1.2.1, h.2.2.1.2.2.1, h.2.2.1.2.2.2.1, Nat.le_trans h.2.2.1.2.2.2.2 (Nat.le_add_right _ _)⟩, h.2.2.2⟩
theorem i_up {k : Nat} {u : SX} {v : SY} (h : i_Rel k u v) : i_Rel (k + 3) u v :=
  re_el (P := fun u v => i_Rel (k + 3) u v) h (fun we kc ks vs bl fr us mr ms mn mv ro sz nu wp wi wa nb th yv opd sn hs cm I => re_in (rl_up I))
end
section
/-! X's put, on the writer's tree -/
theorem fd_at {g : Nat → pg_T} {wp wi : Nat → Nat} {H m : Nat} {e : kv_T} (hs : tr_sh g H (wp 0)) (hm : m ≤ H) (hp : tr_pt g wp wi m) (he : (g (wp m)).1[wi m]? = some e) : ∃ A B, tr_fl g H (wp 0) = A ++ e :: B := by
  obtain ⟨⟨lf, rt, ps, hc, _⟩, hsm⟩ := tr_ptd hs m hm hp
  obtain ⟨E1, E2, hE, _⟩ := ls_gs he
  have sx := ((tr_she _ _ _).mp hsm).2
  obtain ⟨P, Q, hPQ⟩ := en_pf (g := g) (h := H - m) (E1 := E1) (E2 := E2) (e := e) (D := (g (wp m)).2) (by rw [← hE]; exact sx)
  refine ⟨lf ++ P, Q ++ rt, ?_⟩
  rw [(hc g (fun _ _ => rfl)).1, tr_fle]
  have e1 : g (wp m) = (E1 ++ e :: E2, (g (wp m)).2) := Prod.ext hE rfl
  rw [e1, hPQ e]
  simp only [List.append_assoc, List.cons_append]
theorem fd_no {g : Nat → pg_T} {wp wi : Nat → Nat} {H key : Nat} (hs : tr_sh g H (wp 0)) (so : so_l (tr_fl g H (wp 0))) (hp : tr_pt g wp wi H) (hsp : ∀ j, j ≤ H → sp_l key (g (wp j)).1 (wi j)) : ∃ A B, tr_fl g H (wp 0) = A ++ B ∧ (∀ e, e ∈ A → e.1 < key) ∧ (∀ e, e ∈ B → key < e.1) := by
  obtain ⟨lf, rt, ps, hc, hx0, hlf, hrt⟩ := tr_ptk hs so H (Nat.le_refl _) hp (fun j hj => hsp j (by omega))
  rw [Nat.sub_self] at hc
  have h := hsp H (Nat.le_refl _)
  refine ⟨lf ++ (g (wp H)).1.take (wi H), (g (wp H)).1.drop (wi H) ++ rt, ?_, fun e me => ?_, fun e me => ?_⟩
  · rw [(hc g (fun _ _ => rfl)).1]
    show lf ++ ((g (wp H)).1 ++ rt) = _
    conv => lhs; rw [← List.take_append_drop (wi H) (g (wp H)).1]
    simp only [List.append_assoc]
  · rcases List.mem_append.mp me with me | me
    · exact hlf e me
    · exact h.1 e me
  · rcases List.mem_append.mp me with me | me
    · exact h.2 e me
    · exact hrt e me
theorem xw_isKey1 {we : Nat} {kc : Nat → Nat} {ks : Nat → Nat} {vs : Nat → Int32} {bl : Nat → Nat} {fr : Nat → Bool} {us : Nat → Bool} {mr : Nat → Nat} {ms : Nat → Nat} {mn : Nat → Nat} {mv : Nat → Bool} {ro : Nat → Nat} {sz : Nat → Nat} {nu : Nat → Nat} {wp : Nat → Nat} {wi : Nat → Nat} {wa : Nat → Nat} {post : Int32 → Prop} {key : Nat} (hk : key < 100) (h : post 1) : wpX_isKey post ((nI we), (eu_N kc), (eu_N ks), vs, (eu_P bl), (eu_B fr), (eu_B us), (eu_P mr), (eu_N ms), (eu_N mn), (eu_B mv), (eu_P ro), (eu_N sz), (eu_N nu), (eu_N wp), (eu_N wi), (eu_P wa)) (nI key) := by
  unfold wpX_isKey
  refine br_f (nI_pos (by omega)) (br_f ?_ h)
  rw [ea_99]
  exact nI_nlt (by omega) (by omega)
theorem xw_isKey0 {we : Nat} {kc : Nat → Nat} {ks : Nat → Nat} {vs : Nat → Int32} {bl : Nat → Nat} {fr : Nat → Bool} {us : Nat → Bool} {mr : Nat → Nat} {ms : Nat → Nat} {mn : Nat → Nat} {mv : Nat → Bool} {ro : Nat → Nat} {sz : Nat → Nat} {nu : Nat → Nat} {wp : Nat → Nat} {wi : Nat → Nat} {wa : Nat → Nat} {post : Int32 → Prop} {p : Int32} (hk : p < 0 ∨ nI 100 ≤ p) (h : post 0) : wpX_isKey post ((nI we), (eu_N kc), (eu_N ks), vs, (eu_P bl), (eu_B fr), (eu_B us), (eu_P mr), (eu_N ms), (eu_N mn), (eu_B mv), (eu_P ro), (eu_N sz), (eu_N nu), (eu_N wp), (eu_N wi), (eu_P wa)) p := by
  unfold wpX_isKey
  dsimp only
  refine br_c (fun _ => h) (fun h0 => br_c (fun _ => h) (fun h1 => ?_))
  rcases hk with hk | hk
  · exact absurd hk h0
  · rw [Int32.le_iff_toInt_le, nI_toInt (by omega)] at hk
    rw [Int32.lt_iff_toInt_lt, ea_99, nI_toInt (by omega)] at h1
    omega
theorem xw_copyWay0 {kc : Nat → Nat} {ks : Nat → Nat} {vs : Nat → Int32} {bl : Nat → Nat} {fr : Nat → Bool} {us : Nat → Bool} {mr : Nat → Nat} {ms : Nat → Nat} {mn : Nat → Nat} {mv : Nat → Bool} {ro : Nat → Nat} {sz : Nat → Nat} {nu : Nat → Nat} {wp : Nat → Nat} {wi : Nat → Nat} {wa : Nat → Nat} {post : SX → Prop} (h : post ((nI 0), (eu_N kc), (eu_N ks), vs, (eu_P bl), (eu_B fr), (eu_B us), (eu_P mr), (eu_N ms), (eu_N mn), (eu_B mv), (eu_P ro), (eu_N sz), (eu_N nu), (eu_N wp), (eu_N wi), (eu_P wa))) : wpX_copyWay post ((nI 0), (eu_N kc), (eu_N ks), vs, (eu_P bl), (eu_B fr), (eu_B us), (eu_P mr), (eu_N ms), (eu_N mn), (eu_B mv), (eu_P ro), (eu_N sz), (eu_N nu), (eu_N wp), (eu_N wi), (eu_P wa)) := by
  unfold wpX_copyWay
  dsimp only
  refine ⟨1, ?_⟩
  rw [wX_copyWay_2]
  exact br_t (by decide +kernel) h
theorem gp_val {kc ks : Nat → Nat} {vs : Nat → Int32} {bl : Nat → Nat} {x i : Nat} {v : Int32} (gs : ∀ p, kc p ≤ 5) (hi : i < kc x) :
    gp_c kc ks vs bl x = (sg_l (fun j => (ks j, vs j)) (5 * x) i ++ (ks (5 * x + i), vs (5 * x + i)) :: sg_l (fun j => (ks j, vs j)) (5 * x + i + 1) (kc x - i - 1), (gp_c kc ks vs bl x).2) ∧
    gp_c kc ks (upd vs (5 * x + i) v) bl x = (sg_l (fun j => (ks j, vs j)) (5 * x) i ++ (ks (5 * x + i), v) :: sg_l (fun j => (ks j, vs j)) (5 * x + i + 1) (kc x - i - 1), (gp_c kc ks vs bl x).2) ∧
    ∀ q, q ≠ x → gp_c kc ks (upd vs (5 * x + i) v) bl q = gp_c kc ks vs bl q := by
  refine ⟨Prod.ext (sg_mid _ _ hi) rfl, Prod.ext ?_ rfl, fun q hq => ?_⟩
  · rw [gp_1, sg_mid _ _ hi]
    refine congr (congrArg _ ?_) (congr (congrArg _ ?_) ?_)
    · exact sg_kv (fun t ht => ⟨rfl, pk_un (by omega)⟩)
    · rw [pk_us]
    · exact sg_kv (fun t ht => ⟨rfl, pk_un (by omega)⟩)
  · have h1 := gs q
    have h2 := gs x
    exact gp_eq rfl (fun t ht => ⟨rfl, pk_un (by omega)⟩) (fun t ht => rfl)
theorem xw_put {we : Nat} {kc : Nat → Nat} {ks : Nat → Nat} {vs : Nat → Int32} {bl : Nat → Nat} {fr : Nat → Bool} {us : Nat → Bool} {mr : Nat → Nat} {ms : Nat → Nat} {mn : Nat → Nat} {mv : Nat → Bool} {ro : Nat → Nat} {sz : Nat → Nat} {nu : Nat → Nat} {wp : Nat → Nat} {wi : Nat → Nat} {wa : Nat → Nat} {post : Int32 → SX → Prop} {G : Nat → pg_T} {F C : List Nat} {fl0 : List kv_T} {hs : Nat → Nat} {key : Nat} {v : Int32} (hk : key < 100) (gs : gs_b kc ks) (W : wo_I G (gp_c kc ks vs bl) fr ro mv mr hs F C fl0) (so : so_l fl0) (h24 : fl0.length ≤ 24) (hw : ro 3 < 100 → (tr_pg (gp_c kc ks vs bl) (hs 3) (ro 3)).length ≤ 12 ∧ hs 3 ≤ 2) (hsz : sz 3 = fl0.length)
    (K0 : ∀ (A B : List kv_T) (v0 : Int32), fl0 = A ++ (key, v0) :: B → ∀ (we' : Nat) (kc' ks' : Nat → Nat) (vs' : Nat → Int32) (bl' : Nat → Nat) (fr' us' : Nat → Bool) (ro' wp' wi' wa' hs' : Nat → Nat), gs_b kc' ks' → wo_I G (gp_c kc' ks' vs' bl') fr' ro' mv mr hs' F C (A ++ (key, v) :: B) → (∀ s, s ≠ 3 → hs' s = hs s) → (∀ s, s ≠ 3 → ro' s = ro s) →
      post 0 ((nI we'), (eu_N kc'), (eu_N ks'), vs', (eu_P bl'), (eu_B fr'), (eu_B us'), (eu_P mr), (eu_N ms), (eu_N mn), (eu_B mv), (eu_P ro'), (eu_N sz), (eu_N nu), (eu_N wp'), (eu_N wi'), (eu_P wa')))
    (K1 : ∀ (A B : List kv_T), fl0 = A ++ B → (∀ e, e ∈ A → e.1 < key) → (∀ e, e ∈ B → key < e.1) → fl0.length = 24 → ∀ (we' : Nat) (wp' wi' : Nat → Nat), post (-2) ((nI we'), (eu_N kc), (eu_N ks), vs, (eu_P bl), (eu_B fr), (eu_B us), (eu_P mr), (eu_N ms), (eu_N mn), (eu_B mv), (eu_P ro), (eu_N sz), (eu_N nu), (eu_N wp'), (eu_N wi'), (eu_P wa)))
    (K2 : ∀ (A B : List kv_T), fl0 = A ++ B → (∀ e, e ∈ A → e.1 < key) → (∀ e, e ∈ B → key < e.1) → fl0.length < 24 → ∀ (we' : Nat) (kc' ks' : Nat → Nat) (vs' : Nat → Int32) (bl' : Nat → Nat) (fr' us' : Nat → Bool) (ro' wp' wi' wa' hs' : Nat → Nat), gs_b kc' ks' → wo_I G (gp_c kc' ks' vs' bl') fr' ro' mv mr hs' F C (A ++ (key, v) :: B) → (∀ s, s ≠ 3 → hs' s = hs s) → (∀ s, s ≠ 3 → ro' s = ro s) →
      post 1 ((nI we'), (eu_N kc'), (eu_N ks'), vs', (eu_P bl'), (eu_B fr'), (eu_B us'), (eu_P mr), (eu_N ms), (eu_N mn), (eu_B mv), (eu_P ro'), (eu_N (un_f sz 3 (fl0.length + 1))), (eu_N nu), (eu_N wp'), (eu_N wi'), (eu_P wa'))) :
    wpX_put post ((nI we), (eu_N kc), (eu_N ks), vs, (eu_P bl), (eu_B fr), (eu_B us), (eu_P mr), (eu_N ms), (eu_N mn), (eu_B mv), (eu_P ro), (eu_N sz), (eu_N nu), (eu_N wp), (eu_N wi), (eu_P wa)) (nI key) v := by
  obtain ⟨O, F0, CF, WW⟩ := W
  have hc : ro 3 < 100 → tr_sh (gp_c kc ks vs bl) (hs 3) (ro 3) ∧ so_l (tr_fl (gp_c kc ks vs bl) (hs 3) (ro 3)) ∧ hs 3 ≤ 2 := by
    intro h
    rcases WW with ⟨_, w, f, b⟩ | ⟨h', _, _⟩
    · exact ⟨w.1, by rw [f]; exact so, (hw h).2⟩
    · omega
  unfold wpX_put
  refine xw_isKey1 hk (br_f (by decide) ?_)
  rw [eu_Pr]
  refine xw_find (h := hs 3) hk gs hc (fun h => ?_) (fun h m wp' wi' hm w0 hp hsp hv => ?_) (fun h wp' wi' w0 hp hil hsp => ?_)
  · -- an empty tree
    rcases WW with ⟨h', _⟩ | ⟨_, f, h0⟩
    · omega
    subst f
    dsimp only
    simp (disch := omega) only [forall_eq, true_implies, false_implies, not_true_eq_false, not_false_eq_true, and_true, true_and, ea_0, ea_1, ea_2, ea_3, ea_4, ea_5, ea_6, ea_24, ea_99, ea_100, ea_300, ea_n1, ea_n2, pk_mul, nI_add, pk_sub, ea_m1, nI_clamp, eu_Nr, eu_Br, eu_Pr, eu_pn, eu_nb, eu_i8, eu_pb, eu_pi, eu_vb0, eu_vb1, eu_vbb, eu_Nu, eu_Pu, eu_Pun, eu_Bu, eu_Bu0, eu_Bu1, ea_inT, nI_leI, Nat.zero_le, nI_ltI, nI_eq, eu_pl, eu_pg, eu_p2, eu_b0, hsz]
    refine br_t (by show 0 < 24; omega) ?_
    unfold wX_put_40
    refine xw_copyWay0 ?_
    dsimp only
    refine nm_e (br_t (by trivial) ?_)
    refine xw_insert0 hk gs O h h0 F0 CF (fun kc' ks' vs' bl' fr' us' ro' wp' wi' wa' hs' w' gs' S' B' h1 h2 => ?_)
    dsimp only
    simp (disch := omega) only [forall_eq, true_implies, false_implies, not_true_eq_false, not_false_eq_true, and_true, true_and, ea_0, ea_1, ea_2, ea_3, ea_4, ea_5, ea_6, ea_24, ea_99, ea_100, ea_300, ea_n1, ea_n2, pk_mul, nI_add, pk_sub, ea_m1, nI_clamp, eu_Nr, eu_Br, eu_Pr, eu_pn, eu_nb, eu_i8, eu_pb, eu_pi, eu_vb0, eu_vb1, eu_vbb, eu_Nu, eu_Pu, eu_Pun, eu_Bu, eu_Bu0, eu_Bu1, ea_inT, nI_leI, Nat.zero_le, nI_ltI, nI_eq, eu_pl, eu_pg, eu_p2, eu_b0, hsz]
    exact K2 [] [] rfl (fun e me => (nomatch me)) (fun e me => (nomatch me)) (by show 0 < 24; omega) 1 kc' ks' vs' bl' fr' us' ro' wp' wi' wa' hs' gs' (wo_of S' B') h1 h2
  · -- the key is there
    rcases WW with ⟨_, w, f, b⟩ | ⟨h', _, _⟩
    · obtain ⟨v0, hv⟩ := hv
      obtain ⟨hw1, hw2⟩ := hw h
      have hsh := w.1
      rw [← w0] at hsh
      have S : op_S G (gp_c kc ks vs bl) fr ro mv mr hs F C 12 fl0 := ⟨O, w, h, hw1, f⟩
      dsimp only
      refine br_f (by decide) ?_
      unfold wX_put_40
      refine xw_copyWay (m := m) (by omega) (by omega) hm gs S b w0 hp (fun kc' ks' vs' bl' fr' us' ro' wp2 wa' gs' S' B' w0' hp' hf' hES hro => ?_)
      dsimp only
      have hES' := hES m (Nat.le_refl _)
      rw [← hES'] at hv
      have hi : wi' m < kc' (wp2 m) := by
        refine Nat.lt_of_not_le (fun hn => ?_)
        rw [List.getElem?_eq_none (by rw [gp_len]; exact hn)] at hv
        exact (nomatch hv)
      have hat := gp_at (ks := ks') (vs := vs') (bl := bl') hi
      rw [hv] at hat
      have hkv := Prod.mk.inj (Option.some.inj hat)
      have h5 := gs'.1 (wp2 m)
      have hsh' := S'.2.1.1
      rw [← w0'] at hsh'
      have hx := (tr_pti hsh' hm hp').1 m (Nat.le_refl _)
      obtain ⟨A, B, hAB⟩ := fd_at hsh' hm hp' hv
      have f' := S'.2.2.2.2
      rw [← w0', hAB] at f'
      have gv := gp_val (ks := ks') (vs := vs') (bl := bl') (v := v) gs'.1 hi
      rw [← hkv.1, ← hkv.2] at gv
      have S2 := S'
      rw [← f'] at S2
      obtain ⟨S3, p3, P3⟩ := en_S (k := m) (m := m) S2 (by rw [f']; exact so) w0' hm (Nat.le_refl _) hp' (hf' m (Nat.le_refl _)) gv.1 gv.2.1 gv.2.2
      simp (disch := omega) only [forall_eq, true_implies, false_implies, not_true_eq_false, not_false_eq_true, and_true, true_and, ea_0, ea_1, ea_2, ea_3, ea_4, ea_5, ea_6, ea_24, ea_99, ea_100, ea_300, ea_n1, ea_n2, pk_mul, nI_add, pk_sub, ea_m1, nI_clamp, eu_Nr, eu_Br, eu_Pr, eu_pn, eu_nb, eu_i8, eu_pb, eu_pi, eu_vb0, eu_vb1, eu_vbb, eu_Nu, eu_Pu, eu_Pun, eu_Bu, eu_Bu0, eu_Bu1, ea_inT, nI_leI, Nat.zero_le, nI_ltI, nI_eq, eu_pl, eu_pg, eu_p2, eu_b0, Nat.add_sub_cancel]
      refine br_f (by omega) ?_
      refine K0 A B v0 f'.symm (m + 1) kc' ks' _ bl' fr' us' ro' wp2 wi' wa' hs gs' (wo_of S3 (fun q hq => ?_)) (fun _ _ => rfl) hro
      rw [p3] at hq
      have b' := B' q hq
      rw [gp_len] at b' ⊢
      exact b'
    · omega
  · -- the key is not there
    rcases WW with ⟨_, w, f, b⟩ | ⟨h', _, _⟩
    · obtain ⟨hw1, hw2⟩ := hw h
      have hsh := w.1
      have so' := so
      rw [← f] at so'
      rw [← w0] at hsh so'
      have S : op_S G (gp_c kc ks vs bl) fr ro mv mr hs F C 12 fl0 := ⟨O, w, h, hw1, f⟩
      dsimp only
      refine br_t (by trivial) ?_
      simp (disch := omega) only [forall_eq, true_implies, false_implies, not_true_eq_false, not_false_eq_true, and_true, true_and, ea_0, ea_1, ea_2, ea_3, ea_4, ea_5, ea_6, ea_24, ea_99, ea_100, ea_300, ea_n1, ea_n2, pk_mul, nI_add, pk_sub, ea_m1, nI_clamp, eu_Nr, eu_Br, eu_Pr, eu_pn, eu_nb, eu_i8, eu_pb, eu_pi, eu_vb0, eu_vb1, eu_vbb, eu_Nu, eu_Pu, eu_Pun, eu_Bu, eu_Bu0, eu_Bu1, ea_inT, nI_leI, Nat.zero_le, nI_ltI, nI_eq, eu_pl, eu_pg, eu_p2, eu_b0, hsz]
      refine ⟨fun hlt => ?_, fun hge => ?_⟩
      · unfold wX_put_40
        refine xw_copyWay (m := hs 3) (by omega) (by omega) (Nat.le_refl _) gs S b w0 hp (fun kc' ks' vs' bl' fr' us' ro' wp2 wa' gs' S' B' w0' hp' hf' hES hro => ?_)
        dsimp only
        refine nm_e (br_t (by trivial) ?_)
        unfold wpX_insert
        refine br_f (nI_ne0 (by omega) (by omega)) ?_
        have hsh' := S'.2.1.1
        rw [← w0'] at hsh'
        have spH : sp_l key (gp_c kc' ks' vs' bl' (wp2 (hs 3))).1 (wi' (hs 3)) := by rw [hES _ (Nat.le_refl _)]; exact hsp _ (Nat.le_refl _)
        refine xw_ins26 (m := hs 3) (w := 12) rfl (by omega) (by omega) hk gs' S' so (fun q hq => ?_) w0' hp' hf' (fun j hj => by rw [hES j hj]; exact hsp j hj) ?_ (fun A B hAB hA hB kc2 ks2 vs2 bl2 fr2 us2 ro2 wa2 hs2 w2 gs2 S2 B2 h1 h2 => ?_)
        · have b' := B' q hq
          exact ⟨b'.2.1, b'.2.2, fun _ => b'.1⟩
        · have e1 := congrArg List.length (hES (hs 3) (Nat.le_refl _))
          rw [gp_len, gp_len] at e1
          rw [e1]
          exact hil
        · dsimp only
          simp (disch := omega) only [forall_eq, true_implies, false_implies, not_true_eq_false, not_false_eq_true, and_true, true_and, ea_0, ea_1, ea_2, ea_3, ea_4, ea_5, ea_6, ea_24, ea_99, ea_100, ea_300, ea_n1, ea_n2, pk_mul, nI_add, pk_sub, ea_m1, nI_clamp, eu_Nr, eu_Br, eu_Pr, eu_pn, eu_nb, eu_i8, eu_pb, eu_pi, eu_vb0, eu_vb1, eu_vbb, eu_Nu, eu_Pu, eu_Pun, eu_Bu, eu_Bu0, eu_Bu1, ea_inT, nI_leI, Nat.zero_le, nI_ltI, nI_eq, eu_pl, eu_pg, eu_p2, eu_b0, hsz]
          exact K2 A B hAB hA hB hlt _ kc2 ks2 vs2 bl2 fr2 us2 ro2 wp2 wi' wa2 hs2 gs2 (wo_of S2 B2) h1 (fun s hs => (h2 s hs).trans (hro s hs))
      · obtain ⟨A, B, hAB, hA, hB⟩ := fd_no hsh so' hp hsp
        rw [w0, f] at hAB
        exact K1 A B hAB hA hB (by omega) _ wp' wi'
    · omega
end
section
/-! X's erase, on the writer's tree -/
theorem xw_erase {we : Nat} {kc : Nat → Nat} {ks : Nat → Nat} {vs : Nat → Int32} {bl : Nat → Nat} {fr : Nat → Bool} {us : Nat → Bool} {mr : Nat → Nat} {ms : Nat → Nat} {mn : Nat → Nat} {mv : Nat → Bool} {ro : Nat → Nat} {sz : Nat → Nat} {nu : Nat → Nat} {wp : Nat → Nat} {wi : Nat → Nat} {wa : Nat → Nat} {post : Int32 → SX → Prop} {G : Nat → pg_T} {F C : List Nat} {fl0 : List kv_T} {hs : Nat → Nat} {key : Nat} (hk : key < 100) (gs : gs_b kc ks) (W : wo_I G (gp_c kc ks vs bl) fr ro mv mr hs F C fl0) (so : so_l fl0) (h24 : fl0.length ≤ 24) (hw : ro 3 < 100 → (tr_pg (gp_c kc ks vs bl) (hs 3) (ro 3)).length ≤ 12 ∧ hs 3 ≤ 2) (hsz : sz 3 = fl0.length)
    (K0 : ∀ (A B : List kv_T), fl0 = A ++ B → (∀ e, e ∈ A → e.1 < key) → (∀ e, e ∈ B → key < e.1) → ∀ (we' : Nat) (wp' wi' : Nat → Nat), post 0 ((nI we'), (eu_N kc), (eu_N ks), vs, (eu_P bl), (eu_B fr), (eu_B us), (eu_P mr), (eu_N ms), (eu_N mn), (eu_B mv), (eu_P ro), (eu_N sz), (eu_N nu), (eu_N wp'), (eu_N wi'), (eu_P wa)))
    (K1 : ∀ (A B : List kv_T) (v0 : Int32), fl0 = A ++ (key, v0) :: B → ∀ (we' : Nat) (kc' ks' : Nat → Nat) (vs' : Nat → Int32) (bl' : Nat → Nat) (fr' us' : Nat → Bool) (ro' wp' wi' wa' hs' : Nat → Nat), gs_b kc' ks' → wo_I G (gp_c kc' ks' vs' bl') fr' ro' mv mr hs' F C (A ++ B) → (∀ s, s ≠ 3 → hs' s = hs s) → (∀ s, s ≠ 3 → ro' s = ro s) →
      post 1 ((nI we'), (eu_N kc'), (eu_N ks'), vs', (eu_P bl'), (eu_B fr'), (eu_B us'), (eu_P mr), (eu_N ms), (eu_N mn), (eu_B mv), (eu_P ro'), (eu_N (un_f sz 3 (fl0.length - 1))), (eu_N nu), (eu_N wp'), (eu_N wi'), (eu_P wa'))) :
    wpX_erase post ((nI we), (eu_N kc), (eu_N ks), vs, (eu_P bl), (eu_B fr), (eu_B us), (eu_P mr), (eu_N ms), (eu_N mn), (eu_B mv), (eu_P ro), (eu_N sz), (eu_N nu), (eu_N wp), (eu_N wi), (eu_P wa)) (nI key) := by
  obtain ⟨O, F0, CF, WW⟩ := W
  have hc : ro 3 < 100 → tr_sh (gp_c kc ks vs bl) (hs 3) (ro 3) ∧ so_l (tr_fl (gp_c kc ks vs bl) (hs 3) (ro 3)) ∧ hs 3 ≤ 2 := by
    intro h
    rcases WW with ⟨_, w, f, b⟩ | ⟨h', _, _⟩
    · exact ⟨w.1, by rw [f]; exact so, (hw h).2⟩
    · omega
  unfold wpX_erase
  refine xw_isKey1 hk (br_f (by decide) ?_)
  rw [eu_Pr]
  refine xw_find (h := hs 3) hk gs hc (fun h => ?_) (fun h m wp' wi' hm w0 hp hsp hv => ?_) (fun h wp' wi' w0 hp hil hsp => ?_)
  · rcases WW with ⟨h', _⟩ | ⟨_, f, h0⟩
    · omega
    subst f
    dsimp only
    exact br_t (by trivial) (K0 [] [] rfl (fun e me => (nomatch me)) (fun e me => (nomatch me)) 0 wp wi)
  · rcases WW with ⟨_, w, f, b⟩ | ⟨h', _, _⟩
    · obtain ⟨v0, hv⟩ := hv
      obtain ⟨hw1, hw2⟩ := hw h
      have hsh := w.1
      rw [← w0] at hsh
      have S : op_S G (gp_c kc ks vs bl) fr ro mv mr hs F C 12 fl0 := ⟨O, w, h, hw1, f⟩
      have hi : wi' m < kc (wp' m) := by
        refine Nat.lt_of_not_le (fun hn => ?_)
        rw [List.getElem?_eq_none (by rw [gp_len]; exact hn)] at hv
        exact (nomatch hv)
      have hat := gp_at (ks := ks) (vs := vs) (bl := bl) hi
      rw [hv] at hat
      have hlen1 : 1 ≤ fl0.length := by
        obtain ⟨A, B, hAB⟩ := fd_at hsh hm hp hv
        rw [w0, f] at hAB
        rw [hAB, List.length_append, List.length_cons]
        omega
      -- what is left once the tree is mended
      have fin : ∀ (A B : List kv_T), fl0 = A ++ (key, v0) :: B → ∀ (we' : Nat) (kc' ks' : Nat → Nat) (vs' : Nat → Int32) (bl' : Nat → Nat) (fr' us' : Nat → Bool) (ro' wp' wi' wa' hs' : Nat → Nat), gs_b kc' ks' → wo_I G (gp_c kc' ks' vs' bl') fr' ro' mv mr hs' F C (A ++ B) → (∀ s, s ≠ 3 → hs' s = hs s) → (∀ s, s ≠ 3 → ro' s = ro s) →
          ∀ a_sizes, a_sizes = upd (eu_N sz) 3 (vp_nar .byte ((((eu_N sz) 3) - 1).toInt8.toInt32)) → post 1 ((nI we'), (eu_N kc'), (eu_N ks'), vs', (eu_P bl'), (eu_B fr'), (eu_B us'), (eu_P mr), (eu_N ms), (eu_N mn), (eu_B mv), (eu_P ro'), a_sizes, (eu_N nu), (eu_N wp'), (eu_N wi'), (eu_P wa')) := by
        intro A B hAB we' kc' ks' vs' bl' fr' us' ro' wp' wi' wa' hs' g1 g2 g3 g4
        simp (disch := omega) only [forall_eq, true_implies, false_implies, not_true_eq_false, not_false_eq_true, and_true, true_and, ea_0, ea_1, ea_2, ea_3, ea_4, ea_5, ea_6, ea_24, ea_99, ea_100, ea_300, ea_n1, ea_n2, pk_mul, nI_add, pk_sub, ea_m1, nI_clamp, eu_Nr, eu_Br, eu_Pr, eu_pn, eu_nb, eu_i8, eu_pb, eu_pi, eu_vb0, eu_vb1, eu_vbb, eu_Nu, eu_Pu, eu_Pun, eu_Bu, eu_Bu0, eu_Bu1, ea_inT, nI_leI, Nat.zero_le, nI_ltI, nI_eq, eu_pl, eu_pg, eu_p2, eu_b0, hsz]
        exact K1 A B v0 hAB we' kc' ks' vs' bl' fr' us' ro' wp' wi' wa' hs' g1 g2 g3 g4
      dsimp only
      refine br_f (by decide) ?_
      refine xw_len (k := m) (H := hs 3) gs hsh (fun q hq => ?_) (by omega) hm hp hi (fun e => ?_) (fun hlt wp2 wi2 h1 h2 h3 h4 => ?_)
      · rw [w0] at hq
        have := (b q hq).1
        rw [gp_len] at this
        exact this
      · dsimp only
        refine xw_copyWay (m := m) (by omega) (by omega) hm gs S b w0 hp (fun kc' ks' vs' bl' fr' us' ro' wp3 wa' gs' S' B' w0' hp' hf' hES hro => ?_)
        dsimp only
        have hlen : ∀ j, j ≤ m → kc' (wp3 j) = kc (wp' j) := fun j hj => by
          have := congrArg List.length (hES j hj)
          rw [gp_len, gp_len] at this
          exact this
        have hv' := hv
        rw [← hES m (Nat.le_refl _), gp_at (by rw [hlen m (Nat.le_refl _)]; exact hi)] at hv'
        have hkv := Prod.mk.inj (Option.some.inj hv')
        exact xw_takeOutA (m := m) (w := 12) e (by omega) (by omega) hk gs' S' B' w0' hp' hf' (fun j hj => by rw [hES j (by omega)]; exact hsp j hj) (by rw [hlen m (Nat.le_refl _)]; exact hi) hkv (fun A B hAB kc2 ks2 vs2 bl2 fr2 us2 ro2 wa2 hs2 g1 g2 g3 g4 => fin A B hAB _ kc2 ks2 vs2 bl2 fr2 us2 ro2 wp3 wi' wa2 hs2 g1 g2 g3 (fun s hs => (g4 s hs).trans (hro s hs)))
      · dsimp only
        refine xw_copyWay (m := hs 3) (by omega) (by omega) (Nat.le_refl _) gs S b (by rw [(h1 0 (by omega)).1]; exact w0) h2 (fun kc' ks' vs' bl' fr' us' ro' wp3 wa' gs' S' B' w0' hp' hf' hES hro => ?_)
        dsimp only
        have hlen : ∀ j, j ≤ hs 3 → kc' (wp3 j) = kc (wp2 j) := fun j hj => by
          have := congrArg List.length (hES j hj)
          rw [gp_len, gp_len] at this
          exact this
        have hi2 : wi2 m < kc' (wp3 m) := by rw [hlen m hm, (h1 m (Nat.le_refl _)).1, (h1 m (Nat.le_refl _)).2]; exact hi
        have hv' := hv
        rw [← (h1 m (Nat.le_refl _)).1, ← (h1 m (Nat.le_refl _)).2, ← hES m hm, gp_at hi2] at hv'
        have hkv := Prod.mk.inj (Option.some.inj hv')
        exact xw_takeOutB (m := hs 3) (k := m) (w := 12) rfl (by omega) (by omega) hk hlt gs' S' so B' w0' hp' hf' (fun j hj => by rw [hES j (by omega), (h1 j (by omega)).1, (h1 j (by omega)).2]; exact hsp j hj) hi2 hkv (fun j j1 j2 => by rw [hlen j (by omega)]; exact h3 j j1 j2) (by rw [hlen _ (Nat.le_refl _)]; exact h4) (fun A B hAB kc2 ks2 vs2 bl2 fr2 us2 ro2 wa2 hs2 g1 g2 g3 g4 => fin A B hAB _ kc2 ks2 vs2 bl2 fr2 us2 ro2 wp3 wi2 wa2 hs2 g1 g2 g3 (fun s hs => (g4 s hs).trans (hro s hs)))
    · omega
  · rcases WW with ⟨_, w, f, b⟩ | ⟨h', _, _⟩
    · have hsh := w.1
      have so' := so
      rw [← f] at so'
      rw [← w0] at hsh so'
      obtain ⟨A, B, hAB, hA, hB⟩ := fd_no hsh so' hp hsp
      rw [w0, f] at hAB
      dsimp only
      exact br_t (by trivial) (K0 A B hAB hA hB _ wp' wi')
    · omega
end
section
/-! put and erase -/
theorem rl_wr {k : Nat} {kc ks : Nat → Nat} {vs : Nat → Int32} {bl : Nat → Nat} {fr : Nat → Bool} {mr ms mn : Nat → Nat} {mv : Nat → Bool} {ro sz nu : Nat → Nat} {nb : Nat} {th : Nat → Bool} {yv : Nat → Int32} {opd : Nat → Bool} {sn hs : Nat → Nat} {cm : Nat} {kc' ks' : Nat → Nat} {vs' : Nat → Int32} {bl' : Nat → Nat} {fr' : Nat → Bool} {ro' sz' hs' : Nat → Nat} {th' : Nat → Bool} {yv' : Nat → Int32} {fl2 : List kv_T}
    (R : rl_I k kc ks vs bl fr mr ms mn mv ro sz nu nb th yv opd sn hs cm) (gs' : gs_b kc' ks') (W : wo_I (gp_c kc ks vs bl) (gp_c kc' ks' vs' bl') fr' ro' mv mr hs' (cf_F (gp_c kc ks vs bl) (rc_f ro mv mr) hs) (tr_pc (gp_c kc ks vs bl) (hs (4 + cm)) (rc_f ro mv mr (4 + cm))) fl2)
    (hh : ∀ s, s ≠ 3 → hs' s = hs s) (hr : ∀ s, s ≠ 3 → ro' s = ro s) (so : so_l fl2) (h24 : fl2.length ≤ 24) (M : mp_ok th' yv' 3 fl2) (ho : ∀ j, (j < 3 * 100 ∨ 3 * 100 + 100 ≤ j) → th' j = th j ∧ yv' j = yv j) (hsz : sz' 3 = fl2.length) (hso : ∀ s, s ≠ 3 → sz' s = sz s) :
    rl_I (k + 3) kc' ks' vs' bl' fr' mr ms mn mv ro' sz' nu nb th' yv' opd sn hs' cm := by
  obtain ⟨⟨gs, T, RF⟩, ⟨r3, mrc, szs, msc⟩, ⟨c2, c3, c4, c5, c6⟩, rd, m3, m4⟩ := R
  obtain ⟨T', RF', r3', f3, oth⟩ := wo_out (fr := fr) T c2 W hh hr so h24
  have e4 : rc_f ro mv mr (4 + cm) = mr cm := by rw [rc_hi, c3]; rfl
  have e4' : rc_f ro' mv mr (4 + cm) = mr cm := by rw [rc_hi, c3]; rfl
  have o4 := (oth (4 + cm) (by omega) (by omega)).2
  rw [e4, e4'] at o4
  have or : ∀ r, r < 4 → r ≠ 3 → tr_fc (gp_c kc' ks' vs' bl') (hs' r) (ro' r) = tr_fc (gp_c kc ks vs bl) (hs r) (ro r) := fun r h1 h2 => by
    have := (oth r (by omega) h2).2
    rw [rc_lo h1, rc_lo h1] at this
    exact this
  refine ⟨⟨gs', T', RF'⟩, ⟨r3', mrc, fun s s1 s2 => ?_, by rw [o4]; exact msc⟩, ⟨c2, c3, c4, c5, by omega⟩, fun r h => ?_, by rw [f3]; exact M, by rw [o4]; exact mp_other m4 (by omega) ho⟩
  · by_cases e : s = 3
    · subst e; rw [f3]; exact hsz
    · rw [or s s1 e, hso s e]
      rw [hr s e] at s2
      exact szs s s1 s2
  · obtain ⟨p1, p2⟩ := rd r h
    rw [or r (by omega) (by omega), hr r (by omega)]
    exact ⟨p1, fun ho' => ⟨(p2 ho').1, mp_other (p2 ho').2 (by omega) ho⟩⟩
theorem yw_isKey1 {nb : Nat} {th : Nat → Bool} {yv : Nat → Int32} {opd : Nat → Bool} {sn : Nat → Nat} {post : Int32 → Prop} {key : Nat} (hk : key < 100) (h : post 1) : wpY_isKey post ((nI nb), (eu_B th), yv, (eu_B opd), (eu_N sn)) (nI key) := by
  unfold wpY_isKey
  refine br_f (nI_pos (by omega)) (br_f ?_ h)
  rw [ea_100]
  exact nI_ge (by omega) (by omega)
theorem yw_isKey0 {nb : Nat} {th : Nat → Bool} {yv : Nat → Int32} {opd : Nat → Bool} {sn : Nat → Nat} {post : Int32 → Prop} {p : Int32} (hk : p < 0 ∨ nI 100 ≤ p) (h : post 0) : wpY_isKey post ((nI nb), (eu_B th), yv, (eu_B opd), (eu_N sn)) p := by
  unfold wpY_isKey
  dsimp only
  refine br_c (fun _ => h) (fun h0 => br_c (fun _ => h) (fun h1 => ?_))
  rcases hk with hk | hk
  · exact absurd hk h0
  · exact absurd hk h1
theorem yw_size3 {nb : Nat} {th : Nat → Bool} {yv : Nat → Int32} {opd : Nat → Bool} {sn : Nat → Nat} {post : Int32 → Prop} (h : post (nI (cn_f th (3 * 100) 100))) : wpY_size post ((nI nb), (eu_B th), yv, (eu_B opd), (eu_N sn)) 3 := by
  unfold wpY_size
  dsimp only
  unfold wpY_sees
  dsimp only
  refine br_t (by trivial) (br_f (by decide) ⟨101, ?_⟩)
  rw [ea_3, ea_0]
  refine yw_size14 (s := 3) (by omega) 100 0 0 (by omega) ?_
  rw [Nat.zero_add]
  exact h
theorem yw_put1 {nb : Nat} {th : Nat → Bool} {yv : Nat → Int32} {opd : Nat → Bool} {sn : Nat → Nat} {post : Int32 → SY → Prop} {key : Nat} {v : Int32} (hk : key < 100) (ht : th (300 + key) = true) (h : post 0 ((nI nb), (eu_B (un_f th (300 + key) true)), (upd yv (300 + key) v), (eu_B opd), (eu_N sn))) : wpY_put post ((nI nb), (eu_B th), yv, (eu_B opd), (eu_N sn)) (nI key) v := by
  unfold wpY_put
  refine yw_isKey1 hk (br_f (by decide) ?_)
  have e1 : eu_b true = nI 1 := rfl
  simp (disch := omega) only [forall_eq, true_implies, false_implies, not_true_eq_false, not_false_eq_true, and_true, true_and, ea_0, ea_1, ea_2, ea_3, ea_4, ea_5, ea_6, ea_24, ea_99, ea_100, ea_300, ea_n1, ea_n2, pk_mul, nI_add, pk_sub, ea_m1, nI_clamp, eu_Nr, eu_Br, eu_Pr, eu_pn, eu_nb, eu_i8, eu_pb, eu_pi, eu_vb0, eu_vb1, eu_vbb, eu_Nu, eu_Pu, eu_Pun, eu_Bu, eu_Bu0, eu_Bu1, ea_inT, nI_leI, Nat.zero_le, nI_ltI, nI_eq, eu_pl, eu_pg, eu_p2, eu_b0, ht, e1]
  refine br_f (by decide) ?_
  unfold wY_put_38
  simp (disch := omega) only [forall_eq, true_implies, false_implies, not_true_eq_false, not_false_eq_true, and_true, true_and, ea_0, ea_1, ea_2, ea_3, ea_4, ea_5, ea_6, ea_24, ea_99, ea_100, ea_300, ea_n1, ea_n2, pk_mul, nI_add, pk_sub, ea_m1, nI_clamp, eu_Nr, eu_Br, eu_Pr, eu_pn, eu_nb, eu_i8, eu_pb, eu_pi, eu_vb0, eu_vb1, eu_vbb, eu_Nu, eu_Pu, eu_Pun, eu_Bu, eu_Bu0, eu_Bu1, ea_inT, nI_leI, Nat.zero_le, nI_ltI, nI_eq, eu_pl, eu_pg, eu_p2, eu_b0]
  exact br_f (by decide) h
theorem yw_put0 {nb : Nat} {th : Nat → Bool} {yv : Nat → Int32} {opd : Nat → Bool} {sn : Nat → Nat} {post : Int32 → SY → Prop} {key : Nat} {v : Int32} (hk : key < 100) (ht : th (300 + key) = false) (hc : cn_f th (3 * 100) 100 ≤ 24) (h2 : cn_f th (3 * 100) 100 = 24 → post (-2) ((nI nb), (eu_B th), yv, (eu_B opd), (eu_N sn))) (h : cn_f th (3 * 100) 100 < 24 → post 1 ((nI nb), (eu_B (un_f th (300 + key) true)), (upd yv (300 + key) v), (eu_B opd), (eu_N sn))) : wpY_put post ((nI nb), (eu_B th), yv, (eu_B opd), (eu_N sn)) (nI key) v := by
  unfold wpY_put
  refine yw_isKey1 hk (br_f (by decide) ?_)
  have e1 : eu_b false = nI 0 := rfl
  rw [ea_300, nI_add, nI_clamp (by omega), eu_Br, ht, e1]
  refine ⟨vp_in_nI (by omega) (by omega), nm_e (br_t nI_0 ?_)⟩
  refine yw_size3 ?_
  rw [ea_24, nI_eq (by omega) (by omega)]
  refine br_c (fun he => h2 he) (fun hn => ?_)
  unfold wY_put_38
  simp (disch := omega) only [forall_eq, true_implies, false_implies, not_true_eq_false, not_false_eq_true, and_true, true_and, ea_0, ea_1, ea_2, ea_3, ea_4, ea_5, ea_6, ea_24, ea_99, ea_100, ea_300, ea_n1, ea_n2, pk_mul, nI_add, pk_sub, ea_m1, nI_clamp, eu_Nr, eu_Br, eu_Pr, eu_pn, eu_nb, eu_i8, eu_pb, eu_pi, eu_vb0, eu_vb1, eu_vbb, eu_Nu, eu_Pu, eu_Pun, eu_Bu, eu_Bu0, eu_Bu1, ea_inT, nI_leI, Nat.zero_le, nI_ltI, nI_eq, eu_pl, eu_pg, eu_p2, eu_b0]
  exact h (by omega)
theorem fc_100 {kc ks : Nat → Nat} {vs : Nat → Int32} {bl : Nat → Nat} (gs : gs_b kc ks) : ∀ h p, ∀ e, e ∈ tr_fl (gp_c kc ks vs bl) h p → e.1 < 100 := by
  have hes : ∀ p, ∀ e, e ∈ (gp_c kc ks vs bl p).1 → e.1 < 100 := by
    intro p e he
    obtain ⟨i, _, rfl⟩ := (sg_mem _ _).mp he
    exact gs.2 _
  have hwr : ∀ (E : List kv_T) (L : List (List kv_T)), (∀ e, e ∈ E → e.1 < 100) → (∀ l, l ∈ L → ∀ e, e ∈ l → e.1 < 100) → ∀ e, e ∈ wr_l E L → e.1 < 100 := by
    intro E
    induction E with
    | nil => intro L _ _ e he; exact (nomatch he)
    | cons f E ih =>
      intro L h1 h2 e he
      cases L with
      | nil => exact (nomatch he)
      | cons l L =>
        have he' : e ∈ f :: (l ++ wr_l E L) := he
        rcases List.mem_cons.mp he' with h | h
        · rw [h]; exact h1 f (List.mem_cons_self ..)
        · rcases List.mem_append.mp h with h | h
          · exact h2 l (List.mem_cons_self ..) e h
          · exact ih L (fun e m => h1 e (List.mem_cons_of_mem _ m)) (fun l m => h2 l (List.mem_cons_of_mem _ m)) e h
  intro h
  induction h with
  | zero => intro p e he; exact hes p e he
  | succ h ih =>
    intro p e he
    have he' : e ∈ wv_l (gp_c kc ks vs bl p).1 ((gp_c kc ks vs bl p).2.map (tr_fl (gp_c kc ks vs bl) h)) := he
    have hL : ∀ l, l ∈ (gp_c kc ks vs bl p).2.map (tr_fl (gp_c kc ks vs bl) h) → ∀ e, e ∈ l → e.1 < 100 := by
      intro l hl e he
      obtain ⟨c, _, rfl⟩ := List.mem_map.mp hl
      exact ih c e he
    cases hh : (gp_c kc ks vs bl p).2.map (tr_fl (gp_c kc ks vs bl) h) with
    | nil => rw [hh] at he'; exact (nomatch he')
    | cons l L =>
      rw [hh] at he' hL
      have he2 : e ∈ l ++ wr_l (gp_c kc ks vs bl p).1 L := he'
      rcases List.mem_append.mp he2 with m | m
      · exact hL l (List.mem_cons_self ..) e m
      · exact hwr _ _ (hes p) (fun l m => hL l (List.mem_cons_of_mem _ m)) e m
theorem fc_ok {kc ks : Nat → Nat} {vs : Nat → Int32} {bl : Nat → Nat} {h c : Nat} (gs : gs_b kc ks) (T : gt_I (gp_c kc ks vs bl) h c) : so_l (tr_fc (gp_c kc ks vs bl) h c) ∧ (tr_fc (gp_c kc ks vs bl) h c).length ≤ 24 ∧ ∀ e, e ∈ tr_fc (gp_c kc ks vs bl) h c → e.1 < 100 := by
  unfold tr_fc
  split
  · rename_i hc
    have := T hc
    exact ⟨this.2.2.2.1, this.2.2.2.2, fc_100 gs h c⟩
  · exact ⟨List.Pairwise.nil, Nat.zero_le _, fun e he => (nomatch he)⟩
theorem so_ins {A B : List kv_T} {key : Nat} {v : Int32} (so : so_l (A ++ B)) (hA : ∀ e, e ∈ A → e.1 < key) (hB : ∀ e, e ∈ B → key < e.1) : so_l (A ++ (key, v) :: B) := by
  rw [so_app] at so
  rw [so_app, so_cons]
  refine ⟨so.1, ⟨hB, so.2.1⟩, fun a ha b hb => ?_⟩
  rcases List.mem_cons.mp hb with h | h
  · rw [h]; exact hA a ha
  · exact so.2.2 a ha b h
theorem so_set {A B : List kv_T} {key : Nat} {v0 v : Int32} (so : so_l (A ++ (key, v0) :: B)) : so_l (A ++ (key, v) :: B) := by
  rw [so_app, so_cons] at so
  refine so_ins ?_ (fun e h => so.2.2 e h (key, v0) (List.mem_cons_self ..)) so.2.1.1
  rw [so_app]
  exact ⟨so.1, so.2.1.2, fun a ha b hb => so.2.2 a ha b (List.mem_cons_of_mem _ hb)⟩
theorem so_del {A B : List kv_T} {e : kv_T} (so : so_l (A ++ e :: B)) : so_l (A ++ B) := so_sub (List.Sublist.append_left (List.sublist_cons_self ..) _) so
theorem i_vc_put {k : Nat} {u : SX} {v : SY} (I : i_Rel k u v) (hk : k + 3 ≤ 1536) (v1 : Int32) (v2 : Int32) : wpX_put (fun r u' => wpY_put (fun r' v' => r' = r ∧ i_Rel (k + 3) u' v') v v1 v2) u v1 v2 := by
  refine re_el (P := fun u v => wpX_put (fun r u' => wpY_put (fun r' v' => r' = r ∧ i_Rel (k + 3) u' v') v v1 v2) u v1 v2) I ?_
  intro we kc ks vs bl fr us mr ms mn mv ro sz nu wp wi wa nb th yv opd sn hs cm R
  have bad : (v1 < 0 ∨ nI 100 ≤ v1) → wpX_put (fun r u' => wpY_put (fun r' v' => r' = r ∧ i_Rel (k + 3) u' v') ((nI nb), (eu_B th), yv, (eu_B opd), (eu_N sn)) v1 v2) ((nI we), (eu_N kc), (eu_N ks), vs, (eu_P bl), (eu_B fr), (eu_B us), (eu_P mr), (eu_N ms), (eu_N mn), (eu_B mv), (eu_P ro), (eu_N sz), (eu_N nu), (eu_N wp), (eu_N wi), (eu_P wa)) v1 v2 := by
    intro hb
    unfold wpX_put
    refine xw_isKey0 hb (br_t (by trivial) ?_)
    unfold wpY_put
    exact yw_isKey0 hb (br_t (by trivial) ⟨by trivial, re_in (rl_up R)⟩)
  rcases pk_ix v1 (n := 100) (by omega) with h | h | ⟨key, hkey, rfl⟩
  · exact bad (Or.inl h)
  · exact bad (Or.inr h)
  · have R0 := R
    obtain ⟨⟨gs, T, RF⟩, ⟨r3, mrc, szs, msc⟩, ⟨c2, c3, c4, c5, c6⟩, rd, m3, m4⟩ := R
    have e3 : rc_f ro mv mr 3 = ro 3 := rc_lo (by omega)
    have T3 := T 3 (by omega)
    rw [e3] at T3
    obtain ⟨so, h24, h100⟩ := fc_ok gs T3
    have hcn := cn_len m3 so h100
    have W := wo_in T RF r3 c2
    have off : ∀ (b : Bool) (w : Int32) j, (j < 3 * 100 ∨ 3 * 100 + 100 ≤ j) → un_f th (300 + key) b j = th j ∧ upd yv (300 + key) w j = yv j := fun b w j hj => ⟨un_n (by omega), pk_un (by omega)⟩
    have nothere : ∀ A B : List kv_T, tr_fc (gp_c kc ks vs bl) (hs 3) (ro 3) = A ++ B → (∀ e, e ∈ A → e.1 < key) → (∀ e, e ∈ B → key < e.1) → th (300 + key) = false := by
      intro A B hAB hA hB
      cases ht : th (300 + key) with
      | false => rfl
      | true =>
        obtain ⟨w, hw⟩ := (m3 key hkey).1.mp ht
        rw [hAB] at hw
        rcases List.mem_append.mp hw with h | h
        · have := hA _ h; dsimp only at this; omega
        · have := hB _ h; dsimp only at this; omega
    refine xw_put hkey gs W so h24 (fun h => gt_12 T3 h) (szs 3 (by omega) r3) (fun A B v0 hAB we' kc' ks' vs' bl' fr' us' ro' wp' wi' wa' hs' gs' W' h1 h2 => ?_) (fun A B hAB hA hB h24' we' wp' wi' => ?_) (fun A B hAB hA hB hlt we' kc' ks' vs' bl' fr' us' ro' wp' wi' wa' hs' gs' W' h1 h2 => ?_)
    · rw [hAB] at m3 so h24
      refine yw_put1 hkey ((m3 key hkey).1.mpr ⟨v0, List.mem_append_right _ (List.mem_cons_self ..)⟩) ⟨by trivial, re_in (hs := hs') (rl_wr R0 gs' W' h1 h2 (so_set so) ?_ (mp_set m3 hkey so) (off true v2) ?_ (fun _ _ => rfl))⟩
      · rw [List.length_append, List.length_cons] at h24 ⊢; exact h24
      · rw [szs 3 (by omega) r3, hAB, List.length_append, List.length_cons, List.length_append, List.length_cons]
    · refine yw_put0 hkey (nothere A B hAB hA hB) (by rw [hcn]; exact h24) (fun _ => ⟨by trivial, re_in (rl_up R0)⟩) (fun h => ?_)
      rw [hcn] at h
      omega
    · have nt := nothere A B hAB hA hB
      refine yw_put0 hkey nt (by rw [hcn]; exact h24) (fun h => ?_) (fun _ => ⟨by trivial, re_in (hs := hs') (rl_wr R0 gs' W' h1 h2 ?_ ?_ ?_ (off true v2) ?_ (fun s hs => un_n hs))⟩)
      · rw [hcn] at h; omega
      · rw [hAB] at so; exact so_ins so hA hB
      · rw [hAB, List.length_append] at hlt
        rw [List.length_append, List.length_cons]; omega
      · rw [hAB] at m3; exact mp_ins m3 hkey hA hB
      · rw [un_s, hAB, List.length_append, List.length_append, List.length_cons]; omega
theorem yw_erase {nb : Nat} {th : Nat → Bool} {yv : Nat → Int32} {opd : Nat → Bool} {sn : Nat → Nat} {post : Int32 → SY → Prop} {key : Nat} (hk : key < 100) (h0 : th (300 + key) = false → post 0 ((nI nb), (eu_B (un_f th (300 + key) false)), yv, (eu_B opd), (eu_N sn))) (h1 : th (300 + key) = true → post 1 ((nI nb), (eu_B (un_f th (300 + key) false)), yv, (eu_B opd), (eu_N sn))) : wpY_erase post ((nI nb), (eu_B th), yv, (eu_B opd), (eu_N sn)) (nI key) := by
  unfold wpY_erase
  refine yw_isKey1 hk (br_f (by decide) ?_)
  have k28 : ∀ z : Int32, post z ((nI nb), (eu_B (un_f th (300 + key) false)), yv, (eu_B opd), (eu_N sn)) → wY_erase_28 post (nI key) z (nI nb) (eu_B th) yv (eu_B opd) (eu_N sn) := by
    intro z hz
    unfold wY_erase_28
    simp (disch := omega) only [forall_eq, true_implies, false_implies, not_true_eq_false, not_false_eq_true, and_true, true_and, ea_0, ea_1, ea_2, ea_3, ea_4, ea_5, ea_6, ea_24, ea_99, ea_100, ea_300, ea_n1, ea_n2, pk_mul, nI_add, pk_sub, ea_m1, nI_clamp, eu_Nr, eu_Br, eu_Pr, eu_pn, eu_nb, eu_i8, eu_pb, eu_pi, eu_vb0, eu_vb1, eu_vbb, eu_Nu, eu_Pu, eu_Pun, eu_Bu, eu_Bu0, eu_Bu1, ea_inT, nI_leI, Nat.zero_le, nI_ltI, nI_eq, eu_pl, eu_pg, eu_p2, eu_b0]
    exact hz
  rw [ea_300, nI_add, nI_clamp (by omega), eu_Br]
  refine ⟨vp_in_nI (by omega) (by omega), br_c (fun h => k28 0 (h0 ?_)) (fun h => k28 1 (h1 ?_))⟩
  · rw [ea_0, eu_b0] at h; exact h
  · rw [ea_0, eu_b0] at h
    cases hh : th (300 + key)
    · exact absurd hh h
    · rfl
theorem i_vc_erase {k : Nat} {u : SX} {v : SY} (I : i_Rel k u v) (hk : k + 3 ≤ 1536) (v1 : Int32) : wpX_erase (fun r u' => wpY_erase (fun r' v' => r' = r ∧ i_Rel (k + 3) u' v') v v1) u v1 := by
  refine re_el (P := fun u v => wpX_erase (fun r u' => wpY_erase (fun r' v' => r' = r ∧ i_Rel (k + 3) u' v') v v1) u v1) I ?_
  intro we kc ks vs bl fr us mr ms mn mv ro sz nu wp wi wa nb th yv opd sn hs cm R
  have bad : (v1 < 0 ∨ nI 100 ≤ v1) → wpX_erase (fun r u' => wpY_erase (fun r' v' => r' = r ∧ i_Rel (k + 3) u' v') ((nI nb), (eu_B th), yv, (eu_B opd), (eu_N sn)) v1) ((nI we), (eu_N kc), (eu_N ks), vs, (eu_P bl), (eu_B fr), (eu_B us), (eu_P mr), (eu_N ms), (eu_N mn), (eu_B mv), (eu_P ro), (eu_N sz), (eu_N nu), (eu_N wp), (eu_N wi), (eu_P wa)) v1 := by
    intro hb
    unfold wpX_erase
    refine xw_isKey0 hb (br_t (by trivial) ?_)
    unfold wpY_erase
    exact yw_isKey0 hb (br_t (by trivial) ⟨by trivial, re_in (rl_up R)⟩)
  rcases pk_ix v1 (n := 100) (by omega) with h | h | ⟨key, hkey, rfl⟩
  · exact bad (Or.inl h)
  · exact bad (Or.inr h)
  · have R0 := R
    obtain ⟨⟨gs, T, RF⟩, ⟨r3, mrc, szs, msc⟩, ⟨c2, c3, c4, c5, c6⟩, rd, m3, m4⟩ := R
    have e3 : rc_f ro mv mr 3 = ro 3 := rc_lo (by omega)
    have T3 := T 3 (by omega)
    rw [e3] at T3
    obtain ⟨so, h24, h100⟩ := fc_ok gs T3
    have W := wo_in T RF r3 c2
    refine xw_erase hkey gs W so h24 (fun h => gt_12 T3 h) (szs 3 (by omega) r3) (fun A B hAB hA hB we' wp' wi' => ?_) (fun A B v0 hAB we' kc' ks' vs' bl' fr' us' ro' wp' wi' wa' hs' gs' W' h1 h2 => ?_)
    · have nt : th (300 + key) = false := by
        cases ht : th (300 + key) with
        | false => rfl
        | true =>
          obtain ⟨w, hw⟩ := (m3 key hkey).1.mp ht
          rw [hAB] at hw
          rcases List.mem_append.mp hw with h | h
          · have := hA _ h; dsimp only at this; omega
          · have := hB _ h; dsimp only at this; omega
      have e : un_f th (300 + key) false = th := un_id nt
      refine yw_erase hkey (fun _ => ⟨by trivial, ?_⟩) (fun h => ?_)
      · rw [e]; exact re_in (rl_up R0)
      · rw [nt] at h; exact (nomatch h)
    · have m3' := m3
      rw [hAB] at m3' so h24
      have tt : th (300 + key) = true := (m3' key hkey).1.mpr ⟨v0, List.mem_append_right _ (List.mem_cons_self ..)⟩
      refine yw_erase hkey (fun h => ?_) (fun _ => ⟨by trivial, re_in (hs := hs') (rl_wr R0 gs' W' h1 h2 (so_del so) ?_ (mp_del m3' hkey so) (fun j hj => ⟨un_n (by omega), rfl⟩) ?_ (fun s hs => un_n hs))⟩)
      · rw [tt] at h; exact (nomatch h)
      · rw [List.length_append, List.length_cons] at h24
        rw [List.length_append]; omega
      · rw [un_s, hAB, List.length_append, List.length_cons, List.length_append]; omega
end
section
/-! has, get, next, size -/
theorem se_cs {we : Nat} {kc : Nat → Nat} {ks : Nat → Nat} {vs : Nat → Int32} {bl : Nat → Nat} {fr : Nat → Bool} {us : Nat → Bool} {mr : Nat → Nat} {ms : Nat → Nat} {mn : Nat → Nat} {mv : Nat → Bool} {ro : Nat → Nat} {sz : Nat → Nat} {nu : Nat → Nat} {wp : Nat → Nat} {wi : Nat → Nat} {wa : Nat → Nat} {nb : Nat} {th : Nat → Bool} {yv : Nat → Int32} {opd : Nat → Bool} {sn : Nat → Nat} {k : Nat} {hs : Nat → Nat} {cm : Nat} (R : rl_I k kc ks vs bl fr mr ms mn mv ro sz nu nb th yv opd sn hs cm) (p : Int32) :
    ((∀ post : Int32 → Prop, post 0 → wpX_sees post ((nI we), (eu_N kc), (eu_N ks), vs, (eu_P bl), (eu_B fr), (eu_B us), (eu_P mr), (eu_N ms), (eu_N mn), (eu_B mv), (eu_P ro), (eu_N sz), (eu_N nu), (eu_N wp), (eu_N wi), (eu_P wa)) p) ∧ (∀ post : Int32 → Prop, post 0 → wpY_sees post ((nI nb), (eu_B th), yv, (eu_B opd), (eu_N sn)) p)) ∨
    (∃ s, s < 4 ∧ p = nI s ∧ ro s ≤ 100 ∧ (∀ post : Int32 → Prop, post 1 → wpX_sees post ((nI we), (eu_N kc), (eu_N ks), vs, (eu_P bl), (eu_B fr), (eu_B us), (eu_P mr), (eu_N ms), (eu_N mn), (eu_B mv), (eu_P ro), (eu_N sz), (eu_N nu), (eu_N wp), (eu_N wi), (eu_P wa)) p) ∧ (∀ post : Int32 → Prop, post 1 → wpY_sees post ((nI nb), (eu_B th), yv, (eu_B opd), (eu_N sn)) p) ∧ mp_ok th yv s (tr_fc (gp_c kc ks vs bl) (hs s) (ro s))) := by
  obtain ⟨⟨gs, T, RF⟩, ⟨r3, mrc, szs, msc⟩, ⟨c2, c3, c4, c5, c6⟩, rd, m3, m4⟩ := R
  rcases pk_ix p (n := 4) (by omega) with h | h | ⟨s, hs4, rfl⟩
  · refine Or.inl ⟨fun post hp => ?_, fun post hp => ?_⟩
    · unfold wpX_sees; exact br_t h hp
    · unfold wpY_sees
      refine br_f (fun e => ?_) ?_
      · rw [e] at h; exact absurd h (by decide)
      · unfold wpY_isReader; exact br_t h (br_t (by trivial) hp)
  · have h3 : ¬ p < 0 := fun z => by
      rw [Int32.lt_iff_toInt_lt, Int32.toInt_zero] at z
      rw [Int32.le_iff_toInt_le, nI_toInt (by omega)] at h
      omega
    have h4 : 3 < p := by
      rw [Int32.le_iff_toInt_le, nI_toInt (by omega)] at h
      rw [Int32.lt_iff_toInt_lt, ea_3, nI_toInt (by omega)]
      omega
    refine Or.inl ⟨fun post hp => ?_, fun post hp => ?_⟩
    · unfold wpX_sees; exact br_f h3 (br_t h4 hp)
    · unfold wpY_sees
      refine br_f (fun e => ?_) ?_
      · rw [e] at h4; exact absurd h4 (by decide)
      · unfold wpY_isReader; exact br_f h3 (br_t (Int32.le_of_lt h4) (br_t (by trivial) hp))
  · have n0 : ¬ nI s < 0 := nI_pos (by omega)
    have n3 : ¬ (3 : Int32) < nI s := by rw [ea_3]; exact nI_nlt (by omega) (by omega)
    have xs : ∀ (post : Int32 → Prop), (101 ≤ ro s → post 0) → (ro s ≤ 100 → post 1) → wpX_sees post ((nI we), (eu_N kc), (eu_N ks), vs, (eu_P bl), (eu_B fr), (eu_B us), (eu_P mr), (eu_N ms), (eu_N mn), (eu_B mv), (eu_P ro), (eu_N sz), (eu_N nu), (eu_N wp), (eu_N wi), (eu_P wa)) (nI s) := by
      intro post h0 h1
      unfold wpX_sees
      refine br_f n0 (br_f n3 ⟨vp_in_nI hs4 (by omega), ?_⟩)
      rw [nI_clamp (by omega), eu_Pr, ea_e2, eu_p2]
      exact ⟨h0, fun h => h1 (by omega)⟩
    by_cases e3 : s = 3
    · subst e3
      refine Or.inr ⟨3, by omega, rfl, r3, fun post hp => xs post (fun h => by omega) (fun _ => hp), fun post hp => ?_, m3⟩
      unfold wpY_sees
      exact br_t (by decide +kernel) hp
    · have hr := rd s (by omega)
      have ys : ∀ (post : Int32 → Prop), (opd s = false → post 0) → (opd s = true → post 1) → wpY_sees post ((nI nb), (eu_B th), yv, (eu_B opd), (eu_N sn)) (nI s) := by
        intro post h0 h1
        unfold wpY_sees
        refine br_f (by rw [ea_3, nI_eq (by omega) (by omega)]; exact e3) ?_
        unfold wpY_isReader
        refine br_f n0 (br_f (by rw [ea_3]; exact nI_ge (by omega) (by omega)) (br_f (by decide) ⟨vp_in_nI (by omega) (by omega), ?_⟩))
        rw [nI_clamp (by omega), eu_Br, ea_0, eu_b0]
        refine ⟨h0, fun h => h1 ?_⟩
        cases hh : opd s
        · exact absurd hh h
        · rfl
      by_cases ho : ro s ≤ 100
      · have hop := hr.1.mpr ho
        refine Or.inr ⟨s, hs4, rfl, ho, fun post hp => xs post (fun h => by omega) (fun _ => hp), fun post hp => ys post (fun h => ?_) (fun _ => hp), (hr.2 hop).2⟩
        rw [hop] at h; exact (nomatch h)
      · refine Or.inl ⟨fun post hp => xs post (fun _ => hp) (fun h => absurd h ho), fun post hp => ys post (fun _ => hp) (fun h => absurd (hr.1.mp h) ho)⟩
theorem xw_has {we : Nat} {kc : Nat → Nat} {ks : Nat → Nat} {vs : Nat → Int32} {bl : Nat → Nat} {fr : Nat → Bool} {us : Nat → Bool} {mr : Nat → Nat} {ms : Nat → Nat} {mn : Nat → Nat} {mv : Nat → Bool} {ro : Nat → Nat} {sz : Nat → Nat} {nu : Nat → Nat} {wp : Nat → Nat} {wi : Nat → Nat} {wa : Nat → Nat} {post : Int32 → SX → Prop} {h s key : Nat} (gs : gs_b kc ks) (hs4 : s < 4) (hk : key < 100) (T : gt_I (gp_c kc ks vs bl) h (ro s)) (see : ∀ post : Int32 → Prop, post 1 → wpX_sees post ((nI we), (eu_N kc), (eu_N ks), vs, (eu_P bl), (eu_B fr), (eu_B us), (eu_P mr), (eu_N ms), (eu_N mn), (eu_B mv), (eu_P ro), (eu_N sz), (eu_N nu), (eu_N wp), (eu_N wi), (eu_P wa)) (nI s))
    (K0 : (∀ v, (key, v) ∉ tr_fc (gp_c kc ks vs bl) h (ro s)) → ∀ (we' : Nat) (wp' wi' : Nat → Nat), post 0 ((nI we'), (eu_N kc), (eu_N ks), vs, (eu_P bl), (eu_B fr), (eu_B us), (eu_P mr), (eu_N ms), (eu_N mn), (eu_B mv), (eu_P ro), (eu_N sz), (eu_N nu), (eu_N wp'), (eu_N wi'), (eu_P wa)))
    (K1 : ∀ (m : Nat) (wp' wi' : Nat → Nat), m < 8 → wp' m < 100 → wi' m < 5 → (key, vs (5 * wp' m + wi' m)) ∈ tr_fc (gp_c kc ks vs bl) h (ro s) → post 1 ((nI (m + 1)), (eu_N kc), (eu_N ks), vs, (eu_P bl), (eu_B fr), (eu_B us), (eu_P mr), (eu_N ms), (eu_N mn), (eu_B mv), (eu_P ro), (eu_N sz), (eu_N nu), (eu_N wp'), (eu_N wi'), (eu_P wa))) :
    wpX_has post ((nI we), (eu_N kc), (eu_N ks), vs, (eu_P bl), (eu_B fr), (eu_B us), (eu_P mr), (eu_N ms), (eu_N mn), (eu_B mv), (eu_P ro), (eu_N sz), (eu_N nu), (eu_N wp), (eu_N wi), (eu_P wa)) (nI s) (nI key) := by
  unfold wpX_has
  refine see _ (br_f (by decide) ?_)
  refine xw_isKey1 hk (br_f (by decide) ⟨vp_in_nI hs4 (by omega), ?_⟩)
  rw [nI_clamp (by omega), eu_Pr]
  refine xw_find (h := h) hk gs (fun hc => ⟨(T hc).1, (T hc).2.2.2.1, (gt_12 T hc).2⟩) (fun hc => ?_) (fun hc m wp' wi' hm w0 hp hsp hv => ?_) (fun hc wp' wi' w0 hp hil hsp => ?_)
  · dsimp only
    refine br_t (by trivial) (K0 (fun v hv => ?_) 0 wp wi)
    rw [show tr_fc (gp_c kc ks vs bl) h (ro s) = [] from if_neg (by omega)] at hv
    exact (nomatch hv)
  · obtain ⟨v, hv⟩ := hv
    have hsh := (T hc).1
    rw [← w0] at hsh
    have hi : wi' m < kc (wp' m) := by
      refine Nat.lt_of_not_le (fun hn => ?_)
      rw [List.getElem?_eq_none (by rw [gp_len]; exact hn)] at hv
      exact (nomatch hv)
    have h5 := gs.1 (wp' m)
    obtain ⟨A, B, hAB⟩ := fd_at hsh hm hp hv
    rw [gp_at hi] at hv
    have hkv := Prod.mk.inj (Option.some.inj hv)
    have h2 := (gt_12 T hc).2
    dsimp only
    refine br_f (by decide) (K1 m wp' wi' (by omega) ((tr_pti hsh hm hp).1 m (Nat.le_refl _)) (by omega) ?_)
    rw [show tr_fc (gp_c kc ks vs bl) h (ro s) = tr_fl (gp_c kc ks vs bl) h (ro s) from if_pos hc, ← w0, hAB, hkv.2]
    exact List.mem_append_right _ (List.mem_cons_self ..)
  · have hsh := (T hc).1
    have so := (T hc).2.2.2.1
    rw [← w0] at hsh so
    obtain ⟨A, B, hAB, hA, hB⟩ := fd_no hsh so hp hsp
    dsimp only
    refine br_t (by trivial) (K0 (fun v hv => ?_) _ wp' wi')
    rw [show tr_fc (gp_c kc ks vs bl) h (ro s) = tr_fl (gp_c kc ks vs bl) h (ro s) from if_pos hc, ← w0, hAB] at hv
    rcases List.mem_append.mp hv with hv | hv
    · have := hA _ hv; dsimp only at this; omega
    · have := hB _ hv; dsimp only at this; omega
theorem yw_has {nb : Nat} {th : Nat → Bool} {yv : Nat → Int32} {opd : Nat → Bool} {sn : Nat → Nat} {post : Int32 → Prop} {s key : Nat} (hs : s < 4) (hk : key < 100) (see : ∀ post : Int32 → Prop, post 1 → wpY_sees post ((nI nb), (eu_B th), yv, (eu_B opd), (eu_N sn)) (nI s)) (h0 : th (s * 100 + key) = false → post 0) (h1 : th (s * 100 + key) = true → post 1) : wpY_has post ((nI nb), (eu_B th), yv, (eu_B opd), (eu_N sn)) (nI s) (nI key) := by
  unfold wpY_has
  refine yw_isKey1 hk (br_f (by decide) (see _ (br_f (by decide) ?_)))
  simp (disch := omega) only [ea_100, pk_mul, nI_add, nI_clamp, ea_inT, eu_Br, ea_0, eu_b0, true_and]
  refine ⟨fun h => h0 h, fun h => h1 ?_⟩
  cases hh : th (s * 100 + key)
  · exact absurd hh h
  · rfl
/-- the bad cases of has: both answer 0 -/
theorem ha_no {we : Nat} {kc : Nat → Nat} {ks : Nat → Nat} {vs : Nat → Int32} {bl : Nat → Nat} {fr : Nat → Bool} {us : Nat → Bool} {mr : Nat → Nat} {ms : Nat → Nat} {mn : Nat → Nat} {mv : Nat → Bool} {ro : Nat → Nat} {sz : Nat → Nat} {nu : Nat → Nat} {wp : Nat → Nat} {wi : Nat → Nat} {wa : Nat → Nat} {nb : Nat} {th : Nat → Bool} {yv : Nat → Int32} {opd : Nat → Bool} {sn : Nat → Nat} {v1 v2 : Int32} (no : ((∀ post : Int32 → Prop, post 0 → wpX_sees post ((nI we), (eu_N kc), (eu_N ks), vs, (eu_P bl), (eu_B fr), (eu_B us), (eu_P mr), (eu_N ms), (eu_N mn), (eu_B mv), (eu_P ro), (eu_N sz), (eu_N nu), (eu_N wp), (eu_N wi), (eu_P wa)) v1) ∧ (∀ post : Int32 → Prop, post 0 → wpY_sees post ((nI nb), (eu_B th), yv, (eu_B opd), (eu_N sn)) v1)) ∨ ((∀ post : Int32 → Prop, post 1 → wpX_sees post ((nI we), (eu_N kc), (eu_N ks), vs, (eu_P bl), (eu_B fr), (eu_B us), (eu_P mr), (eu_N ms), (eu_N mn), (eu_B mv), (eu_P ro), (eu_N sz), (eu_N nu), (eu_N wp), (eu_N wi), (eu_P wa)) v1) ∧ (v2 < 0 ∨ nI 100 ≤ v2))) :
    (∀ post : Int32 → SX → Prop, post 0 ((nI we), (eu_N kc), (eu_N ks), vs, (eu_P bl), (eu_B fr), (eu_B us), (eu_P mr), (eu_N ms), (eu_N mn), (eu_B mv), (eu_P ro), (eu_N sz), (eu_N nu), (eu_N wp), (eu_N wi), (eu_P wa)) → wpX_has post ((nI we), (eu_N kc), (eu_N ks), vs, (eu_P bl), (eu_B fr), (eu_B us), (eu_P mr), (eu_N ms), (eu_N mn), (eu_B mv), (eu_P ro), (eu_N sz), (eu_N nu), (eu_N wp), (eu_N wi), (eu_P wa)) v1 v2) ∧ (∀ post : Int32 → Prop, post 0 → wpY_has post ((nI nb), (eu_B th), yv, (eu_B opd), (eu_N sn)) v1 v2) := by
  refine ⟨fun post hp => ?_, fun post hp => ?_⟩
  · unfold wpX_has
    rcases no with ⟨h, _⟩ | ⟨h, hb⟩
    · exact h _ (br_t (by trivial) hp)
    · exact h _ (br_f (by decide) (xw_isKey0 hb (br_t (by trivial) hp)))
  · unfold wpY_has
    rcases no with ⟨_, h⟩ | ⟨_, hb⟩
    · rcases pk_ix v2 (n := 100) (by omega) with h' | h' | ⟨key, hkey, rfl⟩
      · exact yw_isKey0 (Or.inl h') (br_t (by trivial) hp)
      · exact yw_isKey0 (Or.inr h') (br_t (by trivial) hp)
      · exact yw_isKey1 hkey (br_f (by decide) (h _ (br_t (by trivial) hp)))
    · exact yw_isKey0 hb (br_t (by trivial) hp)
theorem i_vc_has {k : Nat} {u : SX} {v : SY} (I : i_Rel k u v) (hk : k + 3 ≤ 1536) (v1 : Int32) (v2 : Int32) : wpX_has (fun r u' => wpY_has (fun r' => r' = r ∧ i_Rel (k + 3) u' v) v v1 v2) u v1 v2 := by
  refine re_el (P := fun u v => wpX_has (fun r u' => wpY_has (fun r' => r' = r ∧ i_Rel (k + 3) u' v) v v1 v2) u v1 v2) I ?_
  intro we kc ks vs bl fr us mr ms mn mv ro sz nu wp wi wa nb th yv opd sn hs cm R
  rcases se_cs (we := we) (us := us) (wp := wp) (wi := wi) (wa := wa) R v1 with h | ⟨s, hs4, rfl, hro, sx, sy, M⟩
  · have H := ha_no (v2 := v2) (Or.inl h)
    exact H.1 _ (H.2 _ ⟨by trivial, re_in (rl_up R)⟩)
  · rcases pk_ix v2 (n := 100) (by omega) with h' | h' | ⟨key, hkey, rfl⟩
    · have H := ha_no (v1 := nI s) (v2 := v2) (nb := nb) (th := th) (yv := yv) (opd := opd) (sn := sn) (Or.inr ⟨sx, Or.inl h'⟩)
      exact H.1 _ (H.2 _ ⟨by trivial, re_in (rl_up R)⟩)
    · have H := ha_no (v1 := nI s) (v2 := v2) (nb := nb) (th := th) (yv := yv) (opd := opd) (sn := sn) (Or.inr ⟨sx, Or.inr h'⟩)
      exact H.1 _ (H.2 _ ⟨by trivial, re_in (rl_up R)⟩)
    · have Ts := R.1.2.1 s (by omega)
      rw [rc_lo hs4] at Ts
      refine xw_has R.1.1 hs4 hkey Ts sx (fun hn we' wp' wi' => ?_) (fun m wp' wi' m1 m2 m3 m4 => ?_)
      · refine yw_has hs4 hkey sy (fun _ => ⟨by trivial, re_in (rl_up R)⟩) (fun h => ?_)
        obtain ⟨w, hw⟩ := (M key hkey).1.mp h
        exact absurd hw (hn w)
      · refine yw_has hs4 hkey sy (fun h => ?_) (fun _ => ⟨by trivial, re_in (rl_up R)⟩)
        have := (M key hkey).1.mpr ⟨_, m4⟩
        rw [h] at this; exact (nomatch this)
theorem i_vc_get {k : Nat} {u : SX} {v : SY} (I : i_Rel k u v) (hk : k + 3 ≤ 1536) (v1 : Int32) (v2 : Int32) : wpX_get (fun r u' => wpY_get (fun r' => r' = r ∧ i_Rel (k + 3) u' v) v v1 v2) u v1 v2 := by
  refine re_el (P := fun u v => wpX_get (fun r u' => wpY_get (fun r' => r' = r ∧ i_Rel (k + 3) u' v) v v1 v2) u v1 v2) I ?_
  intro we kc ks vs bl fr us mr ms mn mv ro sz nu wp wi wa nb th yv opd sn hs cm R
  unfold wpX_get
  rcases se_cs (we := we) (us := us) (wp := wp) (wi := wi) (wa := wa) R v1 with h | ⟨s, hs4, rfl, hro, sx, sy, M⟩
  · have H := ha_no (v2 := v2) (Or.inl h)
    refine H.1 _ ?_
    dsimp only
    refine br_t (by trivial) ?_
    unfold wpY_get
    exact H.2 _ (br_t (by trivial) ⟨by trivial, re_in (rl_up R)⟩)
  · rcases pk_ix v2 (n := 100) (by omega) with h' | h' | ⟨key, hkey, rfl⟩
    · have H := ha_no (v1 := nI s) (v2 := v2) (nb := nb) (th := th) (yv := yv) (opd := opd) (sn := sn) (Or.inr ⟨sx, Or.inl h'⟩)
      refine H.1 _ ?_
      dsimp only
      refine br_t (by trivial) ?_
      unfold wpY_get
      exact H.2 _ (br_t (by trivial) ⟨by trivial, re_in (rl_up R)⟩)
    · have H := ha_no (v1 := nI s) (v2 := v2) (nb := nb) (th := th) (yv := yv) (opd := opd) (sn := sn) (Or.inr ⟨sx, Or.inr h'⟩)
      refine H.1 _ ?_
      dsimp only
      refine br_t (by trivial) ?_
      unfold wpY_get
      exact H.2 _ (br_t (by trivial) ⟨by trivial, re_in (rl_up R)⟩)
    · have Ts := R.1.2.1 s (by omega)
      rw [rc_lo hs4] at Ts
      refine xw_has R.1.1 hs4 hkey Ts sx (fun hn we' wp' wi' => ?_) (fun m wp' wi' m1 m2 m3 m4 => ?_)
      · dsimp only
        refine br_t (by trivial) ?_
        unfold wpY_get
        refine yw_has hs4 hkey sy (fun _ => br_t (by trivial) ⟨by trivial, re_in (rl_up R)⟩) (fun h => ?_)
        obtain ⟨w, hw⟩ := (M key hkey).1.mp h
        exact absurd hw (hn w)
      · dsimp only
        refine br_f (by decide) ?_
        simp (disch := omega) only [ea_1, ea_5, pk_mul, nI_add, pk_sub, Nat.add_sub_cancel, nI_clamp, ea_inT, eu_Nr, true_and]
        unfold wpY_get
        refine yw_has hs4 hkey sy (fun h => ?_) (fun _ => br_f (by decide) ?_)
        · have := (M key hkey).1.mpr ⟨_, m4⟩
          rw [h] at this; exact (nomatch this)
        · simp (disch := omega) only [ea_100, pk_mul, nI_add, nI_clamp, ea_inT, true_and]
          exact ⟨(M key hkey).2 _ m4, re_in (rl_up R)⟩
theorem i_vc_size {k : Nat} {u : SX} {v : SY} (I : i_Rel k u v) (hk : k + 3 ≤ 1536) (v1 : Int32) : wpX_size (fun r => wpY_size (fun r' => r' = r ∧ i_Rel (k + 3) u v) v v1) u v1 := by
  refine re_el (P := fun u v => wpX_size (fun r => wpY_size (fun r' => r' = r ∧ i_Rel (k + 3) u v) v v1) u v1) I ?_
  intro we kc ks vs bl fr us mr ms mn mv ro sz nu wp wi wa nb th yv opd sn hs cm R
  unfold wpX_size
  rcases se_cs (we := we) (us := us) (wp := wp) (wi := wi) (wa := wa) R v1 with ⟨sx, sy⟩ | ⟨s, hs4, rfl, hro, sx, sy, M⟩
  · refine sx _ (br_t (by trivial) ?_)
    unfold wpY_size
    exact sy _ (br_t (by trivial) ⟨by trivial, re_in (rl_up R)⟩)
  · have Ts := R.1.2.1 s (by omega)
    rw [rc_lo hs4] at Ts
    obtain ⟨so, h24, h100⟩ := fc_ok R.1.1 Ts
    refine sx _ (br_f (by decide) ⟨vp_in_nI hs4 (by omega), ?_⟩)
    rw [nI_clamp (by omega), eu_Nr, R.2.1.2.2.1 s hs4 hro, ← cn_len M so h100]
    unfold wpY_size
    refine sy _ (br_f (by decide) ⟨101, ?_⟩)
    rw [ea_0]
    refine yw_size14 (s := s) (by omega) 100 0 0 (by omega) ⟨?_, re_in (rl_up R)⟩
    rw [Nat.zero_add]
    rfl
theorem i_vc_next {k : Nat} {u : SX} {v : SY} (I : i_Rel k u v) (hk : k + 3 ≤ 1536) (v1 : Int32) (v2 : Int32) : wpX_next (fun r => wpY_next (fun r' => r' = r ∧ i_Rel (k + 3) u v) v v1 v2) u v1 v2 := by
  refine re_el (P := fun u v => wpX_next (fun r => wpY_next (fun r' => r' = r ∧ i_Rel (k + 3) u v) v v1 v2) u v1 v2) I ?_
  intro we kc ks vs bl fr us mr ms mn mv ro sz nu wp wi wa nb th yv opd sn hs cm R
  unfold wpX_next
  rcases se_cs (we := we) (us := us) (wp := wp) (wi := wi) (wa := wa) R v1 with ⟨sx, sy⟩ | ⟨s, hs4, rfl, hro, sx, sy, M⟩
  · refine sx _ (br_t (by trivial) ?_)
    unfold wpY_next
    exact sy _ (br_t (by trivial) ⟨by trivial, re_in (rl_up R)⟩)
  · have Ts := R.1.2.1 s (by omega)
    rw [rc_lo hs4] at Ts
    obtain ⟨so, h24, h100⟩ := fc_ok R.1.1 Ts
    have yn : ∀ A B : List kv_T, tr_fc (gp_c kc ks vs bl) (hs s) (ro s) = A ++ B → (∀ e, e ∈ A → (e.1 : Int) ≤ v2.toInt) → (∀ e, e ∈ B → v2.toInt < (e.1 : Int)) → wpY_next (fun r' => r' = nx_h B (-3) ∧ i_Rel (k + 3) ((nI we), (eu_N kc), (eu_N ks), vs, (eu_P bl), (eu_B fr), (eu_B us), (eu_P mr), (eu_N ms), (eu_N mn), (eu_B mv), (eu_P ro), (eu_N sz), (eu_N nu), (eu_N wp), (eu_N wi), (eu_P wa)) ((nI nb), (eu_B th), yv, (eu_B opd), (eu_N sn))) ((nI nb), (eu_B th), yv, (eu_B opd), (eu_N sn)) (nI s) v2 := by
      intro A B hAB hA hB
      have inB : ∀ j : Nat, j < 100 → v2.toInt < (j : Int) → th (s * 100 + j) = true → ∃ w, (j, w) ∈ B := by
        intro j hj hlt ht
        obtain ⟨w, hw⟩ := (M j hj).1.mp ht
        rw [hAB] at hw
        rcases List.mem_append.mp hw with h | h
        · have := hA _ h
          dsimp only at this
          omega
        · exact ⟨w, h⟩
      unfold wpY_next
      refine sy _ (br_f (by decide) ⟨101, ?_⟩)
      rw [ea_0]
      refine yw_next12 (by omega) (fun hn => ?_) (fun j hj hlt ht hmin => ?_) 100 0 (by omega) (fun j hj => absurd hj (by omega))
      · cases B with
        | nil => exact ⟨rfl, re_in (rl_up R)⟩
        | cons e B =>
          have e100 := h100 e (by rw [hAB]; exact List.mem_append_right _ (List.mem_cons_self ..))
          refine absurd ⟨hB e (List.mem_cons_self ..), (M e.1 e100).1.mpr ⟨e.2, ?_⟩⟩ (hn e.1 e100)
          rw [hAB]; exact List.mem_append_right _ (List.mem_cons_self ..)
      · obtain ⟨w, hw⟩ := inB j hj hlt ht
        cases B with
        | nil => exact (nomatch hw)
        | cons e B =>
          have e100 := h100 e (by rw [hAB]; exact List.mem_append_right _ (List.mem_cons_self ..))
          have te : th (s * 100 + e.1) = true := (M e.1 e100).1.mpr ⟨e.2, by rw [hAB]; exact List.mem_append_right _ (List.mem_cons_self ..)⟩
          have soB := so
          rw [hAB, so_app, so_cons] at soB
          have h1 : e.1 ≤ j := by
            rcases List.mem_cons.mp hw with h | h
            · rw [← h]; exact Nat.le_refl _
            · have := soB.2.1.1 _ h
              dsimp only at this
              omega
          have h2 : ¬ e.1 < j := fun z => hmin e.1 z ⟨hB e (List.mem_cons_self ..), te⟩
          have : j = e.1 := by omega
          rw [this]
          exact ⟨rfl, re_in (rl_up R)⟩
    refine sx _ (br_f (by decide) ⟨vp_in_nI hs4 (by omega), ?_⟩)
    rw [nI_clamp (by omega), eu_Pr]
    by_cases hc : ro s < 100
    · rw [eu_pn hc]
      refine nm_e ⟨hs s + 2, ?_⟩
      refine xw_next21 R.1.1 (hs s) (ro s) (-3) (Ts hc).1 (Ts hc).2.2.2.1 (fun A B hAB hA hB => ?_)
      exact yn A B (by rw [← hAB]; exact if_pos hc) hA hB
    · refine nm_e ⟨1, ?_⟩
      rw [wX_next_21]
      refine br_t (by rw [ea_0, eu_pl]; omega) ?_
      exact yn [] [] (if_neg hc) (fun e h => (nomatch h)) (fun e h => (nomatch h))
end
section
/-! the committed state: walks -/
theorem xw_vm {we : Nat} {kc : Nat → Nat} {ks : Nat → Nat} {vs : Nat → Int32} {bl : Nat → Nat} {fr : Nat → Bool} {us : Nat → Bool} {mr : Nat → Nat} {ms : Nat → Nat} {mn : Nat → Nat} {mv : Nat → Bool} {ro : Nat → Nat} {sz : Nat → Nat} {nu : Nat → Nat} {wp : Nat → Nat} {wi : Nat → Nat} {wa : Nat → Nat} {post : Int32 → Prop} {cm nb' : Nat} (c2 : cm < 2) (c3 : mv cm = true) (c4 : mn cm = nb') (c5 : mv (1 - cm) = true → mn (1 - cm) < nb') (c6 : nb' ≤ 1536) (h : post (nI cm)) : wpX_validMeta post ((nI we), (eu_N kc), (eu_N ks), vs, (eu_P bl), (eu_B fr), (eu_B us), (eu_P mr), (eu_N ms), (eu_N mn), (eu_B mv), (eu_P ro), (eu_N sz), (eu_N nu), (eu_N wp), (eu_N wi), (eu_P wa)) := by
  have e1 : eu_b true = nI 1 := rfl
  have bt : ∀ b : Bool, ¬ b = false → b = true := fun b => by cases b; exact fun h => absurd rfl h; exact fun _ => rfl
  unfold wpX_validMeta
  dsimp only
  rw [eu_Br, eu_Br, eu_Nr, eu_Nr, ea_0, eu_b0, eu_b0]
  obtain rfl | rfl : cm = 0 ∨ cm = 1 := by omega
  · refine br_f (by rw [c3]; decide) (br_c (fun _ => h) (fun h1 => br_f ?_ h))
    have := c5 (bt _ h1)
    exact nI_ge (by show mn (1 - 0) < mn 0; omega) (by omega)
  · refine br_c (fun _ => by rw [ea_1]; exact h) (fun h0 => br_f (by rw [c3]; decide) (br_t ?_ (by rw [ea_1]; exact h)))
    have := c5 (bt _ h0)
    exact nI_le (by show mn (1 - 1) ≤ mn 1; omega) (by omega)
theorem xw_settle2 {we : Nat} {kc : Nat → Nat} {ks : Nat → Nat} {vs : Nat → Int32} {bl : Nat → Nat} {us : Nat → Bool} {mr : Nat → Nat} {ms : Nat → Nat} {mn : Nat → Nat} {mv : Nat → Bool} {ro : Nat → Nat} {sz : Nat → Nat} {nu : Nat → Nat} {wp : Nat → Nat} {wi : Nat → Nat} {wa : Nat → Nat} {post : SX → Prop} (K : ∀ fr' : Nat → Bool, (∀ j, j < 100 → fr' j = false) → post ((nI we), (eu_N kc), (eu_N ks), vs, (eu_P bl), (eu_B fr'), (eu_B us), (eu_P mr), (eu_N ms), (eu_N mn), (eu_B mv), (eu_P ro), (eu_N sz), (eu_N nu), (eu_N wp), (eu_N wi), (eu_P wa))) : ∀ (d i : Nat) (fr : Nat → Bool), i + d = 100 → (∀ j, j < i → fr j = false) → wX_settle_2 post (nI we) (d + 1) (nI i) (eu_N kc) (eu_N ks) vs (eu_P bl) (eu_B fr) (eu_B us) (eu_P mr) (eu_N ms) (eu_N mn) (eu_B mv) (eu_P ro) (eu_N sz) (eu_N nu) (eu_N wp) (eu_N wi) (eu_P wa) := by
  intro d
  induction d with
  | zero =>
    intro i fr hi hf
    rw [wX_settle_2]
    refine br_t ?_ (K fr (fun j hj => hf j (by omega)))
    rw [ea_100]; exact nI_le (by omega) (by omega)
  | succ d ih =>
    intro i fr hi hf
    rw [wX_settle_2]
    refine br_f (by rw [ea_100]; exact nI_ge (by omega) (by omega)) ?_
    simp (disch := omega) only [forall_eq, true_implies, false_implies, not_true_eq_false, not_false_eq_true, and_true, true_and, ea_0, ea_1, ea_2, ea_3, ea_4, ea_5, ea_6, ea_24, ea_99, ea_100, ea_300, ea_n1, ea_n2, pk_mul, nI_add, pk_sub, ea_m1, nI_clamp, eu_Nr, eu_Br, eu_Pr, eu_pn, eu_nb, eu_i8, eu_pb, eu_pi, eu_vb0, eu_vb1, eu_vbb, eu_Nu, eu_Pu, eu_Pun, eu_Bu, eu_Bu0, eu_Bu1, ea_inT, nI_leI, Nat.zero_le, nI_ltI, nI_eq, eu_pl, eu_pg, eu_p2, eu_b0]
    refine ih (i + 1) _ (by omega) (fun j hj => ?_)
    by_cases e : j = i
    · subst e; exact un_s
    · rw [un_n e]; exact hf j (by omega)
theorem xw_settle {we : Nat} {kc : Nat → Nat} {ks : Nat → Nat} {vs : Nat → Int32} {bl : Nat → Nat} {fr : Nat → Bool} {us : Nat → Bool} {mr : Nat → Nat} {ms : Nat → Nat} {mn : Nat → Nat} {mv : Nat → Bool} {ro : Nat → Nat} {sz : Nat → Nat} {nu : Nat → Nat} {wp : Nat → Nat} {wi : Nat → Nat} {wa : Nat → Nat} {post : SX → Prop} (K : ∀ fr' : Nat → Bool, (∀ j, j < 100 → fr' j = false) → post ((nI we), (eu_N kc), (eu_N ks), vs, (eu_P bl), (eu_B fr'), (eu_B us), (eu_P mr), (eu_N ms), (eu_N mn), (eu_B mv), (eu_P ro), (eu_N sz), (eu_N nu), (eu_N wp), (eu_N wi), (eu_P wa))) : wpX_settle post ((nI we), (eu_N kc), (eu_N ks), vs, (eu_P bl), (eu_B fr), (eu_B us), (eu_P mr), (eu_N ms), (eu_N mn), (eu_B mv), (eu_P ro), (eu_N sz), (eu_N nu), (eu_N wp), (eu_N wi), (eu_P wa)) := by
  unfold wpX_settle
  dsimp only
  refine ⟨101, ?_⟩
  rw [ea_0]
  exact xw_settle2 K 100 0 fr (by omega) (fun j hj => absurd hj (by omega))
theorem xw_loadWriter {we : Nat} {kc : Nat → Nat} {ks : Nat → Nat} {vs : Nat → Int32} {bl : Nat → Nat} {fr : Nat → Bool} {us : Nat → Bool} {mr : Nat → Nat} {ms : Nat → Nat} {mn : Nat → Nat} {mv : Nat → Bool} {ro : Nat → Nat} {sz : Nat → Nat} {nu : Nat → Nat} {wp : Nat → Nat} {wi : Nat → Nat} {wa : Nat → Nat} {post : SX → Prop} {cm nb' : Nat} (c2 : cm < 2) (c3 : mv cm = true) (c4 : mn cm = nb') (c5 : mv (1 - cm) = true → mn (1 - cm) < nb') (c6 : nb' ≤ 1536) (hms : ms cm < 128)
    (K : ∀ fr' : Nat → Bool, (∀ j, j < 100 → fr' j = false) → post ((nI we), (eu_N kc), (eu_N ks), vs, (eu_P bl), (eu_B fr'), (eu_B us), (eu_P mr), (eu_N ms), (eu_N mn), (eu_B mv), (eu_P (un_f ro 3 (mr cm))), (eu_N (un_f sz 3 (ms cm))), (eu_N nu), (eu_N wp), (eu_N wi), (eu_P wa))) : wpX_loadWriter post ((nI we), (eu_N kc), (eu_N ks), vs, (eu_P bl), (eu_B fr), (eu_B us), (eu_P mr), (eu_N ms), (eu_N mn), (eu_B mv), (eu_P ro), (eu_N sz), (eu_N nu), (eu_N wp), (eu_N wi), (eu_P wa)) := by
  unfold wpX_loadWriter
  refine xw_vm c2 c3 c4 c5 c6 ?_
  refine xw_settle (fun fr' hf => ?_)
  dsimp only
  simp (disch := omega) only [forall_eq, true_implies, false_implies, not_true_eq_false, not_false_eq_true, and_true, true_and, ea_0, ea_1, ea_2, ea_3, ea_4, ea_5, ea_6, ea_24, ea_99, ea_100, ea_300, ea_n1, ea_n2, pk_mul, nI_add, pk_sub, ea_m1, nI_clamp, eu_Nr, eu_Br, eu_Pr, eu_pn, eu_nb, eu_i8, eu_pb, eu_pi, eu_vb0, eu_vb1, eu_vbb, eu_Nu, eu_Pu, eu_Pun, eu_Bu, eu_Bu0, eu_Bu1, ea_inT, nI_leI, Nat.zero_le, nI_ltI, nI_eq, eu_pl, eu_pg, eu_p2, eu_b0]
  exact K fr' hf
theorem xw_number {we : Nat} {kc : Nat → Nat} {ks : Nat → Nat} {vs : Nat → Int32} {bl : Nat → Nat} {fr : Nat → Bool} {us : Nat → Bool} {mr : Nat → Nat} {ms : Nat → Nat} {mn : Nat → Nat} {mv : Nat → Bool} {ro : Nat → Nat} {sz : Nat → Nat} {nu : Nat → Nat} {wp : Nat → Nat} {wi : Nat → Nat} {wa : Nat → Nat} {post : Int32 → Prop} {cm nb' : Nat} (c2 : cm < 2) (c3 : mv cm = true) (c4 : mn cm = nb') (c5 : mv (1 - cm) = true → mn (1 - cm) < nb') (c6 : nb' ≤ 1536) (h : post (nI nb')) : wpX_number post ((nI we), (eu_N kc), (eu_N ks), vs, (eu_P bl), (eu_B fr), (eu_B us), (eu_P mr), (eu_N ms), (eu_N mn), (eu_B mv), (eu_P ro), (eu_N sz), (eu_N nu), (eu_N wp), (eu_N wi), (eu_P wa)) := by
  unfold wpX_number
  refine xw_vm c2 c3 c4 c5 c6 ⟨vp_in_nI c2 (by omega), ?_⟩
  rw [nI_clamp (by omega), eu_Nr, c4]
  exact h
theorem xw_writeMeta {we : Nat} {kc : Nat → Nat} {ks : Nat → Nat} {vs : Nat → Int32} {bl : Nat → Nat} {fr : Nat → Bool} {us : Nat → Bool} {mr : Nat → Nat} {ms : Nat → Nat} {mn : Nat → Nat} {mv : Nat → Bool} {ro : Nat → Nat} {sz : Nat → Nat} {nu : Nat → Nat} {wp : Nat → Nat} {wi : Nat → Nat} {wa : Nat → Nat} {post : SX → Prop} {cm nb' : Nat} {b : Bool} (c2 : cm < 2) (c3 : mv cm = true) (c4 : mn cm = nb') (c5 : mv (1 - cm) = true → mn (1 - cm) < nb') (c6 : nb' ≤ 1536) (hsz : sz 3 < 128)
    (h : post ((nI we), (eu_N kc), (eu_N ks), vs, (eu_P bl), (eu_B fr), (eu_B us), (eu_P (un_f mr (1 - cm) (ro 3))), (eu_N (un_f ms (1 - cm) (sz 3))), (eu_N (un_f mn (1 - cm) (nb' + 1))), (eu_B (un_f mv (1 - cm) b)), (eu_P ro), (eu_N sz), (eu_N nu), (eu_N wp), (eu_N wi), (eu_P wa))) : wpX_writeMeta post ((nI we), (eu_N kc), (eu_N ks), vs, (eu_P bl), (eu_B fr), (eu_B us), (eu_P mr), (eu_N ms), (eu_N mn), (eu_B mv), (eu_P ro), (eu_N sz), (eu_N nu), (eu_N wp), (eu_N wi), (eu_P wa)) (eu_b b) := by
  unfold wpX_writeMeta
  refine xw_vm c2 c3 c4 c5 c6 ?_
  simp (disch := omega) only [forall_eq, true_implies, false_implies, not_true_eq_false, not_false_eq_true, and_true, true_and, ea_0, ea_1, ea_2, ea_3, ea_4, ea_5, ea_6, ea_24, ea_99, ea_100, ea_300, ea_n1, ea_n2, pk_mul, nI_add, pk_sub, ea_m1, nI_clamp, eu_Nr, eu_Br, eu_Pr, eu_pn, eu_nb, eu_i8, eu_pb, eu_pi, eu_vb0, eu_vb1, eu_vbb, eu_Nu, eu_Pu, eu_Pun, eu_Bu, eu_Bu0, eu_Bu1, ea_inT, nI_leI, Nat.zero_le, nI_ltI, nI_eq, eu_pl, eu_pg, eu_p2, eu_b0, c4]
  exact h
theorem xw_cr31 {we : Nat} {kc : Nat → Nat} {ks : Nat → Nat} {vs : Nat → Int32} {bl : Nat → Nat} {fr : Nat → Bool} {us : Nat → Bool} {mr : Nat → Nat} {ms : Nat → Nat} {mn : Nat → Nat} {mv : Nat → Bool} {sz : Nat → Nat} {nu : Nat → Nat} {wp : Nat → Nat} {wi : Nat → Nat} {wa : Nat → Nat} {post : Int32 → SX → Prop} {ro0 : Nat → Nat} (K : ∀ ro : Nat → Nat, (∀ r, r < 3 → ro r = 101) → (∀ s, 3 ≤ s → ro s = ro0 s) → wX_crash_31 post (nI we) (0 + 1) (nI 3) (eu_N kc) (eu_N ks) vs (eu_P bl) (eu_B fr) (eu_B us) (eu_P mr) (eu_N ms) (eu_N mn) (eu_B mv) (eu_P ro) (eu_N sz) (eu_N nu) (eu_N wp) (eu_N wi) (eu_P wa)) :
    ∀ (d i : Nat) (ro : Nat → Nat), i + d = 3 → (∀ r, r < i → ro r = 101) → (∀ s, 3 ≤ s → ro s = ro0 s) → wX_crash_31 post (nI we) (d + 1) (nI i) (eu_N kc) (eu_N ks) vs (eu_P bl) (eu_B fr) (eu_B us) (eu_P mr) (eu_N ms) (eu_N mn) (eu_B mv) (eu_P ro) (eu_N sz) (eu_N nu) (eu_N wp) (eu_N wi) (eu_P wa) := by
  intro d
  induction d with
  | zero =>
    intro i ro hi h1 h2
    have e : i = 3 := by omega
    subst e
    exact K ro h1 h2
  | succ d ih =>
    intro i ro hi h1 h2
    rw [wX_crash_31]
    refine br_f (by rw [ea_3]; exact nI_ge (by omega) (by omega)) ?_
    simp (disch := omega) only [forall_eq, true_implies, false_implies, not_true_eq_false, not_false_eq_true, and_true, true_and, ea_0, ea_1, ea_2, ea_3, ea_4, ea_5, ea_6, ea_24, ea_99, ea_100, ea_300, ea_n1, ea_n2, pk_mul, nI_add, pk_sub, ea_m1, nI_clamp, eu_Nr, eu_Br, eu_Pr, eu_pn, eu_nb, eu_i8, eu_pb, eu_pi, eu_vb0, eu_vb1, eu_vbb, eu_Nu, eu_Pu, eu_Pun, eu_Bu, eu_Bu0, eu_Bu1, ea_inT, nI_leI, Nat.zero_le, nI_ltI, nI_eq, eu_pl, eu_pg, eu_p2, eu_b0]
    refine ih (i + 1) _ (by omega) (fun r hr => ?_) (fun s hs => (un_n (by omega)).trans (h2 s hs))
    by_cases e : r = i
    · subst e; exact un_s
    · rw [un_n e]; exact h1 r (by omega)
theorem yw_cr28 {nb : Nat} {th : Nat → Bool} {yv : Nat → Int32} {sn : Nat → Nat} {post : Int32 → SY → Prop} (K : ∀ opd' : Nat → Bool, (∀ r, r < 3 → opd' r = false) → post (nI nb) ((nI nb), (eu_B th), yv, (eu_B opd'), (eu_N sn))) : ∀ (d i : Nat) (opd : Nat → Bool), i + d = 3 → (∀ r, r < i → opd r = false) → wY_crash_28 post (nI nb) (d + 1) (nI i) (eu_B th) yv (eu_B opd) (eu_N sn) := by
  intro d
  induction d with
  | zero =>
    intro i opd hi h
    rw [wY_crash_28]
    exact br_t (by rw [ea_3]; exact nI_le (by omega) (by omega)) (K opd (fun r hr => h r (by omega)))
  | succ d ih =>
    intro i opd hi h
    rw [wY_crash_28]
    refine br_f (by rw [ea_3]; exact nI_ge (by omega) (by omega)) ?_
    simp (disch := omega) only [forall_eq, true_implies, false_implies, not_true_eq_false, not_false_eq_true, and_true, true_and, ea_0, ea_1, ea_2, ea_3, ea_4, ea_5, ea_6, ea_24, ea_99, ea_100, ea_300, ea_n1, ea_n2, pk_mul, nI_add, pk_sub, ea_m1, nI_clamp, eu_Nr, eu_Br, eu_Pr, eu_pn, eu_nb, eu_i8, eu_pb, eu_pi, eu_vb0, eu_vb1, eu_vbb, eu_Nu, eu_Pu, eu_Pun, eu_Bu, eu_Bu0, eu_Bu1, ea_inT, nI_leI, Nat.zero_le, nI_ltI, nI_eq, eu_pl, eu_pg, eu_p2, eu_b0]
    refine ih (i + 1) _ (by omega) (fun r hr => ?_)
    by_cases e : r = i
    · subst e; exact un_s
    · rw [un_n e]; exact h r (by omega)
/-- the relation but for what is fresh -/
def rl_J (k : Nat) (kc ks : Nat → Nat) (vs : Nat → Int32) (bl : Nat → Nat) (mr ms mn : Nat → Nat) (mv : Nat → Bool) (ro sz nu : Nat → Nat) (nb : Nat) (th : Nat → Bool) (yv : Nat → Int32) (opd : Nat → Bool) (sn : Nat → Nat) (hs : Nat → Nat) (cm : Nat) : Prop :=
  (gs_b kc ks ∧ (∀ s, s < 6 → gt_I (gp_c kc ks vs bl) (hs s) (rc_f ro mv mr s))) ∧
  (ro 3 ≤ 100 ∧ mr cm ≤ 100 ∧ (∀ s, s < 4 → ro s ≤ 100 → sz s = (tr_fc (gp_c kc ks vs bl) (hs s) (ro s)).length) ∧ ms cm = (tr_fc (gp_c kc ks vs bl) (hs (4 + cm)) (mr cm)).length) ∧
  (cm < 2 ∧ mv cm = true ∧ mn cm = nb ∧ (mv (1 - cm) = true → mn (1 - cm) < nb) ∧ nb ≤ k) ∧
  (∀ r, r < 3 → (opd r = true ↔ ro r ≤ 100) ∧ (opd r = true → nu r = sn r ∧ mp_ok th yv r (tr_fc (gp_c kc ks vs bl) (hs r) (ro r)))) ∧
  mp_ok th yv 3 (tr_fc (gp_c kc ks vs bl) (hs 3) (ro 3)) ∧ mp_ok th yv 4 (tr_fc (gp_c kc ks vs bl) (hs (4 + cm)) (mr cm))
theorem rl_toJ {k : Nat} {kc ks : Nat → Nat} {vs : Nat → Int32} {bl : Nat → Nat} {fr : Nat → Bool} {mr ms mn : Nat → Nat} {mv : Nat → Bool} {ro sz nu : Nat → Nat} {nb : Nat} {th : Nat → Bool} {yv : Nat → Int32} {opd : Nat → Bool} {sn hs : Nat → Nat} {cm : Nat} (h : rl_I k kc ks vs bl fr mr ms mn mv ro sz nu nb th yv opd sn hs cm) : rl_J k kc ks vs bl mr ms mn mv ro sz nu nb th yv opd sn hs cm :=
  ⟨⟨h.1.1, h.1.2.1⟩, h.2⟩
theorem rl_ofJ {k : Nat} {kc ks : Nat → Nat} {vs : Nat → Int32} {bl : Nat → Nat} {fr : Nat → Bool} {mr ms mn : Nat → Nat} {mv : Nat → Bool} {ro sz nu : Nat → Nat} {nb : Nat} {th : Nat → Bool} {yv : Nat → Int32} {opd : Nat → Bool} {sn hs : Nat → Nat} {cm k' : Nat} (h : rl_J k kc ks vs bl mr ms mn mv ro sz nu nb th yv opd sn hs cm) (hk : k ≤ k')
    (hf : ∀ q, q < 100 → fr q = false) (h3 : ro 3 = mr cm) (hh : hs 3 = hs (4 + cm)) : rl_I k' kc ks vs bl fr mr ms mn mv ro sz nu nb th yv opd sn hs cm := by
  obtain ⟨⟨gs, T⟩, a, ⟨c2, c3, c4, c5, c6⟩, d⟩ := h
  refine ⟨⟨gs, T, fun q hq h => ?_, fun h q hq => Or.inr ?_⟩, a, ⟨c2, c3, c4, c5, by omega⟩, d⟩
  · rw [hf q hq] at h; exact (nomatch h)
  · have e3 : rc_f ro mv mr 3 = ro 3 := rc_lo (by omega)
    have e4 : rc_f ro mv mr (4 + cm) = mr cm := by rw [rc_hi, c3]; rfl
    rw [e3] at h hq
    rw [e4, ← h3, ← hh]
    exact ⟨h, hq⟩
theorem J_meta1 {k : Nat} {kc ks : Nat → Nat} {vs : Nat → Int32} {bl : Nat → Nat} {mr ms mn : Nat → Nat} {mv : Nat → Bool} {ro sz nu : Nat → Nat} {nb : Nat} {th th' : Nat → Bool} {yv yv' : Nat → Int32} {opd : Nat → Bool} {sn hs : Nat → Nat} {cm : Nat} (h : rl_J k kc ks vs bl mr ms mn mv ro sz nu nb th yv opd sn hs cm)
    (y1 : ∀ j, j < 100 → th' (4 * 100 + j) = th (3 * 100 + j) ∧ yv' (4 * 100 + j) = yv (3 * 100 + j)) (y2 : ∀ j, (j < 4 * 100 ∨ 4 * 100 + 100 ≤ j) → th' j = th j ∧ yv' j = yv j) :
    rl_J (k + 1) kc ks vs bl (un_f mr (1 - cm) (ro 3)) (un_f ms (1 - cm) (sz 3)) (un_f mn (1 - cm) (nb + 1)) (un_f mv (1 - cm) true) ro sz nu (nb + 1) th' yv' opd sn (un_f hs (4 + (1 - cm)) (hs 3)) (1 - cm) := by
  obtain ⟨⟨gs, T⟩, ⟨r3, mrc, szs, msc⟩, ⟨c2, c3, c4, c5, c6⟩, rd, m3, m4⟩ := h
  have hcc : cm ≠ 1 - cm := by omega
  have hs_lo : ∀ s, s < 4 → un_f hs (4 + (1 - cm)) (hs 3) s = hs s := fun s hs => un_n (by omega)
  refine ⟨⟨gs, fun s s1 => ?_⟩, ⟨r3, by rw [un_s]; exact r3, fun s s1 s2 => by rw [hs_lo s s1]; exact szs s s1 s2, ?_⟩, ⟨by omega, un_s, un_s, fun _ => ?_, by omega⟩, fun r hr => ?_, ?_, ?_⟩
  · by_cases e : s < 4
    · have := T s s1
      rw [rc_lo e] at this
      rw [rc_lo e, hs_lo s e]
      exact this
    · obtain ⟨m, rfl⟩ : ∃ m, s = 4 + m := ⟨s - 4, by omega⟩
      by_cases em : m = 1 - cm
      · have := T 3 (by omega)
        rw [rc_lo (by omega)] at this
        rw [rc_hi, em, un_s, un_s, un_s]
        exact this
      · have := T (4 + m) s1
        rw [rc_hi] at this
        rw [rc_hi, un_n em, un_n em, un_n (by omega)]
        exact this
  · rw [un_s, un_s, un_s]
    exact szs 3 (by omega) r3
  · have e : 1 - (1 - cm) = cm := by omega
    rw [e, un_n hcc, c4]
    omega
  · rw [hs_lo r (by omega)]
    exact ⟨(rd r hr).1, fun ho => ⟨((rd r hr).2 ho).1, mp_other ((rd r hr).2 ho).2 (by omega) y2⟩⟩
  · rw [hs_lo 3 (by omega)]
    exact mp_other m3 (by omega) y2
  · rw [un_s, un_s]
    exact mp_copy m3 y1
theorem J_meta0 {k : Nat} {kc ks : Nat → Nat} {vs : Nat → Int32} {bl : Nat → Nat} {mr ms mn : Nat → Nat} {mv : Nat → Bool} {ro sz nu : Nat → Nat} {nb : Nat} {th : Nat → Bool} {yv : Nat → Int32} {opd : Nat → Bool} {sn hs : Nat → Nat} {cm a b c : Nat} (h : rl_J k kc ks vs bl mr ms mn mv ro sz nu nb th yv opd sn hs cm) :
    rl_J k kc ks vs bl (un_f mr (1 - cm) a) (un_f ms (1 - cm) b) (un_f mn (1 - cm) c) (un_f mv (1 - cm) false) ro sz nu nb th yv opd sn hs cm := by
  obtain ⟨⟨gs, T⟩, ⟨r3, mrc, szs, msc⟩, ⟨c2, c3, c4, c5, c6⟩, rd, m3, m4⟩ := h
  have hcc : cm ≠ 1 - cm := by omega
  refine ⟨⟨gs, fun s s1 => ?_⟩, ⟨r3, by rw [un_n hcc]; exact mrc, szs, by rw [un_n hcc, un_n hcc]; exact msc⟩, ⟨c2, by rw [un_n hcc]; exact c3, by rw [un_n hcc]; exact c4, fun hf => ?_, c6⟩, rd, m3, by rw [un_n hcc]; exact m4⟩
  · by_cases e : s < 4
    · have := T s s1
      rw [rc_lo e] at this
      rw [rc_lo e]
      exact this
    · obtain ⟨m, rfl⟩ : ∃ m, s = 4 + m := ⟨s - 4, by omega⟩
      by_cases em : m = 1 - cm
      · rw [rc_hi, em, un_s]
        intro hc
        exact absurd hc (by show ¬ 101 < 100; omega)
      · have := T (4 + m) s1
        rw [rc_hi] at this
        rw [rc_hi, un_n em, un_n em]
        exact this
  · rw [un_s] at hf; exact (nomatch hf)
theorem J_load {k : Nat} {kc ks : Nat → Nat} {vs : Nat → Int32} {bl : Nat → Nat} {mr ms mn : Nat → Nat} {mv : Nat → Bool} {ro sz nu : Nat → Nat} {nb : Nat} {th th' : Nat → Bool} {yv yv' : Nat → Int32} {opd : Nat → Bool} {sn hs : Nat → Nat} {cm : Nat} (h : rl_J k kc ks vs bl mr ms mn mv ro sz nu nb th yv opd sn hs cm)
    (y1 : ∀ j, j < 100 → th' (3 * 100 + j) = th (4 * 100 + j) ∧ yv' (3 * 100 + j) = yv (4 * 100 + j)) (y2 : ∀ j, (j < 3 * 100 ∨ 3 * 100 + 100 ≤ j) → th' j = th j ∧ yv' j = yv j) :
    rl_J k kc ks vs bl mr ms mn mv (un_f ro 3 (mr cm)) (un_f sz 3 (ms cm)) nu nb th' yv' opd sn (un_f hs 3 (hs (4 + cm))) cm := by
  obtain ⟨⟨gs, T⟩, ⟨r3, mrc, szs, msc⟩, ⟨c2, c3, c4, c5, c6⟩, rd, m3, m4⟩ := h
  have e4 : rc_f ro mv mr (4 + cm) = mr cm := by rw [rc_hi, c3]; rfl
  refine ⟨⟨gs, fun s s1 => ?_⟩, ⟨by rw [un_s]; exact mrc, mrc, fun s s1 s2 => ?_, by rw [un_n (by omega)]; exact msc⟩, ⟨c2, c3, c4, c5, c6⟩, fun r hr => ?_, ?_, ?_⟩
  · by_cases e : s = 3
    · subst e
      have := T (4 + cm) (by omega)
      rw [e4] at this
      rw [rc_lo (by omega), un_s, un_s]
      exact this
    · have := T s s1
      rw [rc_3 (ro := ro) (fun s hs => un_n hs) s e, un_n e]
      exact this
  · by_cases e : s = 3
    · subst e
      rw [un_s, un_s, un_s]
      exact msc
    · rw [un_n e] at s2
      rw [un_n e, un_n e, un_n e]
      exact szs s s1 s2
  · rw [un_n (by omega), un_n (by omega)]
    exact ⟨(rd r hr).1, fun ho => ⟨((rd r hr).2 ho).1, mp_other ((rd r hr).2 ho).2 (by omega) y2⟩⟩
  · rw [un_s, un_s]
    exact mp_copy m4 y1
  · rw [un_n (by omega)]
    exact mp_other m4 (by omega) y2
theorem J_close {k : Nat} {kc ks : Nat → Nat} {vs : Nat → Int32} {bl : Nat → Nat} {mr ms mn : Nat → Nat} {mv : Nat → Bool} {ro ro' sz nu : Nat → Nat} {nb : Nat} {th : Nat → Bool} {yv : Nat → Int32} {opd opd' : Nat → Bool} {sn hs : Nat → Nat} {cm : Nat} (h : rl_J k kc ks vs bl mr ms mn mv ro sz nu nb th yv opd sn hs cm)
    (h1 : ∀ r, r < 3 → (ro' r = 101 ∧ opd' r = false) ∨ (ro' r = ro r ∧ opd' r = opd r)) (h2 : ro' 3 = ro 3) : rl_J k kc ks vs bl mr ms mn mv ro' sz nu nb th yv opd' sn hs cm := by
  obtain ⟨⟨gs, T⟩, ⟨r3, mrc, szs, msc⟩, cc, rd, m3, m4⟩ := h
  refine ⟨⟨gs, fun s s1 => ?_⟩, ⟨by rw [h2]; exact r3, mrc, fun s s1 s2 => ?_, msc⟩, cc, fun r hr => ?_, by rw [h2]; exact m3, m4⟩
  · by_cases e : s < 4
    · have := T s s1
      rw [rc_lo e] at this
      rw [rc_lo e]
      by_cases e3 : s = 3
      · subst e3; rw [h2]; exact this
      · rcases h1 s (by omega) with ⟨p, _⟩ | ⟨p, _⟩
        · rw [p]; intro hc; omega
        · rw [p]; exact this
    · obtain ⟨m, rfl⟩ : ∃ m, s = 4 + m := ⟨s - 4, by omega⟩
      have := T (4 + m) s1
      rw [rc_hi] at this ⊢
      exact this
  · by_cases e3 : s = 3
    · subst e3; rw [h2]; exact szs 3 s1 r3
    · rcases h1 s (by omega) with ⟨p, _⟩ | ⟨p, _⟩
      · rw [p] at s2; omega
      · rw [p] at s2 ⊢; exact szs s s1 s2
  · rcases h1 r hr with ⟨p, q⟩ | ⟨p, q⟩
    · rw [p, q]
      exact ⟨⟨fun h => (nomatch h), fun h => by omega⟩, fun h => (nomatch h)⟩
    · rw [p, q]; exact rd r hr
end
section
/-! the other calls -/
theorem yw_commit {nb : Nat} {th : Nat → Bool} {yv : Nat → Int32} {opd : Nat → Bool} {sn : Nat → Nat} {post : Int32 → SY → Prop} (K : ∀ (th' : Nat → Bool) (yv' : Nat → Int32), (∀ j, j < 100 → th' (4 * 100 + j) = th (3 * 100 + j) ∧ yv' (4 * 100 + j) = yv (3 * 100 + j)) → (∀ j, (j < 4 * 100 ∨ 4 * 100 + 100 ≤ j) → th' j = th j ∧ yv' j = yv j) → post (nI (nb + 1)) ((nI (nb + 1)), (eu_B th'), yv', (eu_B opd), (eu_N sn))) : wpY_commit post ((nI nb), (eu_B th), yv, (eu_B opd), (eu_N sn)) := by
  unfold wpY_commit
  dsimp only
  rw [ea_3, ea_4]
  refine yw_copy (s := 3) (t := 4) (by omega) (by omega) (by omega) (fun th' yv' h1 h2 => ?_)
  dsimp only
  exact nm_r (nI_1 nb) (K th' yv' h1 h2)
theorem yw_abort {nb : Nat} {th : Nat → Bool} {yv : Nat → Int32} {opd : Nat → Bool} {sn : Nat → Nat} {post : Int32 → SY → Prop} (K : ∀ (th' : Nat → Bool) (yv' : Nat → Int32), (∀ j, j < 100 → th' (3 * 100 + j) = th (4 * 100 + j) ∧ yv' (3 * 100 + j) = yv (4 * 100 + j)) → (∀ j, (j < 3 * 100 ∨ 3 * 100 + 100 ≤ j) → th' j = th j ∧ yv' j = yv j) → post (nI nb) ((nI nb), (eu_B th'), yv', (eu_B opd), (eu_N sn))) : wpY_abort post ((nI nb), (eu_B th), yv, (eu_B opd), (eu_N sn)) := by
  unfold wpY_abort
  dsimp only
  rw [ea_3, ea_4]
  refine yw_copy (s := 4) (t := 3) (by omega) (by omega) (by omega) (fun th' yv' h1 h2 => ?_)
  exact K th' yv' h1 h2
theorem J_24 {k : Nat} {kc ks : Nat → Nat} {vs : Nat → Int32} {bl : Nat → Nat} {mr ms mn : Nat → Nat} {mv : Nat → Bool} {ro sz nu : Nat → Nat} {nb : Nat} {th : Nat → Bool} {yv : Nat → Int32} {opd : Nat → Bool} {sn hs : Nat → Nat} {cm : Nat} (h : rl_J k kc ks vs bl mr ms mn mv ro sz nu nb th yv opd sn hs cm) : sz 3 < 128 ∧ ms cm < 128 := by
  obtain ⟨⟨gs, T⟩, ⟨r3, mrc, szs, msc⟩, ⟨c2, c3, c4, c5, c6⟩, rd, m3, m4⟩ := h
  have e4 : rc_f ro mv mr (4 + cm) = mr cm := by rw [rc_hi, c3]; rfl
  have t3 := T 3 (by omega)
  have t4 := T (4 + cm) (by omega)
  rw [rc_lo (by omega)] at t3
  rw [e4] at t4
  have l3 := (fc_ok gs t3).2.1
  have l4 := (fc_ok gs t4).2.1
  rw [szs 3 (by omega) r3, msc]
  exact ⟨by omega, by omega⟩
theorem i_vc_commit {k : Nat} {u : SX} {v : SY} (I : i_Rel k u v) (hk : k + 3 ≤ 1536) : wpX_commit (fun r u' => wpY_commit (fun r' v' => r' = r ∧ i_Rel (k + 3) u' v') v) u := by
  refine re_el (P := fun u v => wpX_commit (fun r u' => wpY_commit (fun r' v' => r' = r ∧ i_Rel (k + 3) u' v') v) u) I ?_
  intro we kc ks vs bl fr us mr ms mn mv ro sz nu wp wi wa nb th yv opd sn hs cm R
  have J := rl_toJ R
  obtain ⟨c2, c3, c4, c5, c6⟩ := R.2.2.1
  unfold wpX_commit
  dsimp only
  refine xw_writeMeta (b := true) c2 c3 c4 c5 (by omega) (J_24 J).1 ?_
  dsimp only
  refine xw_settle (fun fr' hf => ?_)
  dsimp only
  have J0 := J_meta1 J (th' := fun j => if 400 ≤ j ∧ j < 500 then th (j - 100) else th j) (yv' := fun j => if 400 ≤ j ∧ j < 500 then yv (j - 100) else yv j)
    (fun j hj => by
      rw [if_pos (show 400 ≤ 4 * 100 + j ∧ 4 * 100 + j < 500 by omega), if_pos (show 400 ≤ 4 * 100 + j ∧ 4 * 100 + j < 500 by omega), show 4 * 100 + j - 100 = 3 * 100 + j by omega]
      exact ⟨rfl, rfl⟩)
    (fun j hj => by
      rw [if_neg (show ¬ (400 ≤ j ∧ j < 500) by omega), if_neg (show ¬ (400 ≤ j ∧ j < 500) by omega)]
      exact ⟨rfl, rfl⟩)
  obtain ⟨d2, d3, d4, d5, d6⟩ := J0.2.2.1
  refine xw_number d2 d3 d4 d5 (by omega) ?_
  refine yw_commit (fun th' yv' y1 y2 => ⟨rfl, re_in (rl_ofJ (J_meta1 J y1 y2) (by omega) hf ?_ ?_)⟩)
  · rw [un_s]
  · rw [un_s, un_n (by omega)]
theorem i_vc_abort {k : Nat} {u : SX} {v : SY} (I : i_Rel k u v) (hk : k + 3 ≤ 1536) : wpX_abort (fun r u' => wpY_abort (fun r' v' => r' = r ∧ i_Rel (k + 3) u' v') v) u := by
  refine re_el (P := fun u v => wpX_abort (fun r u' => wpY_abort (fun r' v' => r' = r ∧ i_Rel (k + 3) u' v') v) u) I ?_
  intro we kc ks vs bl fr us mr ms mn mv ro sz nu wp wi wa nb th yv opd sn hs cm R
  have J := rl_toJ R
  obtain ⟨c2, c3, c4, c5, c6⟩ := R.2.2.1
  unfold wpX_abort
  dsimp only
  refine xw_loadWriter c2 c3 c4 c5 (by omega) (J_24 J).2 (fun fr' hf => ?_)
  dsimp only
  refine xw_number c2 c3 c4 c5 (by omega) ?_
  refine yw_abort (fun th' yv' y1 y2 => ⟨rfl, re_in (rl_ofJ (J_load J y1 y2) (by omega) hf un_s ?_)⟩)
  rw [un_s, un_n (by omega)]
theorem i_vc_number {k : Nat} {u : SX} {v : SY} (I : i_Rel k u v) (hk : k + 3 ≤ 1536) : wpX_number (fun r => wpY_number (fun r' => r' = r ∧ i_Rel (k + 3) u v) v) u := by
  refine re_el (P := fun u v => wpX_number (fun r => wpY_number (fun r' => r' = r ∧ i_Rel (k + 3) u v) v) u) I ?_
  intro we kc ks vs bl fr us mr ms mn mv ro sz nu wp wi wa nb th yv opd sn hs cm R
  obtain ⟨c2, c3, c4, c5, c6⟩ := R.2.2.1
  exact xw_number c2 c3 c4 c5 (by omega) ⟨rfl, re_in (rl_up R)⟩
theorem rd_cs (p : Int32) : (p < 0 ∨ (¬ p < 0 ∧ ¬ p ≤ 2 ∧ 2 < p ∧ 3 ≤ p)) ∨ ∃ r : Nat, r < 3 ∧ p = nI r ∧ ¬ p < 0 ∧ p ≤ 2 ∧ ¬ 2 < p ∧ ¬ 3 ≤ p := by
  rcases pk_ix p (n := 3) (by omega) with h | h | ⟨r, hr, rfl⟩
  · exact Or.inl (Or.inl h)
  · rw [Int32.le_iff_toInt_le, nI_toInt (by omega)] at h
    have e2 : (2 : Int32).toInt = 2 := by decide
    have e3 : (3 : Int32).toInt = 3 := by decide
    refine Or.inl (Or.inr ⟨fun z => ?_, fun z => ?_, ?_, ?_⟩)
    · rw [Int32.lt_iff_toInt_lt, Int32.toInt_zero] at z; omega
    · rw [Int32.le_iff_toInt_le, e2] at z; omega
    · rw [Int32.lt_iff_toInt_lt, e2]; omega
    · rw [Int32.le_iff_toInt_le, e3]; omega
  · refine Or.inr ⟨r, hr, rfl, nI_pos (by omega), ?_, ?_, ?_⟩
    · rw [ea_2]; exact nI_le (by omega) (by omega)
    · rw [ea_2]; exact nI_nlt (by omega) (by omega)
    · rw [ea_3]; exact nI_ge (by omega) (by omega)
theorem i_vc_seen {k : Nat} {u : SX} {v : SY} (I : i_Rel k u v) (hk : k + 3 ≤ 1536) (v1 : Int32) : wpX_seen (fun r => wpY_seen (fun r' => r' = r ∧ i_Rel (k + 3) u v) v v1) u v1 := by
  refine re_el (P := fun u v => wpX_seen (fun r => wpY_seen (fun r' => r' = r ∧ i_Rel (k + 3) u v) v v1) u v1) I ?_
  intro we kc ks vs bl fr us mr ms mn mv ro sz nu wp wi wa nb th yv opd sn hs cm R
  have fin := re_in (we := we) (us := us) (wp := wp) (wi := wi) (wa := wa) (rl_up R)
  unfold wpX_seen
  dsimp only
  rcases rd_cs v1 with h | ⟨r, hr, rfl, n0, n2, n2', n3⟩
  · have yb : wpY_seen (fun r' => r' = -1 ∧ i_Rel (k + 3) ((nI we), (eu_N kc), (eu_N ks), vs, (eu_P bl), (eu_B fr), (eu_B us), (eu_P mr), (eu_N ms), (eu_N mn), (eu_B mv), (eu_P ro), (eu_N sz), (eu_N nu), (eu_N wp), (eu_N wi), (eu_P wa)) ((nI nb), (eu_B th), yv, (eu_B opd), (eu_N sn))) ((nI nb), (eu_B th), yv, (eu_B opd), (eu_N sn)) v1 := by
      unfold wpY_seen wpY_isReader
      rcases h with h | ⟨h0, _, _, h3⟩
      · exact br_t h (br_t (by trivial) ⟨rfl, fin⟩)
      · exact br_f h0 (br_t h3 (br_t (by trivial) ⟨rfl, fin⟩))
    rcases h with h | ⟨h0, _, h2, _⟩
    · exact br_t h yb
    · exact br_f h0 (br_t h2 yb)
  · have hrd := R.2.2.2.1 r hr
    refine br_f n0 (br_f n2' ⟨vp_in_nI (by omega) (by omega), ?_⟩)
    rw [nI_clamp (by omega), eu_Pr, ea_e2, eu_p2]
    have ys : ∀ z : Int32, (opd r = false → (-1 : Int32) = z) → (opd r = true → nI (sn r) = z) → wpY_seen (fun r' => r' = z ∧ i_Rel (k + 3) ((nI we), (eu_N kc), (eu_N ks), vs, (eu_P bl), (eu_B fr), (eu_B us), (eu_P mr), (eu_N ms), (eu_N mn), (eu_B mv), (eu_P ro), (eu_N sz), (eu_N nu), (eu_N wp), (eu_N wi), (eu_P wa)) ((nI nb), (eu_B th), yv, (eu_B opd), (eu_N sn))) ((nI nb), (eu_B th), yv, (eu_B opd), (eu_N sn)) (nI r) := by
      intro z h0 h1
      unfold wpY_seen wpY_isReader
      refine br_f n0 (br_f n3 (br_f (by decide) ⟨vp_in_nI hr (by omega), ?_⟩))
      rw [nI_clamp (by omega), eu_Br, ea_0, eu_b0, eu_Nr]
      refine br_c (fun h => ⟨h0 h, fin⟩) (fun h => ⟨vp_in_nI hr (by omega), h1 ?_, fin⟩)
      cases hh : opd r
      · exact absurd hh h
      · rfl
    refine br_c (fun h => ys _ (fun _ => rfl) (fun ho => ?_)) (fun h => ⟨vp_in_nI (by omega) (by omega), ys _ (fun ho => ?_) (fun ho => ?_)⟩)
    · have := hrd.1.mp ho; omega
    · have := hrd.1.mpr (by omega)
      rw [ho] at this; exact (nomatch this)
    · rw [eu_Nr, (hrd.2 ho).1]
theorem i_vc_close {k : Nat} {u : SX} {v : SY} (I : i_Rel k u v) (hk : k + 3 ≤ 1536) (v1 : Int32) : wpX_close (fun r u' => wpY_close (fun r' v' => r' = r ∧ i_Rel (k + 3) u' v') v v1) u v1 := by
  refine re_el (P := fun u v => wpX_close (fun r u' => wpY_close (fun r' v' => r' = r ∧ i_Rel (k + 3) u' v') v v1) u v1) I ?_
  intro we kc ks vs bl fr us mr ms mn mv ro sz nu wp wi wa nb th yv opd sn hs cm R
  unfold wpX_close
  dsimp only
  rcases rd_cs v1 with h | ⟨r, hr, rfl, n0, n2, n2', n3⟩
  · have fin := re_in (we := we) (us := us) (wp := wp) (wi := wi) (wa := wa) (rl_up R)
    have yb : wpY_close (fun r' v' => r' = -1 ∧ i_Rel (k + 3) ((nI we), (eu_N kc), (eu_N ks), vs, (eu_P bl), (eu_B fr), (eu_B us), (eu_P mr), (eu_N ms), (eu_N mn), (eu_B mv), (eu_P ro), (eu_N sz), (eu_N nu), (eu_N wp), (eu_N wi), (eu_P wa)) v') ((nI nb), (eu_B th), yv, (eu_B opd), (eu_N sn)) v1 := by
      unfold wpY_close wpY_isReader
      rcases h with h | ⟨h0, _, _, h3⟩
      · exact br_t h (br_t (by trivial) ⟨rfl, fin⟩)
      · exact br_f h0 (br_t h3 (br_t (by trivial) ⟨rfl, fin⟩))
    rcases h with h | ⟨h0, h2, _, _⟩
    · exact br_t h yb
    · exact br_f h0 (br_f h2 yb)
  · have hrd := R.2.2.2.1 r hr
    have J := rl_toJ R
    have J2 := J_close (ro' := un_f ro r 101) (opd' := un_f opd r false) J (fun s hs => by
      by_cases e : s = r
      · subst e; exact Or.inl ⟨un_s, un_s⟩
      · exact Or.inr ⟨un_n e, un_n e⟩) (un_n (by omega))
    have R2 : rl_I (k + 3) kc ks vs bl fr mr ms mn mv (un_f ro r 101) sz nu nb th yv (un_f opd r false) sn hs cm := by
      obtain ⟨⟨gs, T⟩, a, ⟨d2, d3, d4, d5, d6⟩, d⟩ := J2
      obtain ⟨f1, f2⟩ := R.1.2.2
      have e3 : rc_f (un_f ro r 101) mv mr 3 = rc_f ro mv mr 3 := by rw [rc_lo (by omega), rc_lo (by omega), un_n (by omega)]
      have e4 : rc_f (un_f ro r 101) mv mr (4 + cm) = rc_f ro mv mr (4 + cm) := by rw [rc_hi, rc_hi]
      refine ⟨⟨gs, T, fun q hq hf => ?_, ?_⟩, a, ⟨d2, d3, d4, d5, by omega⟩, d⟩
      · obtain ⟨g1, g2, g3⟩ := f1 q hq hf
        rw [e3]
        refine ⟨g1, g2, fun s s1 s2 s3 => ?_⟩
        by_cases e : s = r
        · subst e
          rw [rc_lo (by omega), un_s] at s3
          omega
        · have er : rc_f (un_f ro r 101) mv mr s = rc_f ro mv mr s := by unfold rc_f; rw [un_n e]
          rw [er] at s3 ⊢
          exact g3 s s1 s2 s3
      · rw [e3, e4]
        exact f2
    have fin := re_in (we := we) (us := us) (wp := wp) (wi := wi) (wa := wa) R2
    have y24 : ∀ z : Int32, (opd r = false → (0 : Int32) = z) → (opd r = true → (1 : Int32) = z) → wpY_close (fun r' v' => r' = z ∧ i_Rel (k + 3) ((nI we), (eu_N kc), (eu_N ks), vs, (eu_P bl), (eu_B fr), (eu_B us), (eu_P mr), (eu_N ms), (eu_N mn), (eu_B mv), (eu_P (un_f ro r 101)), (eu_N sz), (eu_N nu), (eu_N wp), (eu_N wi), (eu_P wa)) v') ((nI nb), (eu_B th), yv, (eu_B opd), (eu_N sn)) (nI r) := by
      intro z h0 h1
      unfold wpY_close wpY_isReader
      refine br_f n0 (br_f n3 (br_f (by decide) ⟨vp_in_nI hr (by omega), ?_⟩))
      rw [nI_clamp (by omega), eu_Br, ea_0, eu_b0]
      refine br_c (fun h => ?_) (fun h => ?_)
      · unfold wY_close_24
        simp (disch := omega) only [forall_eq, true_implies, false_implies, not_true_eq_false, not_false_eq_true, and_true, true_and, ea_0, ea_1, ea_2, ea_3, ea_4, ea_5, ea_6, ea_24, ea_99, ea_100, ea_300, ea_n1, ea_n2, pk_mul, nI_add, pk_sub, ea_m1, nI_clamp, eu_Nr, eu_Br, eu_Pr, eu_pn, eu_nb, eu_i8, eu_pb, eu_pi, eu_vb0, eu_vb1, eu_vbb, eu_Nu, eu_Pu, eu_Pun, eu_Bu, eu_Bu0, eu_Bu1, ea_inT, nI_leI, Nat.zero_le, nI_ltI, nI_eq, eu_pl, eu_pg, eu_p2, eu_b0]
        exact ⟨h0 h, fin⟩
      · unfold wY_close_24
        simp (disch := omega) only [forall_eq, true_implies, false_implies, not_true_eq_false, not_false_eq_true, and_true, true_and, ea_0, ea_1, ea_2, ea_3, ea_4, ea_5, ea_6, ea_24, ea_99, ea_100, ea_300, ea_n1, ea_n2, pk_mul, nI_add, pk_sub, ea_m1, nI_clamp, eu_Nr, eu_Br, eu_Pr, eu_pn, eu_nb, eu_i8, eu_pb, eu_pi, eu_vb0, eu_vb1, eu_vbb, eu_Nu, eu_Pu, eu_Pun, eu_Bu, eu_Bu0, eu_Bu1, ea_inT, nI_leI, Nat.zero_le, nI_ltI, nI_eq, eu_pl, eu_pg, eu_p2, eu_b0]
        refine ⟨h1 ?_, fin⟩
        cases hh : opd r
        · exact absurd hh h
        · rfl
    have x27 : ∀ z : Int32, wpY_close (fun r' v' => r' = z ∧ i_Rel (k + 3) ((nI we), (eu_N kc), (eu_N ks), vs, (eu_P bl), (eu_B fr), (eu_B us), (eu_P mr), (eu_N ms), (eu_N mn), (eu_B mv), (eu_P (un_f ro r 101)), (eu_N sz), (eu_N nu), (eu_N wp), (eu_N wi), (eu_P wa)) v') ((nI nb), (eu_B th), yv, (eu_B opd), (eu_N sn)) (nI r) → wX_close_27 (fun r' u' => wpY_close (fun r'' v' => r'' = r' ∧ i_Rel (k + 3) u' v') ((nI nb), (eu_B th), yv, (eu_B opd), (eu_N sn)) (nI r)) (nI r) z (nI we) (eu_N kc) (eu_N ks) vs (eu_P bl) (eu_B fr) (eu_B us) (eu_P mr) (eu_N ms) (eu_N mn) (eu_B mv) (eu_P ro) (eu_N sz) (eu_N nu) (eu_N wp) (eu_N wi) (eu_P wa) := by
      intro z hz
      unfold wX_close_27
      rw [nI_clamp (by omega), ea_e2, eu_pb, eu_Pu]
      exact ⟨vp_in_nI (by omega) (by omega), nm_e hz⟩
    refine br_f n0 (br_t n2 ⟨vp_in_nI (by omega) (by omega), ?_⟩)
    rw [nI_clamp (by omega), eu_Pr, ea_e2, eu_p2]
    refine br_c (fun h => x27 0 (y24 0 (fun _ => rfl) (fun ho => ?_))) (fun h => x27 1 (y24 1 (fun ho => ?_) (fun _ => rfl)))
    · have := hrd.1.mp ho; omega
    · have := hrd.1.mpr (by omega)
      rw [ho] at this; exact (nomatch this)
end
section
/-! open, crash, the constructors -/
theorem i_vc_open {k : Nat} {u : SX} {v : SY} (I : i_Rel k u v) (hk : k + 3 ≤ 1536) (v1 : Int32) : wpX_open (fun r u' => wpY_open (fun r' v' => r' = r ∧ i_Rel (k + 3) u' v') v v1) u v1 := by
  refine re_el (P := fun u v => wpX_open (fun r u' => wpY_open (fun r' v' => r' = r ∧ i_Rel (k + 3) u' v') v v1) u v1) I ?_
  intro we kc ks vs bl fr us mr ms mn mv ro sz nu wp wi wa nb th yv opd sn hs cm R
  unfold wpX_open
  dsimp only
  rcases rd_cs v1 with h | ⟨r, hr, rfl, n0, n2, n2', n3⟩
  · have fin := re_in (we := we) (us := us) (wp := wp) (wi := wi) (wa := wa) (rl_up R)
    have yb : wpY_open (fun r' v' => r' = -1 ∧ i_Rel (k + 3) ((nI we), (eu_N kc), (eu_N ks), vs, (eu_P bl), (eu_B fr), (eu_B us), (eu_P mr), (eu_N ms), (eu_N mn), (eu_B mv), (eu_P ro), (eu_N sz), (eu_N nu), (eu_N wp), (eu_N wi), (eu_P wa)) v') ((nI nb), (eu_B th), yv, (eu_B opd), (eu_N sn)) v1 := by
      unfold wpY_open wpY_isReader
      rcases h with h | ⟨h0, _, _, h3⟩
      · exact br_t h (br_t (by trivial) ⟨rfl, fin⟩)
      · exact br_f h0 (br_t h3 (br_t (by trivial) ⟨rfl, fin⟩))
    rcases h with h | ⟨h0, h2, _, _⟩
    · exact br_t h yb
    · exact br_f h0 (br_f h2 yb)
  · have J := rl_toJ R
    have h24 := J_24 J
    obtain ⟨⟨gs, T, RF⟩, ⟨r3, mrc, szs, msc⟩, ⟨c2, c3, c4, c5, c6⟩, rd, m3, m4⟩ := R
    have e4 : rc_f ro mv mr (4 + cm) = mr cm := by rw [rc_hi, c3]; rfl
    refine br_f n0 (br_t n2 ?_)
    refine xw_vm c2 c3 c4 c5 (by omega) ?_
    simp (disch := omega) only [forall_eq, true_implies, false_implies, not_true_eq_false, not_false_eq_true, and_true, true_and, ea_0, ea_1, ea_2, ea_3, ea_4, ea_5, ea_6, ea_24, ea_99, ea_100, ea_300, ea_n1, ea_n2, pk_mul, nI_add, pk_sub, ea_m1, nI_clamp, eu_Nr, eu_Br, eu_Pr, eu_pn, eu_nb, eu_i8, eu_pb, eu_pi, eu_vb0, eu_vb1, eu_vbb, eu_Nu, eu_Pu, eu_Pun, eu_Bu, eu_Bu0, eu_Bu1, ea_inT, nI_leI, Nat.zero_le, nI_ltI, nI_eq, eu_pl, eu_pg, eu_p2, eu_b0, un_s, c4]
    unfold wpY_open wpY_isReader
    refine br_f n0 (br_f n3 (br_f (by decide) ?_))
    rw [ea_4]
    refine yw_copy (s := 4) (t := r) (by omega) (by omega) (by omega) (fun th' yv' y1 y2 => ?_)
    dsimp only
    simp (disch := omega) only [forall_eq, true_implies, false_implies, not_true_eq_false, not_false_eq_true, and_true, true_and, ea_0, ea_1, ea_2, ea_3, ea_4, ea_5, ea_6, ea_24, ea_99, ea_100, ea_300, ea_n1, ea_n2, pk_mul, nI_add, pk_sub, ea_m1, nI_clamp, eu_Nr, eu_Br, eu_Pr, eu_pn, eu_nb, eu_i8, eu_pb, eu_pi, eu_vb0, eu_vb1, eu_vbb, eu_Nu, eu_Pu, eu_Pun, eu_Bu, eu_Bu0, eu_Bu1, ea_inT, nI_leI, Nat.zero_le, nI_ltI, nI_eq, eu_pl, eu_pg, eu_p2, eu_b0]
    refine re_in (hs := un_f hs r (hs (4 + cm))) (cm := cm) ⟨⟨gs, fun s s1 => ?_, fun q hq hf => ?_, fun h q hq => ?_⟩, ⟨by rw [un_n (by omega)]; exact r3, mrc, fun s s1 s2 => ?_, by rw [un_n (by omega)]; exact msc⟩, ⟨c2, c3, c4, c5, by omega⟩, fun s hs => ?_, ?_, ?_⟩
    · by_cases e : s = r
      · subst e
        have := T (4 + cm) (by omega)
        rw [e4] at this
        rw [rc_lo (by omega), un_s, un_s]
        exact this
      · have er : rc_f (un_f ro r (mr cm)) mv mr s = rc_f ro mv mr s := by unfold rc_f; rw [un_n e]
        rw [er, un_n e]
        exact T s s1
    · obtain ⟨g1, g2, g3⟩ := RF.1 q hq hf
      have er : rc_f (un_f ro r (mr cm)) mv mr 3 = rc_f ro mv mr 3 := by rw [rc_lo (by omega), rc_lo (by omega), un_n (by omega)]
      rw [er, un_n (by omega)]
      refine ⟨g1, g2, fun s s1 s2 s3 => ?_⟩
      by_cases e : s = r
      · subst e
        rw [rc_lo (by omega), un_s] at s3 ⊢
        rw [un_s]
        have := g3 (4 + cm) (by omega) (by omega) (by rw [e4]; exact s3)
        rw [e4] at this
        exact this
      · have er : rc_f (un_f ro r (mr cm)) mv mr s = rc_f ro mv mr s := by unfold rc_f; rw [un_n e]
        rw [er] at s3 ⊢
        rw [un_n e]
        exact g3 s s1 s2 s3
    · have er : rc_f (un_f ro r (mr cm)) mv mr 3 = rc_f ro mv mr 3 := by rw [rc_lo (by omega), rc_lo (by omega), un_n (by omega)]
      have er4 : rc_f (un_f ro r (mr cm)) mv mr (4 + cm) = rc_f ro mv mr (4 + cm) := by rw [rc_hi, rc_hi]
      rw [er] at h hq
      rw [un_n (by omega)] at hq
      rw [er4, un_n (by omega)]
      exact RF.2 h q hq
    · by_cases e : s = r
      · subst e
        rw [un_s, un_s, un_s]
        exact msc
      · rw [un_n e] at s2
        rw [un_n e, un_n e, un_n e]
        exact szs s s1 s2
    · by_cases e : s = r
      · subst e
        rw [un_s, un_s, un_s, un_s, un_s]
        exact ⟨⟨fun _ => mrc, fun _ => rfl⟩, fun _ => ⟨by trivial, mp_copy m4 y1⟩⟩
      · rw [un_n e, un_n e, un_n e, un_n e, un_n e]
        exact ⟨(rd s hs).1, fun ho => ⟨((rd s hs).2 ho).1, mp_other ((rd s hs).2 ho).2 e y2⟩⟩
    · rw [un_n (by omega), un_n (by omega)]
      exact mp_other m3 (by omega) y2
    · rw [un_n (by omega)]
      exact mp_other m4 (by omega) y2
theorem cr_X {we : Nat} {kc : Nat → Nat} {ks : Nat → Nat} {vs : Nat → Int32} {bl : Nat → Nat} {fr : Nat → Bool} {us : Nat → Bool} {mr : Nat → Nat} {ms : Nat → Nat} {mn : Nat → Nat} {mv : Nat → Bool} {ro : Nat → Nat} {sz : Nat → Nat} {nu : Nat → Nat} {wp : Nat → Nat} {wi : Nat → Nat} {wa : Nat → Nat} {post : Int32 → SX → Prop} {cm nb' : Nat} (c2 : cm < 2) (c3 : mv cm = true) (c4 : mn cm = nb') (c5 : mv (1 - cm) = true → mn (1 - cm) < nb') (c6 : nb' ≤ 1536) (hms : ms cm < 128)
    (K : ∀ (fr' : Nat → Bool) (ro' : Nat → Nat), (∀ j, j < 100 → fr' j = false) → (∀ r, r < 3 → ro' r = 101) → ro' 3 = ro 3 → post (nI nb') ((nI we), (eu_N kc), (eu_N ks), vs, (eu_P bl), (eu_B fr'), (eu_B us), (eu_P mr), (eu_N ms), (eu_N mn), (eu_B mv), (eu_P (un_f ro' 3 (mr cm))), (eu_N (un_f sz 3 (ms cm))), (eu_N nu), (eu_N wp), (eu_N wi), (eu_P wa))) : wX_crash_31 post (nI we) 4 (nI 0) (eu_N kc) (eu_N ks) vs (eu_P bl) (eu_B fr) (eu_B us) (eu_P mr) (eu_N ms) (eu_N mn) (eu_B mv) (eu_P ro) (eu_N sz) (eu_N nu) (eu_N wp) (eu_N wi) (eu_P wa) := by
  refine xw_cr31 (ro0 := ro) (fun ro' h1 h2 => ?_) 3 0 ro (by omega) (fun r hr => absurd hr (by omega)) (fun _ _ => rfl)
  rw [wX_crash_31]
  refine br_t (by decide +kernel) ?_
  refine xw_loadWriter c2 c3 c4 c5 c6 hms (fun fr' hf => ?_)
  dsimp only
  exact xw_number c2 c3 c4 c5 c6 (K fr' ro' hf h1 (h2 3 (by omega)))
theorem cr_Y {nb : Nat} {th : Nat → Bool} {yv : Nat → Int32} {opd : Nat → Bool} {sn : Nat → Nat} {post : Int32 → SY → Prop} (K : ∀ (th' : Nat → Bool) (yv' : Nat → Int32) (opd' : Nat → Bool), (∀ j, j < 100 → th' (3 * 100 + j) = th (4 * 100 + j) ∧ yv' (3 * 100 + j) = yv (4 * 100 + j)) → (∀ j, (j < 3 * 100 ∨ 3 * 100 + 100 ≤ j) → th' j = th j ∧ yv' j = yv j) → (∀ r, r < 3 → opd' r = false) → post (nI nb) ((nI nb), (eu_B th'), yv', (eu_B opd'), (eu_N sn))) : wY_crash_21 post (nI nb) (eu_B th) yv (eu_B opd) (eu_N sn) := by
  unfold wY_crash_21
  refine yw_abort (fun th' yv' y1 y2 => ?_)
  dsimp only
  refine ⟨4, ?_⟩
  rw [ea_0]
  exact yw_cr28 (fun opd' ho => K th' yv' opd' y1 y2 ho) 3 0 opd (by omega) (fun r hr => absurd hr (by omega))
/-- from a state but for what is fresh: both crash -/
theorem cr_J {k : Nat} {kc ks : Nat → Nat} {vs : Nat → Int32} {bl : Nat → Nat} {fr' : Nat → Bool} {mr ms mn : Nat → Nat} {mv : Nat → Bool} {ro ro' sz nu : Nat → Nat} {nb : Nat} {th th' : Nat → Bool} {yv yv' : Nat → Int32} {opd opd' : Nat → Bool} {sn hs : Nat → Nat} {cm k' : Nat} (J : rl_J k kc ks vs bl mr ms mn mv ro sz nu nb th yv opd sn hs cm) (hk : k ≤ k')
    (hf : ∀ j, j < 100 → fr' j = false) (h1 : ∀ r, r < 3 → ro' r = 101) (h2 : ro' 3 = ro 3) (y1 : ∀ j, j < 100 → th' (3 * 100 + j) = th (4 * 100 + j) ∧ yv' (3 * 100 + j) = yv (4 * 100 + j)) (y2 : ∀ j, (j < 3 * 100 ∨ 3 * 100 + 100 ≤ j) → th' j = th j ∧ yv' j = yv j) (ho : ∀ r, r < 3 → opd' r = false) :
    rl_I k' kc ks vs bl fr' mr ms mn mv (un_f ro' 3 (mr cm)) (un_f sz 3 (ms cm)) nu nb th' yv' opd' sn (un_f hs 3 (hs (4 + cm))) cm := by
  have J2 := J_close (ro' := ro') (opd' := opd') J (fun r hr => Or.inl ⟨h1 r hr, ho r hr⟩) h2
  refine rl_ofJ (J_load J2 y1 y2) hk hf un_s ?_
  rw [un_s, un_n (by omega)]
theorem i_vc_crash {k : Nat} {u : SX} {v : SY} (I : i_Rel k u v) (hk : k + 3 ≤ 1536) (v1 : Int32) : wpX_crash (fun r u' => wpY_crash (fun r' v' => r' = r ∧ i_Rel (k + 3) u' v') v v1) u v1 := by
  refine re_el (P := fun u v => wpX_crash (fun r u' => wpY_crash (fun r' v' => r' = r ∧ i_Rel (k + 3) u' v') v v1) u v1) I ?_
  intro we kc ks vs bl fr us mr ms mn mv ro sz nu wp wi wa nb th yv opd sn hs cm R
  unfold wpX_crash
  dsimp only
  rcases rd_cs v1 with h | ⟨r, hr, rfl, n0, n2, n2', n3⟩
  · have fin := re_in (we := we) (us := us) (wp := wp) (wi := wi) (wa := wa) (rl_up R)
    have yb : wpY_crash (fun r' v' => r' = -1 ∧ i_Rel (k + 3) ((nI we), (eu_N kc), (eu_N ks), vs, (eu_P bl), (eu_B fr), (eu_B us), (eu_P mr), (eu_N ms), (eu_N mn), (eu_B mv), (eu_P ro), (eu_N sz), (eu_N nu), (eu_N wp), (eu_N wi), (eu_P wa)) v') ((nI nb), (eu_B th), yv, (eu_B opd), (eu_N sn)) v1 := by
      unfold wpY_crash
      rcases h with h | ⟨h0, h2, _, h3⟩
      · exact br_t h ⟨rfl, fin⟩
      · exact br_f h0 (br_f h2 ⟨rfl, fin⟩)
    rcases h with h | ⟨h0, h2, _, _⟩
    · exact br_t h yb
    · exact br_f h0 (br_f h2 yb)
  · have J := rl_toJ R
    have h24 := J_24 J
    obtain ⟨c2, c3, c4, c5, c6⟩ := R.2.2.1
    refine br_f n0 (br_t n2 ?_)
    have hcase : r = 0 ∨ r = 1 ∨ r = 2 := by omega
    rcases hcase with rfl | rfl | rfl
    · refine br_t (by decide +kernel) ⟨4, ?_⟩
      rw [ea_0]
      refine cr_X c2 c3 c4 c5 (by omega) h24.2 (fun fr' ro' hf h1 h2 => ?_)
      unfold wpY_crash
      dsimp only
      refine br_f n0 (br_t n2 (br_f (by decide +kernel) ?_))
      exact cr_Y (fun th' yv' opd' y1 y2 ho => ⟨rfl, re_in (cr_J J (by omega) hf h1 h2 y1 y2 ho)⟩)
    · refine br_f (by decide +kernel) (br_t (by decide +kernel) ?_)
      unfold wX_crash_26
      refine xw_writeMeta (b := true) c2 c3 c4 c5 (by omega) h24.1 ?_
      dsimp only
      refine ⟨4, ?_⟩
      rw [ea_0]
      have J0 := J_meta1 J (th' := fun j => if 400 ≤ j ∧ j < 500 then th (j - 100) else th j) (yv' := fun j => if 400 ≤ j ∧ j < 500 then yv (j - 100) else yv j)
        (fun j hj => by
          rw [if_pos (show 400 ≤ 4 * 100 + j ∧ 4 * 100 + j < 500 by omega), if_pos (show 400 ≤ 4 * 100 + j ∧ 4 * 100 + j < 500 by omega), show 4 * 100 + j - 100 = 3 * 100 + j by omega]
          exact ⟨rfl, rfl⟩)
        (fun j hj => by
          rw [if_neg (show ¬ (400 ≤ j ∧ j < 500) by omega), if_neg (show ¬ (400 ≤ j ∧ j < 500) by omega)]
          exact ⟨rfl, rfl⟩)
      obtain ⟨d2, d3, d4, d5, d6⟩ := J0.2.2.1
      refine cr_X d2 d3 d4 d5 (by omega) (J_24 J0).2 (fun fr' ro' hf h1 h2 => ?_)
      unfold wpY_crash
      dsimp only
      refine br_f n0 (br_t n2 (br_t (by decide +kernel) ?_))
      refine yw_commit (fun th1 yv1 z1 z2 => ?_)
      dsimp only
      exact cr_Y (fun th' yv' opd' y1 y2 ho => ⟨rfl, re_in (cr_J (J_meta1 J z1 z2) (by omega) hf h1 h2 y1 y2 ho)⟩)
    · refine br_f (by decide +kernel) (br_f (by decide +kernel) ?_)
      unfold wX_crash_26
      refine xw_writeMeta (b := false) c2 c3 c4 c5 (by omega) h24.1 ?_
      dsimp only
      refine ⟨4, ?_⟩
      rw [ea_0]
      have J0 := J_meta0 (a := ro 3) (b := sz 3) (c := nb + 1) J
      obtain ⟨d2, d3, d4, d5, d6⟩ := J0.2.2.1
      refine cr_X d2 d3 d4 d5 (by omega) (J_24 J0).2 (fun fr' ro' hf h1 h2 => ?_)
      unfold wpY_crash
      dsimp only
      refine br_f n0 (br_t n2 (br_f (by decide +kernel) ?_))
      exact cr_Y (fun th' yv' opd' y1 y2 ho => ⟨rfl, re_in (cr_J J0 (by omega) hf h1 h2 y1 y2 ho)⟩)
theorem xw_in144 {we : Nat} {kc : Nat → Nat} {ks : Nat → Nat} {vs : Nat → Int32} {bl : Nat → Nat} {fr : Nat → Bool} {us : Nat → Bool} {mr : Nat → Nat} {ms : Nat → Nat} {mn : Nat → Nat} {mv : Nat → Bool} {sz : Nat → Nat} {nu : Nat → Nat} {wp : Nat → Nat} {wi : Nat → Nat} {wa : Nat → Nat} {post : SX → Prop} (K : ∀ ro : Nat → Nat, (∀ r, r < 4 → ro r = 101) → wX_init_144 post (nI we) (0 + 1) (nI 4) (eu_N kc) (eu_N ks) vs (eu_P bl) (eu_B fr) (eu_B us) (eu_P mr) (eu_N ms) (eu_N mn) (eu_B mv) (eu_P ro) (eu_N sz) (eu_N nu) (eu_N wp) (eu_N wi) (eu_P wa)) :
    ∀ (d i : Nat) (ro : Nat → Nat), i + d = 4 → (∀ r, r < i → ro r = 101) → wX_init_144 post (nI we) (d + 1) (nI i) (eu_N kc) (eu_N ks) vs (eu_P bl) (eu_B fr) (eu_B us) (eu_P mr) (eu_N ms) (eu_N mn) (eu_B mv) (eu_P ro) (eu_N sz) (eu_N nu) (eu_N wp) (eu_N wi) (eu_P wa) := by
  intro d
  induction d with
  | zero =>
    intro i ro hi h1
    have e : i = 4 := by omega
    subst e
    exact K ro h1
  | succ d ih =>
    intro i ro hi h1
    rw [wX_init_144]
    refine br_f (by rw [ea_4]; exact nI_ge (by omega) (by omega)) ?_
    simp (disch := omega) only [forall_eq, true_implies, false_implies, not_true_eq_false, not_false_eq_true, and_true, true_and, ea_0, ea_1, ea_2, ea_3, ea_4, ea_5, ea_6, ea_24, ea_99, ea_100, ea_300, ea_n1, ea_n2, pk_mul, nI_add, pk_sub, ea_m1, nI_clamp, eu_Nr, eu_Br, eu_Pr, eu_pn, eu_nb, eu_i8, eu_pb, eu_pi, eu_vb0, eu_vb1, eu_vbb, eu_Nu, eu_Pu, eu_Pun, eu_Bu, eu_Bu0, eu_Bu1, ea_inT, nI_leI, Nat.zero_le, nI_ltI, nI_eq, eu_pl, eu_pg, eu_p2, eu_b0]
    refine ih (i + 1) _ (by omega) (fun r hr => ?_)
    by_cases e : r = i
    · subst e; exact un_s
    · rw [un_n e]; exact h1 r (by omega)
theorem i_vc0 : wpX_init (fun u => wpY_init (fun v => i_Rel 0 u v)) := by
  unfold wpX_init
  have em : upd (fun _ => 0) 0 (vp_nar .boolean 1) = eu_B (un_f (fun _ => false) 0 true) := by
    rw [ea_1, eu_vb1, eu_B0, eu_Bu1]
  have er : upd (fun _ => 0) 0 (vp_nar .byte (-1)) = eu_P (un_f (fun _ => 0) 0 100) := by
    rw [ea_e1, eu_pb, eu_P0, eu_Pu]
  refine nm_r em (nm_r er ⟨5, ?_⟩)
  have M0 : ∀ s, mp_ok (fun _ => false) (fun _ => 0) s [] := fun s j hj => ⟨⟨fun h => (nomatch h), fun ⟨v, h⟩ => (nomatch h)⟩, fun v h => (nomatch h)⟩
  have H := xw_in144 (we := 0) (kc := fun _ => 0) (ks := fun _ => 0) (vs := fun _ => 0) (bl := fun _ => 0) (fr := fun _ => false) (us := fun _ => false) (mr := un_f (fun _ => 0) 0 100) (ms := fun _ => 0) (mn := fun _ => 0) (mv := un_f (fun _ => false) 0 true) (sz := fun _ => 0) (nu := fun _ => 0) (wp := fun _ => 0) (wi := fun _ => 0) (wa := fun _ => 0)
    (post := fun u => wpY_init (fun v => i_Rel 0 u v)) (fun ro h1 => ?_) 4 0 (fun _ => 0) (by omega) (fun r hr => absurd hr (by omega))
  · exact H
  · rw [wX_init_144]
    refine br_t (by decide +kernel) ?_
    refine xw_loadWriter (cm := 0) (nb' := 0) (by omega) un_s rfl (fun h => ?_) (by omega) (by omega) (fun fr' hf => ?_)
    · rw [un_n (by omega)] at h; exact (nomatch h)
    · have rcs : ∀ s, s < 6 → 100 ≤ rc_f (un_f ro 3 (un_f (fun _ => 0) 0 100 0)) (un_f (fun _ => false) 0 true) (un_f (fun _ => 0) 0 100) s := by
        intro s s1
        by_cases e : s < 4
        · rw [rc_lo e]
          by_cases e3 : s = 3
          · subst e3; rw [un_s, un_s]; omega
          · rw [un_n e3, h1 s e]; omega
        · obtain ⟨m, rfl⟩ : ∃ m, s = 4 + m := ⟨s - 4, by omega⟩
          rw [rc_hi]
          by_cases em : m = 0
          · subst em; rw [un_s, un_s]; show 100 ≤ 100; omega
          · rw [un_n em]; show 100 ≤ 101; omega
      have J : rl_J 0 (fun _ => 0) (fun _ => 0) (fun _ => 0) (fun _ => 0) (un_f (fun _ => 0) 0 100) (fun _ => 0) (fun _ => 0) (un_f (fun _ => false) 0 true) (un_f ro 3 (un_f (fun _ => 0) 0 100 0)) (un_f (fun _ => 0) 3 0) (fun _ => 0) 0 (fun _ => false) (fun _ => 0) (fun _ => false) (fun _ => 0) (fun _ => 0) 0 := by
        refine ⟨⟨⟨fun _ => by show 0 ≤ 5; omega, fun _ => by show 0 < 100; omega⟩, fun s s1 hc => absurd hc (by have := rcs s s1; omega)⟩, ⟨by rw [un_s, un_s]; omega, by rw [un_s]; omega, fun s s1 s2 => ?_, ?_⟩, ⟨by omega, un_s, rfl, fun h => ?_, by omega⟩, fun r hr => ?_, ?_, ?_⟩
        · have := rcs s (by omega)
          rw [rc_lo s1] at this
          unfold tr_fc
          rw [if_neg (by omega)]
          by_cases e : s = 3
          · subst e; exact un_s
          · exact un_n e
        · unfold tr_fc
          rw [un_s, if_neg (by omega)]
          rfl
        · rw [un_n (by omega)] at h; exact (nomatch h)
        · rw [un_n (by omega), h1 r (by omega)]
          exact ⟨⟨fun h => (nomatch h), fun h => by omega⟩, fun h => (nomatch h)⟩
        · unfold tr_fc
          rw [un_s, un_s, if_neg (by omega)]
          exact M0 3
        · unfold tr_fc
          rw [un_s, if_neg (by omega)]
          exact M0 4
      have fin := re_in (we := 0) (us := fun _ => false) (wp := fun _ => 0) (wi := fun _ => 0) (wa := fun _ => 0) (rl_ofJ (fr := fr') J (Nat.le_refl 0) hf un_s rfl)
      exact fin
end
