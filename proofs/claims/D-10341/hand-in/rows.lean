section
/-! the picture of one CardFlash, its invariant, the pure steps -/
/-- a page number, or none -/
def fc_pg : Option Nat → Int32
  | none => -1
  | some p => nI p
def fc_u {α : Type} (f : Nat → α) (k : Nat) (v : α) : Nat → α := fun j => if j = k then v else f j
theorem fc_us {α : Type} {f : Nat → α} {k : Nat} {v : α} : fc_u f k v k = v := if_pos rfl
theorem fc_un {α : Type} {f : Nat → α} {k j : Nat} {v : α} (h : j ≠ k) : fc_u f k v j = f j := if_neg h
abbrev fc_S (c f n : Nat) (k : Nat → Int32) (o m : Nat → Nat) (wd tn : Nat → Int32) (w : Nat → Option Nat) : St1 :=
  (nI c, nI f, lN n, k, fun p => nI (o p), fun p => lN (m p), wd, tn, fun s => fc_pg (w s))
theorem fc_upI (f : Nat → Int32) (i : Nat) (x : Int32) : upd f i x = fc_u f i x := rfl
theorem fc_upN (o : Nat → Nat) (i s : Nat) : upd (fun p => nI (o p)) i (nI s) = fun p => nI (fc_u o i s p) := by
  funext p
  by_cases e : p = i
  · subst e
    rw [pk_us, fc_us]
  · rw [pk_un e, fc_un e]
theorem fc_upL (m : Nat → Nat) (i n : Nat) : vp_updL (fun p => lN (m p)) i (lN n) = fun p => lN (fc_u m i n p) := by
  funext p
  by_cases e : p = i
  · subst e
    rw [pk_uLs, fc_us]
  · rw [pk_uLn e, fc_un e]
theorem fc_upW (w : Nat → Option Nat) (i : Nat) (q : Option Nat) : upd (fun s => fc_pg (w s)) i (fc_pg q) = fun s => fc_pg (fc_u w i q s) := by
  funext p
  by_cases e : p = i
  · subst e
    rw [pk_us, fc_us]
  · rw [pk_un e, fc_un e]
theorem fc_4 (i : Nat) : (4 : Int32) * nI i = nI (4 * i) := pk_mul 4 i
theorem fc_4a (c f : Nat) : (4 : Int32) * nI c + nI f = nI (4 * c + f) := by rw [fc_4, nI_add]
theorem fc_neg1 : (-1 : Int32) < 0 := by decide
theorem fc_pg_eq {x : Option Nat} {p : Nat} (hp : p < 32) (hx : ∀ q, x = some q → q < 32) : fc_pg x = nI p ↔ x = some p := by
  cases x with
  | none =>
    constructor
    · intro h
      have h1 : ¬ nI p < 0 := nI_pos (by omega)
      rw [← h] at h1
      exact absurd fc_neg1 h1
    · intro h
      cases h
  | some q =>
    have hq := hx q rfl
    show nI q = nI p ↔ _
    rw [nI_eq (by omega) (by omega)]
    constructor
    · intro h
      rw [h]
    · intro h
      injection h
/-! sums -/
def fc_sm (f : Nat → Nat) : Nat → Nat
  | 0 => 0
  | n + 1 => fc_sm f n + f n
theorem fc_sm_le {f g : Nat → Nat} {n : Nat} (h : ∀ i, i < n → f i ≤ g i) : fc_sm f n ≤ fc_sm g n := by
  induction n with
  | zero => exact Nat.le_refl _
  | succ n ih =>
    have h1 := ih (fun i hi => h i (by omega))
    have h2 := h n (by omega)
    show fc_sm f n + f n ≤ fc_sm g n + g n
    omega
theorem fc_sm_ge {f : Nat → Nat} {n i : Nat} (h : i < n) : fc_sm f i + f i ≤ fc_sm f n := by
  induction n with
  | zero => omega
  | succ n ih =>
    show fc_sm f i + f i ≤ fc_sm f n + f n
    by_cases e : i = n
    · subst e
      exact Nat.le_refl _
    · have := ih (by omega)
      omega
theorem fc_sm_0 {f : Nat → Nat} {n : Nat} (h : ∀ i, i < n → f i = 0) : fc_sm f n = 0 := by
  induction n with
  | zero => rfl
  | succ n ih =>
    show fc_sm f n + f n = 0
    rw [ih (fun i hi => h i (by omega)), h n (by omega)]
theorem fc_sm_add (f g : Nat → Nat) (n : Nat) : fc_sm (fun i => f i + g i) n = fc_sm f n + fc_sm g n := by
  induction n with
  | zero => rfl
  | succ n ih =>
    show fc_sm (fun i => f i + g i) n + (f n + g n) = fc_sm f n + f n + (fc_sm g n + g n)
    omega
theorem fc_sm_swap (f : Nat → Nat → Nat) (a b : Nat) : fc_sm (fun i => fc_sm (fun j => f i j) b) a = fc_sm (fun j => fc_sm (fun i => f i j) a) b := by
  induction a with
  | zero => exact (fc_sm_0 (fun _ _ => rfl)).symm
  | succ a ih =>
    show fc_sm (fun i => fc_sm (fun j => f i j) b) a + fc_sm (fun j => f a j) b = fc_sm (fun j => fc_sm (fun i => f i j) a + f a j) b
    rw [fc_sm_add, ih]
theorem fc_sm_1 {f : Nat → Nat} {n : Nat} (h : ∀ i, i < n → f i ≤ 1) : fc_sm f n ≤ n := by
  induction n with
  | zero => exact Nat.le_refl _
  | succ n ih =>
    have h1 := ih (fun i hi => h i (by omega))
    have h2 := h n (by omega)
    show fc_sm f n + f n ≤ n + 1
    omega
theorem fc_sm_ind (x : Option Nat) (n : Nat) : fc_sm (fun p => if x = some p then 1 else 0) n ≤ 1 := by
  cases x with
  | none => rw [fc_sm_0 (fun i _ => if_neg (by intro h; cases h))]; omega
  | some q =>
    have key : ∀ n, fc_sm (fun p => if some q = some p then 1 else 0) n ≤ (if q < n then 1 else 0) := by
      intro n
      induction n with
      | zero => exact Nat.zero_le _
      | succ n ih =>
        show fc_sm (fun p => if some q = some p then 1 else 0) n + (if some q = some n then 1 else 0) ≤ _
        by_cases e : q = n
        · subst e
          rw [if_neg (Nat.lt_irrefl q)] at ih
          rw [if_pos rfl, if_pos (Nat.lt_succ_self q)]
          omega
        · rw [if_neg (by intro h; injection h with h; exact e h)]
          by_cases h : q < n
          · rw [if_pos h] at ih
            rw [if_pos (by omega)]
            exact ih
          · rw [if_neg h] at ih
            rw [if_neg (by omega)]
            exact ih
    have := key n
    by_cases h : q < n
    · rw [if_pos h] at this
      exact this
    · rw [if_neg h] at this
      omega
/-! the invariant -/
def fc_M (n : Nat) (k : Nat → Int32) (o m : Nat → Nat) (w : Nat → Option Nat) : Prop :=
  1 ≤ n ∧ (∀ p, o p < 16) ∧ (∀ p, p < 32 → k p ≠ 0 → m p < n) ∧
  (∀ p, p < 32 → k p ≠ 0 → ∃ q, w (o p) = some q ∧ (p = q ∨ m p < m q)) ∧
  (∀ s q, s < 16 → w s = some q → q < 32 ∧ k q ≠ 0 ∧ o q = s)
def fc_B (c f : Nat) (k : Nat → Int32) : Prop :=
  c < 8 ∧ f ≤ 4 ∧ (∀ j, j < 4 → (k (4 * c + j) ≠ 0 ↔ j < f)) ∧
  (∀ b, b < 8 → b ≠ c → (∀ j, j < 4 → k (4 * b + j) = 0) ∨ (∀ j, j < 4 → k (4 * b + j) ≠ 0))
def fc_F (c : Nat) (k : Nat → Int32) : Prop := ∃ b, b < 8 ∧ b ≠ c ∧ ∀ j, j < 4 → k (4 * b + j) = 0
def fc_ct (k wd tn : Nat → Int32) (w : Nat → Option Nat) (s : Nat) : Int32 × Int32 × Int32 := match w s with
  | none => (0, 0, 0)
  | some p => (k p, wd p, tn p)
theorem fc_ct_n {k wd tn : Nat → Int32} {w : Nat → Option Nat} {s : Nat} (h : w s = none) : fc_ct k wd tn w s = (0, 0, 0) := by
  unfold fc_ct
  rw [h]
theorem fc_ct_s {k wd tn : Nat → Int32} {w : Nat → Option Nat} {s p : Nat} (h : w s = some p) : fc_ct k wd tn w s = (k p, wd p, tn p) := by
  unfold fc_ct
  rw [h]
theorem fc_wlt {n : Nat} {k : Nat → Int32} {o m : Nat → Nat} {w : Nat → Option Nat} (h : fc_M n k o m w) : ∀ s q, s < 16 → w s = some q → q < 32 := fun s q hs hq => (h.2.2.2.2 s q hs hq).1
/-! one page is written -/
theorem fc_putM {n : Nat} {k : Nat → Int32} {o m : Nat → Nat} {w : Nat → Option Nat} {s g : Nat} {kd : Int32} (h : fc_M n k o m w) (hs : s < 16) (hg : g < 32) (h0 : k g = 0) (hk : kd ≠ 0) :
    fc_M (n + 1) (fc_u k g kd) (fc_u o g s) (fc_u m g n) (fc_u w s (some g)) := by
  obtain ⟨h1, h2, h3, h4, h5⟩ := h
  refine ⟨by omega, ?_, ?_, ?_, ?_⟩
  · intro p
    by_cases e : p = g
    · subst e
      rw [fc_us]
      exact hs
    · rw [fc_un e]
      exact h2 p
  · intro p hp hk
    by_cases e : p = g
    · subst e
      rw [fc_us]
      omega
    · rw [fc_un e] at hk
      rw [fc_un e]
      have := h3 p hp hk
      omega
  · intro p hp hk
    by_cases e : p = g
    · subst e
      refine ⟨p, ?_, Or.inl rfl⟩
      rw [fc_us, fc_us]
    · rw [fc_un e] at hk
      rw [fc_un e, fc_un e]
      by_cases e2 : o p = s
      · refine ⟨g, ?_, Or.inr ?_⟩
        · rw [e2, fc_us]
        · rw [fc_us]
          exact h3 p hp hk
      · obtain ⟨q, hq, hm⟩ := h4 p hp hk
        have hqg : q ≠ g := by
          intro e3
          subst e3
          exact (h5 (o p) q (h2 p) hq).2.1 h0
        refine ⟨q, ?_, ?_⟩
        · rw [fc_un e2]
          exact hq
        · rw [fc_un hqg]
          exact hm
  · intro t q ht hq
    by_cases e : t = s
    · subst e
      rw [fc_us] at hq
      injection hq with hq
      subst hq
      exact ⟨hg, by rw [fc_us]; exact hk, by rw [fc_us]⟩
    · rw [fc_un e] at hq
      obtain ⟨a1, a2, a3⟩ := h5 t q ht hq
      have hqg : q ≠ g := by
        intro e3
        subst e3
        exact a2 h0
      exact ⟨a1, by rw [fc_un hqg]; exact a2, by rw [fc_un hqg]; exact a3⟩
theorem fc_putB {c f : Nat} {k : Nat → Int32} {kd : Int32} (h : fc_B c f k) (hf : f < 4) (hk : kd ≠ 0) : fc_B c (f + 1) (fc_u k (4 * c + f) kd) := by
  obtain ⟨h1, h2, h3, h4⟩ := h
  refine ⟨h1, by omega, ?_, ?_⟩
  · intro j hj
    by_cases e : j = f
    · subst e
      rw [fc_us]
      exact ⟨fun _ => by omega, fun _ => hk⟩
    · rw [fc_un (by omega), h3 j hj]
      omega
  · intro b hb hbc
    have key : ∀ j, j < 4 → fc_u k (4 * c + f) kd (4 * b + j) = k (4 * b + j) := fun j hj => fc_un (by omega)
    rcases h4 b hb hbc with z | z
    · exact Or.inl (fun j hj => by rw [key j hj]; exact z j hj)
    · exact Or.inr (fun j hj => by rw [key j hj]; exact z j hj)
theorem fc_putF {c f : Nat} {k : Nat → Int32} {kd : Int32} (h : fc_F c k) (hf : f < 4) : fc_F c (fc_u k (4 * c + f) kd) := by
  obtain ⟨b, hb, hbc, z⟩ := h
  exact ⟨b, hb, hbc, fun j hj => by rw [fc_un (by omega)]; exact z j hj⟩
theorem fc_putC {n : Nat} {k wd tn : Nat → Int32} {o m : Nat → Nat} {w : Nat → Option Nat} {s g : Nat} {kd cd fl : Int32} (h : fc_M n k o m w) (h0 : k g = 0) :
    ∀ t, t < 16 → fc_ct (fc_u k g kd) (fc_u wd g cd) (fc_u tn g fl) (fc_u w s (some g)) t = if t = s then (kd, cd, fl) else fc_ct k wd tn w t := by
  intro t ht
  by_cases e : t = s
  · subst e
    rw [if_pos rfl, fc_ct_s fc_us, fc_us, fc_us, fc_us]
  · rw [if_neg e]
    cases hw : w t with
    | none =>
      rw [fc_ct_n hw, fc_ct_n (by rw [fc_un e]; exact hw)]
    | some q =>
      have hqg : q ≠ g := by
        intro e3
        subst e3
        exact (h.2.2.2.2 t q ht hw).2.1 h0
      rw [fc_ct_s hw, fc_ct_s (p := q) (by rw [fc_un e]; exact hw), fc_un hqg, fc_un hqg, fc_un hqg]
/-! a block is erased -/
def fc_E (k : Nat → Int32) (b i : Nat) : Nat → Int32 := fun p => if 4 * b ≤ p ∧ p < 4 * b + i then 0 else k p
theorem fc_E_0 (k : Nat → Int32) (b : Nat) : fc_E k b 0 = k := by
  funext p
  exact if_neg (by omega)
theorem fc_E_s (k : Nat → Int32) (b i : Nat) : fc_u (fc_E k b i) (4 * b + i) 0 = fc_E k b (i + 1) := by
  funext p
  unfold fc_u fc_E
  by_cases e : p = 4 * b + i
  · rw [if_pos e, if_pos (by omega)]
  · rw [if_neg e]
    by_cases e2 : 4 * b ≤ p ∧ p < 4 * b + i
    · rw [if_pos e2, if_pos (by omega)]
    · rw [if_neg e2, if_neg (by omega)]
theorem fc_E_o {k : Nat → Int32} {b p : Nat} (h : ¬ (4 * b ≤ p ∧ p < 4 * b + 4)) : fc_E k b 4 p = k p := if_neg h
theorem fc_E_i {k : Nat → Int32} {b p : Nat} (h : 4 * b ≤ p ∧ p < 4 * b + 4) : fc_E k b 4 p = 0 := if_pos h
theorem fc_erM {n : Nat} {k : Nat → Int32} {o m : Nat → Nat} {w : Nat → Option Nat} {b : Nat} (h : fc_M n k o m w) (hw : ∀ s q, s < 16 → w s = some q → ¬ (4 * b ≤ q ∧ q < 4 * b + 4)) : fc_M n (fc_E k b 4) o m w := by
  obtain ⟨h1, h2, h3, h4, h5⟩ := h
  have key : ∀ p, fc_E k b 4 p ≠ 0 → k p ≠ 0 := by
    intro p hp
    by_cases e : 4 * b ≤ p ∧ p < 4 * b + 4
    · exact absurd (fc_E_i e) hp
    · rw [fc_E_o e] at hp
      exact hp
  refine ⟨h1, h2, fun p hp hk => h3 p hp (key p hk), fun p hp hk => h4 p hp (key p hk), fun s q hs hq => ?_⟩
  obtain ⟨a1, a2, a3⟩ := h5 s q hs hq
  exact ⟨a1, by rw [fc_E_o (hw s q hs hq)]; exact a2, a3⟩
theorem fc_erB {c f b : Nat} {k : Nat → Int32} (h : fc_B c f k) (hb : b ≠ c) : fc_B c f (fc_E k b 4) := by
  obtain ⟨h1, h2, h3, h4⟩ := h
  refine ⟨h1, h2, ?_, ?_⟩
  · intro j hj
    rw [fc_E_o (by omega)]
    exact h3 j hj
  · intro a ha hac
    by_cases e : a = b
    · subst e
      exact Or.inl (fun j hj => fc_E_i (by omega))
    · rcases h4 a ha hac with z | z
      · exact Or.inl (fun j hj => by rw [fc_E_o (by omega)]; exact z j hj)
      · exact Or.inr (fun j hj => by rw [fc_E_o (by omega)]; exact z j hj)
theorem fc_erF {c b : Nat} {k : Nat → Int32} (h8 : b < 8) (hb : b ≠ c) : fc_F c (fc_E k b 4) := ⟨b, h8, hb, fun j hj => fc_E_i (by omega)⟩
theorem fc_erC {k wd tn : Nat → Int32} {w : Nat → Option Nat} {b : Nat} (hw : ∀ s q, s < 16 → w s = some q → ¬ (4 * b ≤ q ∧ q < 4 * b + 4)) : ∀ t, t < 16 → fc_ct (fc_E k b 4) wd tn w t = fc_ct k wd tn w t := by
  intro t ht
  cases e : w t with
  | none => rw [fc_ct_n e, fc_ct_n e]
  | some q => rw [fc_ct_s e, fc_ct_s e, fc_E_o (hw t q ht e)]
/-! live pages -/
def fc_lv (k : Nat → Int32) (o : Nat → Nat) (w : Nat → Option Nat) (p : Nat) : Nat := if k p ≠ 0 ∧ w (o p) = some p then 1 else 0
def fc_lb (k : Nat → Int32) (o : Nat → Nat) (w : Nat → Option Nat) (b : Nat) : Nat := fc_sm (fun j => fc_lv k o w (4 * b + j)) 4
theorem fc_lv_1 (k : Nat → Int32) (o : Nat → Nat) (w : Nat → Option Nat) (p : Nat) : fc_lv k o w p ≤ 1 := by
  unfold fc_lv
  split
  · exact Nat.le_refl _
  · exact Nat.zero_le _
theorem fc_lb_4 (k : Nat → Int32) (o : Nat → Nat) (w : Nat → Option Nat) (b : Nat) : fc_lb k o w b ≤ 4 := fc_sm_1 (fun i _ => fc_lv_1 k o w _)
theorem fc_putL {k : Nat → Int32} {o : Nat → Nat} {w : Nat → Option Nat} {g p q : Nat} {kd : Int32} (hp : w (o p) = some p) (hqg : q ≠ g) (hqp : q ≠ p) :
    fc_lv (fc_u k g kd) (fc_u o g (o p)) (fc_u w (o p) (some g)) q = fc_lv k o w q := by
  unfold fc_lv
  rw [fc_un hqg, fc_un hqg]
  by_cases e : o q = o p
  · rw [e, fc_us, hp, if_neg, if_neg]
    · intro h
      have := h.2
      injection this with this
      exact hqp this.symm
    · intro h
      have := h.2
      injection this with this
      exact hqg this.symm
  · rw [fc_un e]
theorem fc_total {n : Nat} {k : Nat → Int32} {o m : Nat → Nat} {w : Nat → Option Nat} (h : fc_M n k o m w) : fc_sm (fun p => fc_lv k o w p) 32 ≤ 16 := by
  have h1 : fc_sm (fun p => fc_lv k o w p) 32 ≤ fc_sm (fun p => fc_sm (fun s => if w s = some p then 1 else 0) 16) 32 := by
    refine fc_sm_le (fun p hp => ?_)
    show fc_lv k o w p ≤ fc_sm (fun s => if w s = some p then 1 else 0) 16
    unfold fc_lv
    split
    · rename_i z
      have h2 := fc_sm_ge (f := fun s => if w s = some p then 1 else 0) (h.2.1 p)
      rw [if_pos z.2] at h2
      omega
    · exact Nat.zero_le _
  rw [fc_sm_swap (fun p s => if w s = some p then 1 else 0) 32 16] at h1
  have h2 := fc_sm_1 (f := fun s => fc_sm (fun p => if w s = some p then 1 else 0) 32) (n := 16) (fun s _ => fc_sm_ind (w s) 32)
  omega
theorem fc_split (g : Nat → Nat) : fc_sm g 32 = fc_sm (fun b => fc_sm (fun j => g (4 * b + j)) 4) 8 := by
  simp only [fc_sm, Nat.zero_add, Nat.mul_zero, Nat.add_zero, Nat.mul_one, Nat.reduceMul, Nat.reduceAdd]
  omega
theorem fc_pigeon {n : Nat} {k : Nat → Int32} {o m : Nat → Nat} {w : Nat → Option Nat} {c x : Nat} (h : fc_M n k o m w) (hc : c < 8) (hx : ∀ b, b < 8 → b ≠ c → x ≤ fc_lb k o w b) : x ≤ 2 := by
  have h1 := fc_total h
  rw [fc_split] at h1
  have h2 : fc_sm (fun b => fc_lb k o w b) 8 ≤ 16 := h1
  have h3 : fc_sm (fun b => if b = c then 0 else x) 8 ≤ fc_sm (fun b => fc_lb k o w b) 8 := by
    refine fc_sm_le (fun b hb => ?_)
    show (if b = c then 0 else x) ≤ _
    by_cases e : b = c
    · rw [if_pos e]
      exact Nat.zero_le _
    · rw [if_neg e]
      exact hx b hb e
  have h4 : fc_sm (fun b => if b = c then 0 else x) 8 = 7 * x := by
    have hc' : c = 0 ∨ c = 1 ∨ c = 2 ∨ c = 3 ∨ c = 4 ∨ c = 5 ∨ c = 6 ∨ c = 7 := by omega
    rcases hc' with e | e | e | e | e | e | e | e <;> subst e <;> simp [fc_sm] <;> omega
  omega
end
section
/-! Int32 by its bits: rows of BITS.to-paste (a starting text), renamed; then the code -/
def fc_bt (x : Int32) (i : Nat) : Bool := x.toBitVec.getLsbD i
theorem fc_b_ext {x y : Int32} (h : ∀ i, i < 32 → fc_bt x i = fc_bt y i) : x = y := Int32.toBitVec_inj.mp (BitVec.eq_of_getLsbD_eq (fun i hi => h i hi))
theorem fc_b_or (x y : Int32) (i : Nat) : fc_bt (x ||| y) i = (fc_bt x i || fc_bt y i) := by unfold fc_bt; rw [Int32.toBitVec_or, BitVec.getLsbD_or]
theorem fc_b_and (x y : Int32) (i : Nat) : fc_bt (x &&& y) i = (fc_bt x i && fc_bt y i) := by unfold fc_bt; rw [Int32.toBitVec_and, BitVec.getLsbD_and]
theorem fc_b_xor (x y : Int32) (i : Nat) : fc_bt (x ^^^ y) i = (fc_bt x i ^^ fc_bt y i) := by unfold fc_bt; rw [Int32.toBitVec_xor, BitVec.getLsbD_xor]
theorem fc_b_big {x : Int32} {i : Nat} (h : 32 ≤ i) : fc_bt x i = false := BitVec.getLsbD_of_ge _ _ h
theorem fc_b_255 (i : Nat) : fc_bt 255 i = decide (i < 8) := by
  rcases Nat.lt_or_ge i 32 with h | h
  · exact (by decide +kernel : ∀ i, i < 32 → fc_bt 255 i = decide (i < 8)) i h
  · rw [fc_b_big h, decide_eq_false (by omega)]
theorem fc_b_65535 (i : Nat) : fc_bt 65535 i = decide (i < 16) := by
  rcases Nat.lt_or_ge i 32 with h | h
  · exact (by decide +kernel : ∀ i, i < 32 → fc_bt 65535 i = decide (i < 16)) i h
  · rw [fc_b_big h, decide_eq_false (by omega)]
theorem fc_b_m1 : ∀ i, i < 32 → fc_bt (-1) i = true := by decide +kernel
theorem fc_b_0 (i : Nat) : fc_bt 0 i = false := BitVec.getLsbD_zero
theorem fc_s_l : ∀ n, n < 32 → ((nI n &&& 31).toBitVec.smod 32).toNat = n := by decide +kernel
theorem fc_s_u : ∀ n, n < 32 → (((nI n).toUInt32 &&& Int32.toUInt32 31).toBitVec % 32).toNat = n := by decide +kernel
theorem fc_b_shl (n : Nat) (hn : n < 32) (x : Int32) {i : Nat} (hi : i < 32) : fc_bt (x <<< (nI n &&& 31)) i = (decide (n ≤ i) && fc_bt x (i - n)) := by
  unfold fc_bt
  rw [Int32.toBitVec_shiftLeft]
  show (x.toBitVec <<< ((nI n &&& 31).toBitVec.smod 32).toNat).getLsbD i = _
  rw [fc_s_l n hn, BitVec.getLsbD_shiftLeft]
  rcases Nat.lt_or_ge i n with h | h
  · simp [h, Nat.not_le.mpr h]
  · simp [hi, h, Nat.not_lt.mpr h]
theorem fc_b_ushr (n : Nat) (hn : n < 32) (x : Int32) (i : Nat) : fc_bt ((x.toUInt32 >>> ((nI n).toUInt32 &&& Int32.toUInt32 31)).toInt32) i = fc_bt x (n + i) := by
  show (x.toUInt32 >>> ((nI n).toUInt32 &&& Int32.toUInt32 31)).toBitVec.getLsbD i = x.toUInt32.toBitVec.getLsbD (n + i)
  rw [UInt32.toBitVec_shiftRight]
  show (x.toUInt32.toBitVec >>> (((nI n).toUInt32 &&& Int32.toUInt32 31).toBitVec % 32).toNat).getLsbD i = _
  rw [fc_s_u n hn, BitVec.getLsbD_ushiftRight]
theorem fc_nx_xor (a b : Nat) : nI a ^^^ nI b = nI (a ^^^ b) := by
  apply Int32.toBitVec_inj.1
  show BitVec.ofNat 32 a ^^^ BitVec.ofNat 32 b = BitVec.ofNat 32 (a ^^^ b)
  apply BitVec.eq_of_getLsbD_eq
  intro i hi
  simp [hi]
/-! the value functions of the loops -/
def fc_bi (x : Int32) (i : Nat) : Int32 := ((x.toUInt32 >>> ((nI i).toUInt32 &&& Int32.toUInt32 31)).toInt32) &&& 1
theorem fc_b_1 (j : Nat) : fc_bt 1 j = decide (j = 0) := by
  rcases Nat.lt_or_ge j 32 with h | h
  · exact (by decide +kernel : ∀ j, j < 32 → fc_bt 1 j = decide (j = 0)) j h
  · rw [fc_b_big h, decide_eq_false (by omega)]
theorem fc_bi_b {x : Int32} {i : Nat} (hi : i < 32) (j : Nat) : fc_bt (fc_bi x i) j = (decide (j = 0) && fc_bt x i) := by
  unfold fc_bi
  rw [fc_b_and, fc_b_ushr i hi, fc_b_1]
  by_cases e : j = 0
  · subst e
    simp
  · simp [e]
theorem fc_bi_t {x : Int32} {i : Nat} (hi : i < 32) (h : fc_bt x i = true) : fc_bi x i = 1 := by
  apply fc_b_ext
  intro j hj
  rw [fc_bi_b hi, fc_b_1, h, Bool.and_true]
theorem fc_bi_f {x : Int32} {i : Nat} (hi : i < 32) (h : fc_bt x i = false) : fc_bi x i = 0 := by
  apply fc_b_ext
  intro j hj
  rw [fc_bi_b hi, fc_b_0, h, Bool.and_false]
def fc_on (β : Nat → Bool) : Nat → Nat
  | 0 => 0
  | i + 1 => fc_on β i + (β i).toNat
def fc_pr (β : Nat → Bool) : Nat → Bool
  | 0 => false
  | i + 1 => (fc_pr β i ^^ β i)
def fc_sy (β : Nat → Bool) : Nat → Nat
  | 0 => 0
  | i + 1 => fc_sy β i ^^^ (if β (i + 1) = true then i + 1 else 0)
def fc_ck (p : Nat) : Bool := decide ((nI p &&& (nI p - 1)) = 0)
def fc_kk : Nat → Nat
  | 0 => 0
  | i + 1 => if fc_ck (i + 1) = true then fc_kk i else fc_kk i + 1
def fc_e1 (v : Int32) : Nat → Int32
  | 0 => 0
  | i + 1 => if fc_ck (i + 1) = true then fc_e1 v i else fc_e1 v i ||| (fc_bi v (fc_kk i) <<< (nI (i + 1) &&& 31))
def fc_e2 (c : Int32) (S : Nat) : Nat → Int32
  | 0 => c
  | b + 1 => fc_e2 c S b ||| (fc_bi (nI S) b <<< (((1 : Int32) <<< (nI b &&& 31)) &&& 31))
def fc_c2 (v : Int32) : Int32 := fc_e2 (fc_e1 v 21) (fc_sy (fc_bt (fc_e1 v 21)) 21) 5
def fc_enc (v : Int32) : Int32 := fc_c2 v ||| (nI (fc_on (fc_bt (fc_c2 v)) 22) &&& 1)
def fc_ex (x : Int32) : Nat → Int32
  | 0 => 0
  | i + 1 => if fc_ck (i + 1) = true then fc_ex x i else fc_ex x i ||| (fc_bi x (i + 1) <<< (nI (fc_kk i) &&& 31))
def fc_tt (a : Nat) : Int32 := (1 : Int32) <<< (nI a &&& 31)
def fc_dec (x : Int32) : Int32 :=
  if fc_pr (fc_bt x) 22 = true then fc_ex (x ^^^ fc_tt (fc_sy (fc_bt x) 21)) 21
  else if fc_sy (fc_bt x) 21 = 0 then fc_ex x 21 else -3
/-! plain facts -/
theorem fc_on_le (β : Nat → Bool) (i : Nat) : fc_on β i ≤ i := by
  induction i with
  | zero => exact Nat.le_refl _
  | succ i ih =>
    have : (β i).toNat ≤ 1 := Bool.toNat_le _
    show fc_on β i + (β i).toNat ≤ i + 1
    omega
theorem fc_on_pr (β : Nat → Bool) (i : Nat) : fc_on β i % 2 = (fc_pr β i).toNat := by
  induction i with
  | zero => rfl
  | succ i ih =>
    show (fc_on β i + (β i).toNat) % 2 = (fc_pr β i ^^ β i).toNat
    cases h1 : fc_pr β i <;> cases h2 : β i <;> rw [h1] at ih <;> simp at ih ⊢ <;> omega
theorem fc_on_and (β : Nat → Bool) : nI (fc_on β 22) &&& 1 = if fc_pr β 22 = true then 1 else 0 := by
  have h1 := fc_on_le β 22
  have h2 := fc_on_pr β 22
  rw [pk_andN (by omega) (m := 1) 1 (by decide), show (2 : Nat) ^ 1 = 2 from rfl, h2]
  cases fc_pr β 22 <;> rfl
theorem fc_on_odd (β : Nat → Bool) : (nI (fc_on β 22) &&& 1) = 0 ↔ fc_pr β 22 = false := by
  rw [fc_on_and]
  cases fc_pr β 22 <;> decide
theorem fc_sy_lt (β : Nat → Bool) (i : Nat) (hi : i ≤ 21) : fc_sy β i < 32 := by
  induction i with
  | zero => exact (by omega : 0 < 32)
  | succ i ih =>
    show fc_sy β i ^^^ (if β (i + 1) = true then i + 1 else 0) < 2 ^ 5
    refine Nat.xor_lt_two_pow (ih (by omega)) ?_
    split <;> omega
theorem fc_sy_congr {α β : Nat → Bool} (i : Nat) (h : ∀ p, 1 ≤ p → p ≤ i → α p = β p) : fc_sy α i = fc_sy β i := by
  induction i with
  | zero => rfl
  | succ i ih =>
    show fc_sy α i ^^^ (if α (i + 1) = true then i + 1 else 0) = fc_sy β i ^^^ (if β (i + 1) = true then i + 1 else 0)
    rw [ih (fun p h1 h2 => h p h1 (by omega)), h (i + 1) (by omega) (by omega)]
theorem fc_pr_congr {α β : Nat → Bool} (i : Nat) (h : ∀ p, p < i → α p = β p) : fc_pr α i = fc_pr β i := by
  induction i with
  | zero => rfl
  | succ i ih =>
    show (fc_pr α i ^^ α i) = (fc_pr β i ^^ β i)
    rw [ih (fun p h1 => h p (by omega)), h i (by omega)]
theorem fc_x4 (a b c d : Nat) : (a ^^^ b) ^^^ (c ^^^ d) = (a ^^^ c) ^^^ (b ^^^ d) := by
  rw [Nat.xor_assoc, Nat.xor_assoc, ← Nat.xor_assoc b, ← Nat.xor_assoc c, Nat.xor_comm b c]
theorem fc_sy_xor (α β : Nat → Bool) (i : Nat) : fc_sy (fun p => (α p ^^ β p)) i = fc_sy α i ^^^ fc_sy β i := by
  induction i with
  | zero => exact (Nat.xor_self 0).symm
  | succ i ih =>
    show fc_sy (fun p => (α p ^^ β p)) i ^^^ (if (α (i + 1) ^^ β (i + 1)) = true then i + 1 else 0) = (fc_sy α i ^^^ (if α (i + 1) = true then i + 1 else 0)) ^^^ (fc_sy β i ^^^ (if β (i + 1) = true then i + 1 else 0))
    rw [ih, fc_x4]
    congr 1
    cases α (i + 1) <;> cases β (i + 1) <;> simp
theorem fc_pr_xor (α β : Nat → Bool) (i : Nat) : fc_pr (fun p => (α p ^^ β p)) i = (fc_pr α i ^^ fc_pr β i) := by
  induction i with
  | zero => rfl
  | succ i ih =>
    show (fc_pr (fun p => (α p ^^ β p)) i ^^ (α i ^^ β i)) = ((fc_pr α i ^^ α i) ^^ (fc_pr β i ^^ β i))
    rw [ih]
    cases fc_pr α i <;> cases fc_pr β i <;> cases α i <;> cases β i <;> rfl
theorem fc_kk_le (i : Nat) : fc_kk i ≤ i := by
  induction i with
  | zero => exact Nat.le_refl _
  | succ i ih =>
    unfold fc_kk
    split <;> omega
theorem fc_bi_sh {x : Int32} {a n i : Nat} (ha : a < 32) (hn : n < 32) (hi : i < 32) : fc_bt (fc_bi x a <<< (nI n &&& 31)) i = (decide (i = n) && fc_bt x a) := by
  rw [fc_b_shl n hn _ hi, fc_bi_b ha]
  by_cases e : i = n
  · subst e
    simp
  · by_cases e2 : n ≤ i
    · have : ¬ i - n = 0 := by omega
      simp [e, this]
    · simp [e, e2]
theorem fc_e1_b (v : Int32) (i : Nat) (hi : i ≤ 21) : ∀ p, p < 32 → fc_bt (fc_e1 v i) p = ((decide (1 ≤ p ∧ p ≤ i) && !fc_ck p) && fc_bt v (fc_kk (p - 1))) := by
  induction i with
  | zero =>
    intro p hp
    have : ¬ (1 ≤ p ∧ p ≤ 0) := by omega
    show fc_bt 0 p = _
    rw [fc_b_0, decide_eq_false this]
    rfl
  | succ i ih =>
    intro p hp
    have ih' := ih (by omega) p hp
    have hk := fc_kk_le i
    unfold fc_e1
    by_cases hc : fc_ck (i + 1) = true
    · rw [if_pos hc, ih']
      by_cases e : p = i + 1
      · subst e
        rw [hc]
        simp
      · have hd : decide (1 ≤ p ∧ p ≤ i) = decide (1 ≤ p ∧ p ≤ i + 1) := decide_eq_decide.mpr (by omega)
        rw [hd]
    · rw [if_neg hc, fc_b_or, ih', fc_bi_sh (by omega) (by omega) hp]
      by_cases e : p = i + 1
      · subst e
        have hc' : fc_ck (i + 1) = false := by
          cases h : fc_ck (i + 1)
          · rfl
          · exact absurd h hc
        have h1 : ¬ (1 ≤ i + 1 ∧ i + 1 ≤ i) := by omega
        have h2 : (1 ≤ i + 1 ∧ i + 1 ≤ i + 1) := by omega
        rw [decide_eq_false h1, decide_eq_true h2, hc', decide_eq_true rfl]
        simp
      · have hd : decide (1 ≤ p ∧ p ≤ i) = decide (1 ≤ p ∧ p ≤ i + 1) := decide_eq_decide.mpr (by omega)
        rw [hd, decide_eq_false e]
        simp
def fc_chi (S : Nat) : Nat → Nat → Bool
  | 0, _ => false
  | b + 1, p => fc_chi S b p || (decide (p = 2 ^ b) && fc_bt (nI S) b)
theorem fc_1s : ∀ b, b < 5 → ((1 : Int32) <<< (nI b &&& 31)) = nI (2 ^ b) := by decide +kernel
theorem fc_p5 : ∀ b, b < 5 → 2 ^ b < 32 := by decide
theorem fc_e2_b (c : Int32) (S : Nat) (b : Nat) (hb : b ≤ 5) : ∀ p, p < 32 → fc_bt (fc_e2 c S b) p = (fc_bt c p || fc_chi S b p) := by
  induction b with
  | zero =>
    intro p hp
    show fc_bt c p = (fc_bt c p || false)
    rw [Bool.or_false]
  | succ b ih =>
    intro p hp
    have ih' := ih (by omega) p hp
    show fc_bt (fc_e2 c S b ||| (fc_bi (nI S) b <<< (((1 : Int32) <<< (nI b &&& 31)) &&& 31))) p = (fc_bt c p || (fc_chi S b p || (decide (p = 2 ^ b) && fc_bt (nI S) b)))
    rw [fc_1s b (by omega), fc_b_or, ih', fc_bi_sh (by omega) (fc_p5 b (by omega)) hp, Bool.or_assoc]
theorem fc_chi_s : ∀ S, S < 32 → fc_sy (fc_chi S 5) 21 = S := by decide +kernel
theorem fc_chi_d : ∀ S, S < 32 → ∀ p, p < 32 → (p = 0 ∨ fc_ck p = false) → fc_chi S 5 p = false := by decide +kernel
theorem fc_c2_b (v : Int32) : ∀ p, p < 32 → fc_bt (fc_c2 v) p = (fc_bt (fc_e1 v 21) p ^^ fc_chi (fc_sy (fc_bt (fc_e1 v 21)) 21) 5 p) := by
  intro p hp
  unfold fc_c2
  rw [fc_e2_b _ _ 5 (by omega) p hp]
  have hS := fc_sy_lt (fc_bt (fc_e1 v 21)) 21 (by omega)
  have hd := fc_chi_d _ hS p hp
  have he := fc_e1_b v 21 (by omega) p hp
  cases h1 : fc_ck p with
  | false => rw [hd (Or.inr h1)]; simp
  | true =>
    rw [h1] at he
    rw [he]
    simp
theorem fc_c2_0 (v : Int32) : fc_bt (fc_c2 v) 0 = false := by
  have hS := fc_sy_lt (fc_bt (fc_e1 v 21)) 21 (by omega)
  rw [fc_c2_b v 0 (by omega), fc_chi_d _ hS 0 (by omega) (Or.inl rfl), fc_e1_b v 21 (by omega) 0 (by omega)]
  rfl
theorem fc_c2_s (v : Int32) : fc_sy (fc_bt (fc_c2 v)) 21 = 0 := by
  have hS := fc_sy_lt (fc_bt (fc_e1 v 21)) 21 (by omega)
  rw [fc_sy_congr (β := fun p => (fc_bt (fc_e1 v 21) p ^^ fc_chi (fc_sy (fc_bt (fc_e1 v 21)) 21) 5 p)) 21 (fun p h1 h2 => fc_c2_b v p (by omega)), fc_sy_xor, fc_chi_s _ hS, Nat.xor_self]
theorem fc_enc_b (v : Int32) (p : Nat) : fc_bt (fc_enc v) p = (fc_bt (fc_c2 v) p ^^ (decide (p = 0) && fc_pr (fc_bt (fc_c2 v)) 22)) := by
  unfold fc_enc
  rw [fc_b_or, fc_on_and]
  have h0 := fc_c2_0 v
  by_cases e : p = 0
  · subst e
    rw [h0]
    cases fc_pr (fc_bt (fc_c2 v)) 22 <;> decide
  · rw [decide_eq_false e]
    cases fc_pr (fc_bt (fc_c2 v)) 22
    · show (fc_bt (fc_c2 v) p || fc_bt 0 p) = _
      rw [fc_b_0]
      simp
    · show (fc_bt (fc_c2 v) p || fc_bt 1 p) = _
      rw [fc_b_1, decide_eq_false e]
      simp
theorem fc_enc_s (v : Int32) : fc_sy (fc_bt (fc_enc v)) 21 = 0 := by
  rw [fc_sy_congr (β := fc_bt (fc_c2 v)) 21 (fun p h1 h2 => by
    rw [fc_enc_b, decide_eq_false (show ¬ p = 0 by omega)]
    simp), fc_c2_s]
theorem fc_pr_0 : ∀ q : Bool, fc_pr (fun p => decide (p = 0) && q) 22 = q := by decide +kernel
theorem fc_enc_p (v : Int32) : fc_pr (fc_bt (fc_enc v)) 22 = false := by
  rw [fc_pr_congr (β := fun p => (fc_bt (fc_c2 v) p ^^ (fun p => decide (p = 0) && fc_pr (fc_bt (fc_c2 v)) 22) p)) 22 (fun p _ => fc_enc_b v p), fc_pr_xor, fc_pr_0]
  cases fc_pr (fc_bt (fc_c2 v)) 22 <;> rfl
def fc_dp (k : Nat) : Nat := [3, 5, 6, 7, 9, 10, 11, 12, 13, 14, 15, 17, 18, 19, 20, 21].getD k 0
theorem fc_dp_1 : ∀ i, i < 21 → fc_ck (i + 1) = false → fc_dp (fc_kk i) = i + 1 := by decide +kernel
theorem fc_dp_2 : fc_kk 21 = 16 := by decide +kernel
theorem fc_dp_3 : ∀ k, k < 16 → fc_ck (fc_dp k) = false ∧ 1 ≤ fc_dp k ∧ fc_dp k ≤ 21 ∧ fc_kk (fc_dp k - 1) = k := by decide +kernel
theorem fc_ex_b (x : Int32) (i : Nat) (hi : i ≤ 21) : ∀ k, k < 32 → fc_bt (fc_ex x i) k = (decide (k < fc_kk i) && fc_bt x (fc_dp k)) := by
  induction i with
  | zero =>
    intro k hk
    show fc_bt 0 k = (decide (k < 0) && _)
    rw [fc_b_0, decide_eq_false (Nat.not_lt_zero k)]
    rfl
  | succ i ih =>
    intro k hk
    have ih' := ih (by omega) k hk
    have hkk := fc_kk_le i
    unfold fc_ex
    by_cases hc : fc_ck (i + 1) = true
    · rw [if_pos hc, ih', show fc_kk (i + 1) = fc_kk i from if_pos hc]
    · have hc' : fc_ck (i + 1) = false := by
        cases h : fc_ck (i + 1)
        · rfl
        · exact absurd h hc
      rw [if_neg hc, fc_b_or, ih', fc_bi_sh (by omega) (by omega) hk, show fc_kk (i + 1) = fc_kk i + 1 from if_neg hc]
      by_cases e : k = fc_kk i
      · have h1 : ¬ k < fc_kk i := by omega
        have h2 : k < fc_kk i + 1 := by omega
        rw [decide_eq_false h1, decide_eq_true h2, decide_eq_true e, e, fc_dp_1 i (by omega) hc']
        rfl
      · have hd : decide (k < fc_kk i) = decide (k < fc_kk i + 1) := decide_eq_decide.mpr (by omega)
        rw [decide_eq_false e, hd]
        simp
theorem fc_enc_d (v : Int32) : ∀ k, k < 16 → fc_bt (fc_enc v) (fc_dp k) = fc_bt v k := by
  intro k hk
  obtain ⟨h1, h2, h3, h4⟩ := fc_dp_3 k hk
  have hS := fc_sy_lt (fc_bt (fc_e1 v 21)) 21 (by omega)
  rw [fc_enc_b, decide_eq_false (show ¬ fc_dp k = 0 by omega), fc_c2_b v _ (by omega), fc_chi_d _ hS _ (by omega) (Or.inr h1), fc_e1_b v 21 (by omega) _ (by omega), h1, h4, decide_eq_true ⟨h2, h3⟩]
  simp
theorem fc_ex_enc (v : Int32) : fc_ex (fc_enc (v &&& 65535)) 21 = v &&& 65535 := by
  apply fc_b_ext
  intro i hi
  rw [fc_ex_b _ 21 (by omega) i hi, fc_dp_2]
  by_cases h : i < 16
  · rw [fc_enc_d _ i h, decide_eq_true h, Bool.true_and]
  · rw [decide_eq_false h, fc_b_and, fc_b_65535, decide_eq_false h]
    simp
/-! turned bits -/
theorem fc_tt_s : ∀ a, a < 22 → fc_sy (fc_bt (fc_tt a)) 21 = a ∧ fc_pr (fc_bt (fc_tt a)) 22 = true ∧ fc_on (fc_bt (fc_tt a)) 22 = 1 := by decide +kernel
theorem fc_t2_s : ∀ a, a < 22 → ∀ b, b < 22 → a ≠ b → fc_sy (fc_bt (fc_tt a ^^^ fc_tt b)) 21 ≠ 0 ∧ fc_pr (fc_bt (fc_tt a ^^^ fc_tt b)) 22 = false ∧ fc_on (fc_bt (fc_tt a ^^^ fc_tt b)) 22 = 2 := by decide +kernel
theorem fc_t0_s : fc_on (fc_bt 0) 22 = 0 := by decide +kernel
theorem fc_raw_s (v t : Int32) : fc_sy (fc_bt (fc_enc v ^^^ t)) 21 = fc_sy (fc_bt t) 21 := by
  rw [fc_sy_congr (β := fun p => (fc_bt (fc_enc v) p ^^ fc_bt t p)) 21 (fun p _ _ => fc_b_xor _ _ p), fc_sy_xor, fc_enc_s, Nat.zero_xor]
theorem fc_raw_p (v t : Int32) : fc_pr (fc_bt (fc_enc v ^^^ t)) 22 = fc_pr (fc_bt t) 22 := by
  rw [fc_pr_congr (β := fun p => (fc_bt (fc_enc v) p ^^ fc_bt t p)) 22 (fun p _ => fc_b_xor _ _ p), fc_pr_xor, fc_enc_p, Bool.false_xor]
theorem fc_xx (x y : Int32) : (x ^^^ y) ^^^ y = x := by
  apply fc_b_ext
  intro i _
  rw [fc_b_xor, fc_b_xor]
  cases fc_bt x i <;> cases fc_bt y i <;> rfl
theorem fc_x0 (x : Int32) : x ^^^ 0 = x := by
  apply fc_b_ext
  intro i _
  rw [fc_b_xor, fc_b_0, Bool.xor_false]
theorem fc_0x (x : Int32) : 0 ^^^ x = x := by
  apply fc_b_ext
  intro i _
  rw [fc_b_xor, fc_b_0, Bool.false_xor]
theorem fc_xs (x : Int32) : x ^^^ x = 0 := by
  apply fc_b_ext
  intro i _
  rw [fc_b_xor, fc_b_0, Bool.xor_self]
theorem fc_dec_0 (v : Int32) : fc_dec (fc_enc (v &&& 65535) ^^^ 0) = v &&& 65535 := by
  unfold fc_dec
  rw [fc_x0, fc_enc_p, fc_enc_s, if_neg (by decide), if_pos rfl, fc_ex_enc]
theorem fc_dec_1 (v : Int32) {a : Nat} (ha : a < 22) : fc_dec (fc_enc (v &&& 65535) ^^^ fc_tt a) = v &&& 65535 := by
  obtain ⟨h1, h2, _⟩ := fc_tt_s a ha
  unfold fc_dec
  rw [fc_raw_p, fc_raw_s, h1, h2, if_pos rfl, fc_xx, fc_ex_enc]
theorem fc_dec_2 (v : Int32) {a b : Nat} (ha : a < 22) (hb : b < 22) (hab : a ≠ b) : fc_dec (fc_enc (v &&& 65535) ^^^ (fc_tt a ^^^ fc_tt b)) = -3 := by
  obtain ⟨h1, h2, _⟩ := fc_t2_s a ha b hb hab
  unfold fc_dec
  rw [fc_raw_p, fc_raw_s, h2, if_neg (by decide), if_neg h1]
end
section
/-! walks of ones, syndrome, isCheck, encode, decode -/
theorem fc_bi_n {x : Int32} {i : Nat} (hi : i < 32) : fc_bi x i = nI (fc_bt x i).toNat := by
  cases h : fc_bt x i
  · rw [fc_bi_f hi h]
    rfl
  · rw [fc_bi_t hi h]
    rfl
theorem fc_ones {post : Int32 → Prop} {x : Int32} (H : post (nI (fc_on (fc_bt x) 22))) : wpX_ones post () x :=
  pk_loop (fun n i s => wX_ones_4 post x n (nI s) (nI i)) (fun i s => s = fc_on (fc_bt x) i) 22 0 0 (by omega) rfl
    (fun n s h => pk_le 22 22 (fun _ => by rw [h]; exact H) (fun z => absurd z (by omega)))
    (fun n i s hi h hw => pk_le 22 i (fun z => absurd z (by omega)) (fun _ => nm_r (e' := nI (fc_on (fc_bt x) (i + 1)))
      (by
        show nI s + fc_bi x i = nI (fc_on (fc_bt x) i + (fc_bt x i).toNat)
        rw [fc_bi_n (by omega), nI_add, h])
      (nm_r (nI_1 i) (hw _ rfl))))
theorem fc_synd {post : Int32 → Prop} {x : Int32} (H : post (nI (fc_sy (fc_bt x) 21))) : wpX_syndrome post () x :=
  pk_loop (fun n i s => wX_syndrome_4 post x n (nI s) (nI (i + 1))) (fun i s => s = fc_sy (fc_bt x) i) 21 0 0 (by omega) rfl
    (fun n s h => pk_le 22 22 (fun _ => by rw [h]; exact H) (fun z => absurd z (by omega)))
    (fun n i s hi h hw => pk_le 22 (i + 1) (fun z => absurd z (by omega)) (fun _ => by
      have hs : fc_sy (fc_bt x) (i + 1) = fc_sy (fc_bt x) i ^^^ (if fc_bt x (i + 1) = true then i + 1 else 0) := rfl
      cases hb : fc_bt x (i + 1)
      · have hz : fc_bi x (i + 1) = 0 := fc_bi_f (by omega) hb
        refine br_t hz (nm_r (e' := nI s) (fc_x0 _) (nm_r (nI_1 (i + 1)) (hw _ ?_)))
        rw [hs, hb, h]
        simp
      · have hz : ¬ fc_bi x (i + 1) = 0 := by
          rw [fc_bi_t (by omega) hb]
          decide
        refine br_f hz (nm_r (e' := nI (s ^^^ (i + 1))) (fc_nx_xor s (i + 1)) (nm_r (nI_1 (i + 1)) (hw _ ?_)))
        rw [hs, hb, h]
        simp))
theorem fc_isC {post : Int32 → Prop} {p : Nat} (H1 : fc_ck p = true → post 1) (H0 : fc_ck p = false → post 0) : wpX_isCheck post () (nI p) :=
  br_c (fun z => H1 (decide_eq_true z)) (fun z => H0 (decide_eq_false z))
theorem fc_enc46 {post : Int32 → Prop} {c : Int32} {S : Nat} (H : post (fc_e2 c S 5 ||| (nI (fc_on (fc_bt (fc_e2 c S 5)) 22) &&& 1))) : ∃ n, wX_encode_46 post (nI S) n c 0 :=
  pk_loop (fun n i s => wX_encode_46 post (nI S) n s (nI i)) (fun i s => s = fc_e2 c S i) 5 0 c (by omega) rfl
    (fun n s h => pk_le 5 5 (fun _ => by rw [h]; exact fc_ones H) (fun z => absurd z (by omega)))
    (fun n i s hi h hw => pk_le 5 i (fun z => absurd z (by omega)) (fun _ => nm_r (e' := fc_e2 c S (i + 1))
      (by
        rw [h]
        rfl)
      (nm_r (nI_1 i) (hw _ rfl))))
theorem fc_encode {post : Int32 → Prop} {v : Int32} (H : post (fc_enc v)) : wpX_encode post () v :=
  pk_loop (fun n i s => wX_encode_6 post v n s (nI (fc_kk i)) (nI (i + 1))) (fun i s => s = fc_e1 v i) 21 0 0 (by omega) rfl
    (fun n s h => pk_le 22 22 (fun _ => by
      rw [h]
      exact fc_synd (fc_enc46 H)) (fun z => absurd z (by omega)))
    (fun n i s hi h hw => pk_le 22 (i + 1) (fun z => absurd z (by omega)) (fun _ => by
      refine fc_isC (fun hc => ?_) (fun hc => ?_)
      · refine br_f (by decide) (nm_r (nI_1 (i + 1)) ?_)
        have h1 : fc_kk (i + 1) = fc_kk i := if_pos hc
        have h2 : fc_e1 v (i + 1) = fc_e1 v i := if_pos hc
        have t := hw (fc_e1 v (i + 1)) rfl
        rw [h1, h2, ← h] at t
        exact t
      · have hc' : ¬ fc_ck (i + 1) = true := by rw [hc]; decide
        have h1 : fc_kk (i + 1) = fc_kk i + 1 := if_neg hc'
        have h2 : fc_e1 v (i + 1) = fc_e1 v i ||| (fc_bi v (fc_kk i) <<< (nI (i + 1) &&& 31)) := if_neg hc'
        have t := hw (fc_e1 v (i + 1)) rfl
        rw [h1] at t
        refine br_t rfl (nm_r (e' := fc_e1 v (i + 1)) ?_ (nm_r (nI_1 (fc_kk i)) (nm_r (nI_1 (i + 1)) t)))
        rw [h2, h]
        rfl))
theorem fc_dec54 {post : Int32 → Prop} {x : Int32} (H : post (fc_ex x 21)) : ∃ n, wX_decode_54 post x n 0 0 1 :=
  pk_loop (fun n i s => wX_decode_54 post x n s (nI (fc_kk i)) (nI (i + 1))) (fun i s => s = fc_ex x i) 21 0 0 (by omega) rfl
    (fun n s h => pk_le 22 22 (fun _ => by
      rw [h]
      exact H) (fun z => absurd z (by omega)))
    (fun n i s hi h hw => pk_le 22 (i + 1) (fun z => absurd z (by omega)) (fun _ => by
      refine fc_isC (fun hc => ?_) (fun hc => ?_)
      · refine br_f (by decide) (nm_r (nI_1 (i + 1)) ?_)
        have h1 : fc_kk (i + 1) = fc_kk i := if_pos hc
        have h2 : fc_ex x (i + 1) = fc_ex x i := if_pos hc
        have t := hw (fc_ex x (i + 1)) rfl
        rw [h1, h2, ← h] at t
        exact t
      · have hc' : ¬ fc_ck (i + 1) = true := by rw [hc]; decide
        have h1 : fc_kk (i + 1) = fc_kk i + 1 := if_neg hc'
        have h2 : fc_ex x (i + 1) = fc_ex x i ||| (fc_bi x (i + 1) <<< (nI (fc_kk i) &&& 31)) := if_neg hc'
        have t := hw (fc_ex x (i + 1)) rfl
        rw [h1] at t
        refine br_t rfl (nm_r (e' := fc_ex x (i + 1)) ?_ (nm_r (nI_1 (fc_kk i)) (nm_r (nI_1 (i + 1)) t)))
        rw [h2, h]
        rfl))
theorem fc_decode {post : Int32 → Prop} {x : Int32} (H : post (fc_dec x)) : wpX_decode post () x := by
  have hS := fc_sy_lt (fc_bt x) 21 (by omega)
  unfold wpX_decode
  refine fc_synd (fc_ones ?_)
  unfold fc_dec at H
  cases hp : fc_pr (fc_bt x) 22
  · rw [hp, if_neg (by decide)] at H
    refine br_t ((fc_on_odd _).mpr hp) ?_
    unfold wX_decode_19
    refine br_t rfl ?_
    refine pk_eq (fc_sy (fc_bt x) 21) 0 (fun z => ?_) (fun z => ?_)
    · rw [if_pos z] at H
      unfold wX_decode_31
      exact br_t rfl (fc_dec54 H)
    · rw [if_neg z] at H
      exact H
  · rw [hp, if_pos rfl] at H
    refine br_f (fun z => absurd ((fc_on_odd _).mp z) (by rw [hp]; decide)) ?_
    unfold wX_decode_19
    refine br_f (by decide) ?_
    unfold wX_decode_31
    exact br_f (by decide) (nm_e (fc_dec54 H))
end
section
/-! walks of put, freeBlock, livePages, leastLive, gather -/
theorem fc_put {post : St1 → Prop} {c f n : Nat} {k : Nat → Int32} {o m : Nat → Nat} {wd tn : Nat → Int32} {w : Nat → Option Nat} {s : Nat} {kd cd fl : Int32} (hc : c < 8) (hf : f < 4) (hs : s < 16)
    (H : post (fc_S c (f + 1) (n + 1) (fc_u k (4 * c + f) kd) (fc_u o (4 * c + f) s) (fc_u m (4 * c + f) n) (fc_u wd (4 * c + f) cd) (fc_u tn (4 * c + f) fl) (fc_u w s (some (4 * c + f))))) :
    wpX_put post (fc_S c f n k o m wd tn w) (nI s) kd cd fl := by
  have hi : vp_in (nI (4 * c + f)) 32 := vp_in_nI (by omega) (by omega)
  have hcl : (nI (4 * c + f)).toNatClampNeg = 4 * c + f := nI_clamp (by omega)
  have hcs : (nI s).toNatClampNeg = s := nI_clamp (by omega)
  unfold wpX_put fc_S
  try dsimp only
  refine nm_r (fc_4a c f) ?_
  rw [hcl, hcs]
  refine ⟨hi, nm_r (fc_upI _ _ _) ⟨hi, nm_r (fc_upN _ _ _) ⟨hi, nm_r (fc_upL _ _ _) ⟨hi, nm_r (fc_upI _ _ _) ⟨hi, nm_r (fc_upI _ _ _) (nm_r (lN_1 n) (nm_r (nI_1 f) ⟨vp_in_nI hs (by omega), nm_r (fc_upW _ _ (some (4 * c + f))) ?_⟩))⟩⟩⟩⟩⟩
  exact H
theorem fc_free {post : Int32 → Prop} {c f n : Nat} {k : Nat → Int32} {o m : Nat → Nat} {wd tn : Nat → Int32} {w : Nat → Option Nat} (hc : c < 8)
    (H1 : ∀ b, b < 8 → b ≠ c → k (4 * b) = 0 → post (nI b)) (H2 : (∀ b, b < 8 → b ≠ c → k (4 * b) ≠ 0) → post (-1)) :
    wpX_freeBlock post (fc_S c f n k o m wd tn w) := by
  unfold wpX_freeBlock fc_S
  try dsimp only
  refine pk_loop (σ := Unit) (fun z i _ => wX_freeBlock_2 post (nI c) (nI f) (lN n) k (fun p => nI (o p)) (fun p => lN (m p)) wd tn (fun s => fc_pg (w s)) z (nI i)) (fun i _ => ∀ b, b < i → b ≠ c → k (4 * b) ≠ 0) 8 0 () (by omega) (fun b hb => absurd hb (by omega)) ?_ ?_
  · intro z _ h
    exact pk_le 8 8 (fun _ => H2 h) (fun z => absurd z (by omega))
  · intro z i _ hi h hw
    try dsimp only at hw
    show wX_freeBlock_2 post (nI c) (nI f) (lN n) k (fun p => nI (o p)) (fun p => lN (m p)) wd tn (fun s => fc_pg (w s)) (z + 1) (nI i)
    unfold wX_freeBlock_2
    rw [fc_4, nI_clamp (show 4 * i < 2 ^ 31 by omega)]
    refine pk_le 8 i (fun z => absurd z (by omega)) (fun _ => ?_)
    refine pk_eq i c (fun e => nm_r (nI_1 i) (hw () (fun b hb hbc => h b (by omega) hbc))) (fun e => ⟨vp_in_nI (by omega) (by omega), ?_⟩)
    refine br_c (fun e0 => H1 i hi e e0) (fun e0 => nm_r (nI_1 i) (hw () (fun b hb hbc => ?_)))
    by_cases eb : b = i
    · rw [eb]
      exact e0
    · exact h b (by omega) hbc
theorem fc_live {post : Int32 → Prop} {c f n : Nat} {k : Nat → Int32} {o m : Nat → Nat} {wd tn : Nat → Int32} {w : Nat → Option Nat} {b : Nat} (ho : ∀ p, o p < 16) (hw : ∀ s q, s < 16 → w s = some q → q < 32) (hb : b < 8)
    (H : post (nI (fc_lb k o w b))) : wpX_livePages post (fc_S c f n k o m wd tn w) (nI b) := by
  unfold wpX_livePages fc_S
  try dsimp only
  refine nm_r (fc_4 b) ?_
  refine pk_loop (fun z i s => wX_livePages_6 post (nI b) (nI c) (nI f) (lN n) k (fun p => nI (o p)) (fun p => lN (m p)) wd tn (fun s => fc_pg (w s)) z (nI s) (nI (4 * b + i))) (fun i s => s = fc_sm (fun j => fc_lv k o w (4 * b + j)) i) 4 0 0 (by omega) rfl ?_ ?_
  · intro z s h
    show wX_livePages_6 post (nI b) (nI c) (nI f) (lN n) k (fun p => nI (o p)) (fun p => lN (m p)) wd tn (fun s => fc_pg (w s)) (z + 1) (nI s) (nI (4 * b + 4))
    refine pk_le (4 * b + 4) (4 * b + 4) (fun _ => ?_) (fun z => absurd z (by omega)) (hx := fc_4a b 4)
    rw [h]
    exact H
  · intro z i s hi h hwk
    try dsimp only at hwk
    show wX_livePages_6 post (nI b) (nI c) (nI f) (lN n) k (fun p => nI (o p)) (fun p => lN (m p)) wd tn (fun s => fc_pg (w s)) (z + 1) (nI s) (nI (4 * b + i))
    unfold wX_livePages_6
    rw [nI_clamp (show 4 * b + i < 2 ^ 31 by omega)]
    try dsimp only
    have hop := ho (4 * b + i)
    rw [nI_clamp (show o (4 * b + i) < 2 ^ 31 by omega)]
    have hin : vp_in (nI (4 * b + i)) 32 := vp_in_nI (by omega) (by omega)
    have hs : fc_sm (fun j => fc_lv k o w (4 * b + j)) (i + 1) = s + fc_lv k o w (4 * b + i) := by
      rw [h]
      rfl
    have e1 : nI (4 * b + i) + 1 = nI (4 * b + (i + 1)) := nI_1 (4 * b + i)
    refine pk_le (4 * b + 4) (4 * b + i) (fun z => absurd z (by omega)) (fun _ => ⟨hin, ?_⟩) (hx := fc_4a b 4)
    refine br_c (fun e0 => ?_) (fun e0 => ⟨hin, vp_in_nI hop (by omega), ?_⟩)
    · refine nm_r (e' := nI (s + 0)) (nI_add s 0) (nm_r e1 (hwk _ ?_))
      rw [hs]
      unfold fc_lv
      rw [if_neg (fun t => t.1 e0)]
    · refine ek_if (fc_pg_eq (by omega) (fun q hq => hw _ q hop hq)) (fun e2 => ?_) (fun e2 => ?_)
      · refine nm_r (e' := nI (s + 1)) (nI_1 s) (nm_r e1 (hwk _ ?_))
        rw [hs]
        unfold fc_lv
        rw [if_pos ⟨e0, e2⟩]
      · refine nm_r (e' := nI (s + 0)) (nI_add s 0) (nm_r e1 (hwk _ ?_))
        rw [hs]
        unfold fc_lv
        rw [if_neg (fun t => e2 t.2)]
theorem fc_least {post : Int32 → Prop} {c f n : Nat} {k : Nat → Int32} {o m : Nat → Nat} {wd tn : Nat → Int32} {w : Nat → Option Nat} (hc : c < 8) (ho : ∀ p, o p < 16) (hw : ∀ s q, s < 16 → w s = some q → q < 32)
    (H0 : (∀ b, b < 8 → b ≠ c → k (4 * b) = 0) → post (-1))
    (H1 : ∀ b, b < 8 → b ≠ c → k (4 * b) ≠ 0 → (∀ a, a < 8 → a ≠ c → k (4 * a) ≠ 0 → fc_lb k o w b ≤ fc_lb k o w a) → post (nI b)) :
    wpX_leastLive post (fc_S c f n k o m wd tn w) := by
  unfold wpX_leastLive fc_S
  try dsimp only
  refine pk_loop (fun z i s => wX_leastLive_4 post (nI c) (nI f) (lN n) k (fun p => nI (o p)) (fun p => lN (m p)) wd tn (fun s => fc_pg (w s)) z (fc_pg s) (nI i))
    (fun i s => (s = none ∧ ∀ b, b < i → b ≠ c → k (4 * b) = 0) ∨ (∃ b, s = some b ∧ b < 8 ∧ b ≠ c ∧ k (4 * b) ≠ 0 ∧ ∀ a, a < i → a ≠ c → k (4 * a) ≠ 0 → fc_lb k o w b ≤ fc_lb k o w a)) 8 0 none (by omega) (Or.inl ⟨rfl, fun b hb => absurd hb (by omega)⟩) ?_ ?_
  · intro z s h
    refine pk_le 8 8 (fun _ => ?_) (fun z => absurd z (by omega))
    rcases h with ⟨e, h⟩ | ⟨b, e, h1, h2, h3, h4⟩
    · rw [e]
      exact H0 h
    · rw [e]
      exact H1 b h1 h2 h3 h4
  · intro z i s hi h hwk
    try dsimp only at hwk
    show wX_leastLive_4 post (nI c) (nI f) (lN n) k (fun p => nI (o p)) (fun p => lN (m p)) wd tn (fun s => fc_pg (w s)) (z + 1) (fc_pg s) (nI i)
    unfold wX_leastLive_4
    rw [fc_4, nI_clamp (show 4 * i < 2 ^ 31 by omega)]
    refine pk_le 8 i (fun z => absurd z (by omega)) (fun _ => ?_)
    refine pk_eq i c (fun e => nm_r (nI_1 i) (hwk s ?_)) (fun e => ⟨vp_in_nI (by omega) (by omega), ?_⟩)
    · rcases h with ⟨e1, h⟩ | ⟨b, e1, h1, h2, h3, h4⟩
      · exact Or.inl ⟨e1, fun b hb hbc => h b (by omega) hbc⟩
      · exact Or.inr ⟨b, e1, h1, h2, h3, fun a ha hac => h4 a (by omega) hac⟩
    · refine br_c (fun e0 => nm_r (nI_1 i) (hwk s ?_)) (fun e0 => ?_)
      · rcases h with ⟨e1, h⟩ | ⟨b, e1, h1, h2, h3, h4⟩
        · refine Or.inl ⟨e1, fun b hb hbc => ?_⟩
          by_cases eb : b = i
          · rw [eb]
            exact e0
          · exact h b (by omega) hbc
        · refine Or.inr ⟨b, e1, h1, h2, h3, fun a ha hac hka => ?_⟩
          by_cases eb : a = i
          · rw [eb] at hka
            exact absurd e0 hka
          · exact h4 a (by omega) hac hka
      · refine fc_live (c := c) (f := f) (n := n) (m := m) (wd := wd) (tn := tn) ho hw hi ?_
        rcases h with ⟨e1, h⟩ | ⟨b, e1, h1, h2, h3, h4⟩
        · rw [e1]
          refine br_t fc_neg1 (nm_r (nI_1 i) (hwk (some i) (Or.inr ⟨i, rfl, hi, e, e0, fun a ha hac hka => ?_⟩)))
          by_cases eb : a = i
          · rw [eb]
            exact Nat.le_refl _
          · exact absurd (h a (by omega) hac) hka
        · subst e1
          refine br_f (nI_pos (by omega)) ?_
          refine fc_live (c := c) (f := f) (n := n) (m := m) (wd := wd) (tn := tn) ho hw h1 ?_
          have l1 := fc_lb_4 k o w b
          have l2 := fc_lb_4 k o w i
          refine pk_le (fc_lb k o w b) (fc_lb k o w i) (fun hl => nm_r (nI_1 i) (hwk (some b) (Or.inr ⟨b, rfl, h1, h2, h3, fun a ha hac hka => ?_⟩))) (fun hl => nm_r (nI_1 i) (hwk (some i) (Or.inr ⟨i, rfl, hi, e, e0, fun a ha hac hka => ?_⟩)))
          · by_cases eb : a = i
            · rw [eb]
              exact hl
            · exact h4 a (by omega) hac hka
          · by_cases eb : a = i
            · rw [eb]
              exact Nat.le_refl _
            · have := h4 a (by omega) hac hka
              omega
end
section
/-! gather, program, tidy -/
theorem fc_g88 {post : St1 → Prop} {c f n b : Nat} {k : Nat → Int32} {o m : Nat → Nat} {wd tn : Nat → Int32} {w : Nat → Option Nat} (hb : b < 8) (H : post (fc_S c f n (fc_E k b 4) o m wd tn w)) :
    ∃ z, wX_gather_88 post (nI b) (nI c) (nI f) (lN n) z (nI (4 * b)) k (fun p => nI (o p)) (fun p => lN (m p)) wd tn (fun s => fc_pg (w s)) := by
  refine pk_loop (fun z i s => wX_gather_88 post (nI b) (nI c) (nI f) (lN n) z (nI (4 * b + i)) s (fun p => nI (o p)) (fun p => lN (m p)) wd tn (fun s => fc_pg (w s))) (fun i s => s = fc_E k b i) 4 0 k (by omega) (fc_E_0 k b).symm ?_ ?_
  · intro z s h
    refine pk_le (4 * b + 4) (4 * b + 4) (fun _ => ?_) (fun z => absurd z (by omega)) (hx := fc_4a b 4)
    rw [h]
    exact H
  · intro z i s hi h hwk
    try dsimp only at hwk
    show wX_gather_88 post (nI b) (nI c) (nI f) (lN n) (z + 1) (nI (4 * b + i)) s (fun p => nI (o p)) (fun p => lN (m p)) wd tn (fun s => fc_pg (w s))
    unfold wX_gather_88
    rw [nI_clamp (show 4 * b + i < 2 ^ 31 by omega)]
    have e1 : nI (4 * b + i) + 1 = nI (4 * b + (i + 1)) := nI_1 (4 * b + i)
    refine pk_le (4 * b + 4) (4 * b + i) (fun z => absurd z (by omega)) (fun _ => ⟨vp_in_nI (by omega) (by omega), ?_⟩) (hx := fc_4a b 4)
    refine nm_r (e' := fc_E k b (i + 1)) ?_ (nm_r e1 (hwk _ rfl))
    rw [h, ← fc_E_s]
    rfl
def fc_GI (c b f0 n0 : Nat) (L0 : Nat → Nat) (C0 : Nat → Int32 × Int32 × Int32) (i f n : Nat) (k : Nat → Int32) (o m : Nat → Nat) (wd tn : Nat → Int32) (w : Nat → Option Nat) : Prop :=
  fc_M n k o m w ∧ fc_B c f k ∧ f = f0 + fc_sm L0 i ∧ n = n0 + fc_sm L0 i ∧ (∀ j, i ≤ j → j < 4 → fc_lv k o w (4 * b + j) = L0 j) ∧ (∀ t, t < 16 → fc_ct k wd tn w t = C0 t) ∧
  (∀ s q, s < 16 → w s = some q → ¬ (4 * b ≤ q ∧ q < 4 * b + i))
theorem fc_GI_skip {c b f0 n0 : Nat} {L0 : Nat → Nat} {C0 : Nat → Int32 × Int32 × Int32} {i f n : Nat} {k : Nat → Int32} {o m : Nat → Nat} {wd tn : Nat → Int32} {w : Nat → Option Nat}
    (h : fc_GI c b f0 n0 L0 C0 i f n k o m wd tn w) (hi : i < 4) (h0 : fc_lv k o w (4 * b + i) = 0) : fc_GI c b f0 n0 L0 C0 (i + 1) f n k o m wd tn w := by
  obtain ⟨h1, h2, h3, h4, h5, h6, h7⟩ := h
  have hL : L0 i = 0 := by rw [← h5 i (Nat.le_refl _) hi]; exact h0
  have hs : fc_sm L0 (i + 1) = fc_sm L0 i + L0 i := rfl
  refine ⟨h1, h2, by omega, by omega, fun j hj hj4 => h5 j (by omega) hj4, h6, ?_⟩
  intro s q hsl hq hqq
  obtain ⟨q1, q2, q3⟩ := h1.2.2.2.2 s q hsl hq
  have h8 := h7 s q hsl hq
  have e : q = 4 * b + i := by omega
  subst e
  unfold fc_lv at h0
  rw [if_pos ⟨q2, by rw [q3]; exact hq⟩] at h0
  omega
theorem fc_GI_put {c b f0 n0 : Nat} {L0 : Nat → Nat} {C0 : Nat → Int32 × Int32 × Int32} {i f n : Nat} {k : Nat → Int32} {o m : Nat → Nat} {wd tn : Nat → Int32} {w : Nat → Option Nat}
    (h : fc_GI c b f0 n0 L0 C0 i f n k o m wd tn w) (hi : i < 4) (hb : b < 8) (hbc : b ≠ c) (hf : f < 4) (hk : k (4 * b + i) ≠ 0) (hw : w (o (4 * b + i)) = some (4 * b + i)) :
    fc_GI c b f0 n0 L0 C0 (i + 1) (f + 1) (n + 1) (fc_u k (4 * c + f) (k (4 * b + i))) (fc_u o (4 * c + f) (o (4 * b + i))) (fc_u m (4 * c + f) n) (fc_u wd (4 * c + f) (wd (4 * b + i))) (fc_u tn (4 * c + f) (tn (4 * b + i))) (fc_u w (o (4 * b + i)) (some (4 * c + f))) := by
  obtain ⟨h1, h2, h3, h4, h5, h6, h7⟩ := h
  have hL : L0 i = 1 := by
    rw [← h5 i (Nat.le_refl _) hi]
    exact if_pos ⟨hk, hw⟩
  have hs : fc_sm L0 (i + 1) = fc_sm L0 i + L0 i := rfl
  have hc8 := h2.1
  have hg : 4 * c + f < 32 := by omega
  have h0 : k (4 * c + f) = 0 := by
    by_cases e : k (4 * c + f) = 0
    · exact e
    · have := (h2.2.2.1 f hf).mp e
      omega
  have ho := h1.2.1 (4 * b + i)
  refine ⟨fc_putM h1 ho hg h0 hk, fc_putB h2 hf hk, by omega, by omega, ?_, ?_, ?_⟩
  · intro j hj hj4
    rw [fc_putL hw (by omega) (by omega)]
    exact h5 j (by omega) hj4
  · intro t ht
    rw [fc_putC h1 h0 t ht]
    by_cases e : t = o (4 * b + i)
    · rw [if_pos e, ← h6 t ht, e, fc_ct_s hw]
    · rw [if_neg e]
      exact h6 t ht
  · intro s q hsl hq hqq
    by_cases e : s = o (4 * b + i)
    · rw [e, fc_us] at hq
      injection hq with hq
      omega
    · rw [fc_un e] at hq
      have h8 := h7 s q hsl hq
      have e2 : q = 4 * b + i := by omega
      rw [e2] at hq
      have h9 := (h1.2.2.2.2 s _ hsl hq).2.2
      exact e h9.symm
theorem fc_gather {post : St1 → Prop} {c f n b : Nat} {k : Nat → Int32} {o m : Nat → Nat} {wd tn : Nat → Int32} {w : Nat → Option Nat} (hM : fc_M n k o m w) (hB : fc_B c f k) (hb : b < 8) (hbc : b ≠ c) (hl : f + fc_lb k o w b ≤ 3)
    (H : ∀ (f' n' : Nat) (k' : Nat → Int32) (o' m' : Nat → Nat) (wd' tn' : Nat → Int32) (w' : Nat → Option Nat), fc_M n' k' o' m' w' → fc_B c f' k' → fc_F c k' → f' ≤ 3 → n' ≤ n + 4 → (∀ t, t < 16 → fc_ct k' wd' tn' w' t = fc_ct k wd tn w t) → post (fc_S c f' n' k' o' m' wd' tn' w')) :
    wpX_gather post (fc_S c f n k o m wd tn w) (nI b) := by
  unfold wpX_gather fc_S
  try dsimp only
  refine br_t (nI_pos' (by omega)) (nm_r (fc_4 b) ?_)
  refine pk_loop (σ := Nat × Nat × (Nat → Int32) × (Nat → Nat) × (Nat → Nat) × (Nat → Int32) × (Nat → Int32) × (Nat → Option Nat))
    (fun z i s => wX_gather_9 post (nI b) z (nI (4 * b + i)) (nI c) (nI s.1) (lN s.2.1) s.2.2.1 (fun p => nI (s.2.2.2.1 p)) (fun p => lN (s.2.2.2.2.1 p)) s.2.2.2.2.2.1 s.2.2.2.2.2.2.1 (fun t => fc_pg (s.2.2.2.2.2.2.2 t)))
    (fun i s => fc_GI c b f n (fun j => fc_lv k o w (4 * b + j)) (fun t => fc_ct k wd tn w t) i s.1 s.2.1 s.2.2.1 s.2.2.2.1 s.2.2.2.2.1 s.2.2.2.2.2.1 s.2.2.2.2.2.2.1 s.2.2.2.2.2.2.2) 4 0 (f, n, k, o, m, wd, tn, w) (by omega) ?_ ?_ ?_
  · exact ⟨hM, hB, rfl, rfl, fun j _ _ => rfl, fun t _ => rfl, fun s q _ _ => by omega⟩
  · intro z s h
    obtain ⟨f', n', k', o', m', wd', tn', w'⟩ := s
    obtain ⟨h1, h2, h3, h4, h5, h6, h7⟩ := h
    try dsimp only at h1 h2 h3 h4 h5 h6 h7
    have h8 : fc_sm (fun j => fc_lv k o w (4 * b + j)) 4 = fc_lb k o w b := rfl
    have h9 := fc_lb_4 k o w b
    refine pk_le (4 * b + 4) (4 * b + 4) (fun _ => nm_r (fc_4 b) ?_) (fun z => absurd z (by omega)) (hx := fc_4a b 4)
    exact fc_g88 hb (H f' n' (fc_E k' b 4) o' m' wd' tn' w' (fc_erM h1 h7) (fc_erB h2 hbc) (fc_erF hb hbc) (by omega) (by omega) (fun t ht => by rw [fc_erC h7 t ht]; exact h6 t ht))
  · intro z i s hi h hwk
    obtain ⟨f', n', k', o', m', wd', tn', w'⟩ := s
    try dsimp only at h hwk
    show wX_gather_9 post (nI b) (z + 1) (nI (4 * b + i)) (nI c) (nI f') (lN n') k' (fun p => nI (o' p)) (fun p => lN (m' p)) wd' tn' (fun t => fc_pg (w' t))
    have h' := h
    obtain ⟨h1, h2, h3, h4, h5, h6, h7⟩ := h'
    unfold wX_gather_9
    rw [nI_clamp (show 4 * b + i < 2 ^ 31 by omega)]
    try dsimp only
    have hop := h1.2.1 (4 * b + i)
    rw [nI_clamp (show o' (4 * b + i) < 2 ^ 31 by omega)]
    have hin : vp_in (nI (4 * b + i)) 32 := vp_in_nI (by omega) (by omega)
    have e1 : nI (4 * b + i) + 1 = nI (4 * b + (i + 1)) := nI_1 (4 * b + i)
    have skip : fc_lv k' o' w' (4 * b + i) = 0 → wX_gather_9 post (nI b) z (nI (4 * b + (i + 1))) (nI c) (nI f') (lN n') k' (fun p => nI (o' p)) (fun p => lN (m' p)) wd' tn' (fun t => fc_pg (w' t)) :=
      fun h0 => hwk (f', n', k', o', m', wd', tn', w') (fc_GI_skip h hi h0)
    refine pk_le (4 * b + 4) (4 * b + i) (fun z => absurd z (by omega)) (fun _ => ⟨hin, ?_⟩) (hx := fc_4a b 4)
    refine br_c (fun e0 => nm_r e1 (skip (if_neg (fun t => t.1 e0)))) (fun e0 => ⟨hin, vp_in_nI hop (by omega), ?_⟩)
    refine ek_if (fc_pg_eq (by omega) (fun q hq => fc_wlt h1 _ q hop hq)) (fun e2 => ?_) (fun e2 => nm_r e1 (skip (if_neg (fun t => e2 t.2))))
    have h8 : fc_sm (fun j => fc_lv k o w (4 * b + j)) 4 = fc_lb k o w b := rfl
    have h9 := fc_sm_ge (f := fun j => fc_lv k o w (4 * b + j)) hi
    have h10 : fc_lv k o w (4 * b + i) = 1 := (h5 i (Nat.le_refl _) hi).symm.trans (if_pos ⟨e0, e2⟩)
    try dsimp only at h9
    rw [h10, h8] at h9
    have hf : f' < 4 := by omega
    refine pk_le 4 f' (fun z => absurd z (by omega)) (fun _ => ⟨hin, hin, hin, hin, ?_⟩)
    refine fc_put (s := o' (4 * b + i)) h2.1 hf hop ?_
    exact nm_r e1 (hwk (f' + 1, n' + 1, _, _, _, _, _, _) (fc_GI_put h hi hb hbc hf e0 e2))
theorem fc_prog {post : St1 → Prop} {c f n s : Nat} {k : Nat → Int32} {o m : Nat → Nat} {wd tn : Nat → Int32} {w : Nat → Option Nat} {kd cd fl : Int32} (hM : fc_M n k o m w) (hB : fc_B c f k) (hF : fc_F c k) (hs : s < 16) (hkd : kd ≠ 0)
    (H : ∀ (c' f' n' : Nat) (k' : Nat → Int32) (o' m' : Nat → Nat) (wd' tn' : Nat → Int32) (w' : Nat → Option Nat), fc_M n' k' o' m' w' → fc_B c' f' k' → fc_F c' k' → n' ≤ n + 5 → (∀ t, t < 16 → fc_ct k' wd' tn' w' t = if t = s then (kd, cd, fl) else fc_ct k wd tn w t) → post (fc_S c' f' n' k' o' m' wd' tn' w')) :
    wpX_program post (fc_S c f n k o m wd tn w) (nI s) kd cd fl := by
  have last : ∀ (c' f' n' : Nat) (k' : Nat → Int32) (o' m' : Nat → Nat) (wd' tn' : Nat → Int32) (w' : Nat → Option Nat), fc_M n' k' o' m' w' → fc_B c' f' k' → fc_F c' k' → f' < 4 → n' ≤ n + 4 → (∀ t, t < 16 → fc_ct k' wd' tn' w' t = fc_ct k wd tn w t) →
      wX_program_40 post (nI s) kd cd fl (nI c') (nI f') (lN n') k' (fun p => nI (o' p)) (fun p => lN (m' p)) wd' tn' (fun t => fc_pg (w' t)) := by
    intro c' f' n' k' o' m' wd' tn' w' h1 h2 h3 h4 h5 h6
    have hc8 := h2.1
    have h0 : k' (4 * c' + f') = 0 := by
      by_cases e : k' (4 * c' + f') = 0
      · exact e
      · have := (h2.2.2.1 f' h4).mp e
        omega
    unfold wX_program_40
    refine fc_put hc8 h4 hs ?_
    refine H c' (f' + 1) (n' + 1) _ _ _ _ _ _ (fc_putM h1 hs (by omega) h0 hkd) (fc_putB h2 h4 hkd) (fc_putF h3 h4) (by omega) ?_
    intro t ht
    rw [fc_putC h1 h0 t ht, h6 t ht]
  have hf4 := hB.2.1
  unfold wpX_program fc_S
  try dsimp only
  refine pk_eq f 4 (fun e => ?_) (fun e => last c f n k o m wd tn w hM hB hF (by omega) (by omega) (fun t _ => rfl))
  subst e
  have full : ∀ j, j < 4 → k (4 * c + j) ≠ 0 := fun j hj => (hB.2.2.1 j hj).mpr hj
  refine fc_free (c := c) (f := 4) (n := n) (o := o) (m := m) (w := w) hB.1 (fun b hb hbc h0 => ?_) (fun hno => ?_)
  · have hall : ∀ j, j < 4 → k (4 * b + j) = 0 := by
      rcases hB.2.2.2 b hb hbc with z | z
      · exact z
      · exact absurd h0 (z 0 (by omega))
    have hB' : fc_B b 0 k := by
      refine ⟨hb, by omega, fun j hj => ⟨fun z => absurd (hall j hj) z, fun z => absurd z (by omega)⟩, fun a ha hab => ?_⟩
      by_cases e : a = c
      · rw [e]
        exact Or.inr full
      · exact hB.2.2.2 a ha e
    refine fc_free (c := b) (f := 0) (n := n) (o := o) (m := m) (w := w) hb (fun a ha hab h0a => ?_) (fun hno => ?_)
    · refine br_t (nI_pos' (by omega)) (last b 0 n k o m wd tn w hM hB' ⟨a, ha, hab, ?_⟩ (by omega) (by omega) (fun t _ => rfl))
      rcases hB'.2.2.2 a ha hab with z | z
      · exact z
      · exact absurd h0a (z 0 (by omega))
    · refine br_f (by decide) ?_
      refine fc_least (c := b) (f := 0) (n := n) (o := o) (m := m) (w := w) hb hM.2.1 (fc_wlt hM) (fun h0a => ?_) (fun a ha hab hka hmin => ?_)
      · have : ∃ a, a < 8 ∧ a ≠ b := by
          by_cases e : b = 0
          · exact ⟨1, by omega, by omega⟩
          · exact ⟨0, by omega, by omega⟩
        obtain ⟨a, ha, hab⟩ := this
        exact absurd (h0a a ha hab) (hno a ha hab)
      · have hx := fc_pigeon hM hb (x := fc_lb k o w a) (fun d hd hdb => hmin d hd hdb (hno d hd hdb))
        refine fc_gather (c := b) (f := 0) (n := n) (o := o) (m := m) (w := w) hM hB' ha hab (by omega) (fun f' n' k' o' m' wd' tn' w' g1 g2 g3 g4 g5 g6 => ?_)
        exact last b f' n' k' o' m' wd' tn' w' g1 g2 g3 (by omega) g5 g6
  · obtain ⟨b, hb, hbc, hz⟩ := hF
    exact absurd (hz 0 (by omega)) (hno b hb hbc)
theorem fc_3f : ∀ f, f < 5 → ∀ l, l < 5 → ((3 : Int32) - nI f < nI l ↔ 3 < f + l) := by decide +kernel
theorem fc_tidy {post : St1 → Prop} {c f n x : Nat} {k : Nat → Int32} {o m : Nat → Nat} {wd tn : Nat → Int32} {w : Nat → Option Nat} (hx : x < 2 ^ 31) (hM : fc_M n k o m w) (hB : fc_B c f k) (hF : fc_F c k)
    (H : ∀ (f' n' : Nat) (k' : Nat → Int32) (o' m' : Nat → Nat) (wd' tn' : Nat → Int32) (w' : Nat → Option Nat), fc_M n' k' o' m' w' → fc_B c f' k' → fc_F c k' → n' ≤ n + 16 → (∀ t, t < 16 → fc_ct k' wd' tn' w' t = fc_ct k wd tn w t) → post (fc_S c f' n' k' o' m' wd' tn' w')) :
    wpX_tidy post (fc_S c f n k o m wd tn w) (nI x) := by
  unfold wpX_tidy fc_S
  try dsimp only
  refine pk_loop (σ := Nat × Nat × (Nat → Int32) × (Nat → Nat) × (Nat → Nat) × (Nat → Int32) × (Nat → Int32) × (Nat → Option Nat))
    (fun z i s => wX_tidy_2 post (nI x) z (nI i) (nI c) (nI s.1) (lN s.2.1) s.2.2.1 (fun p => nI (s.2.2.2.1 p)) (fun p => lN (s.2.2.2.2.1 p)) s.2.2.2.2.2.1 s.2.2.2.2.2.2.1 (fun t => fc_pg (s.2.2.2.2.2.2.2 t)))
    (fun i s => fc_M s.2.1 s.2.2.1 s.2.2.2.1 s.2.2.2.2.1 s.2.2.2.2.2.2.2 ∧ fc_B c s.1 s.2.2.1 ∧ fc_F c s.2.2.1 ∧ s.2.1 ≤ n + 4 * i ∧ ∀ t, t < 16 → fc_ct s.2.2.1 s.2.2.2.2.2.1 s.2.2.2.2.2.2.1 s.2.2.2.2.2.2.2 t = fc_ct k wd tn w t) (min x 4) 0 (f, n, k, o, m, wd, tn, w) (by omega) ?_ ?_ ?_
  · exact ⟨hM, hB, hF, Nat.le_refl _, fun t _ => rfl⟩
  · intro z s h
    obtain ⟨f', n', k', o', m', wd', tn', w'⟩ := s
    obtain ⟨h1, h2, h3, h4, h5⟩ := h
    try dsimp only at h1 h2 h3 h4 h5
    have hp : post (fc_S c f' n' k' o' m' wd' tn' w') := H f' n' k' o' m' wd' tn' w' h1 h2 h3 (by omega) h5
    refine pk_le x (min x 4) (fun _ => hp) (fun _ => ?_)
    exact pk_le 4 (min x 4) (fun _ => hp) (fun z => absurd z (by omega))
  · intro z i s hi h hwk
    obtain ⟨f', n', k', o', m', wd', tn', w'⟩ := s
    obtain ⟨h1, h2, h3, h4, h5⟩ := h
    try dsimp only at h1 h2 h3 h4 h5 hwk
    have next : wX_tidy_2 post (nI x) z (nI (i + 1)) (nI c) (nI f') (lN n') k' (fun p => nI (o' p)) (fun p => lN (m' p)) wd' tn' (fun t => fc_pg (w' t)) := hwk (f', n', k', o', m', wd', tn', w') ⟨h1, h2, h3, by (try dsimp only); omega, h5⟩
    show wX_tidy_2 post (nI x) (z + 1) (nI i) (nI c) (nI f') (lN n') k' (fun p => nI (o' p)) (fun p => lN (m' p)) wd' tn' (fun t => fc_pg (w' t))
    refine pk_le x i (fun z => absurd z (by omega)) (fun _ => ?_)
    refine pk_le 4 i (fun z => absurd z (by omega)) (fun _ => ?_)
    refine fc_least (c := c) (f := f') (n := n') (o := o') (m := m') (w := w') h2.1 h1.2.1 (fc_wlt h1) (fun h0 => ?_) (fun b hb hbc hkb hmin => ?_)
    · exact br_t fc_neg1 (nm_r (nI_1 i) next)
    · refine br_f (nI_pos (by omega)) ?_
      refine fc_live (c := c) (f := f') (n := n') (m := m') (wd := wd') (tn := tn') h1.2.1 (fc_wlt h1) hb ?_
      have hl := fc_lb_4 k' o' w' b
      have hf := h2.2.1
      refine ek_if (fc_3f f' (by omega) _ (by omega)) (fun _ => nm_r (nI_1 i) next) (fun hle => ?_)
      refine fc_gather h1 h2 hb hbc (by omega) (fun f2 n2 k2 o2 m2 wd2 tn2 w2 g1 g2 g3 g4 g5 g6 => ?_)
      exact nm_r (nI_1 i) (hwk (f2, n2, k2, o2, m2, wd2, tn2, w2) ⟨g1, g2, g3, by (try dsimp only); omega, fun t ht => by (try dsimp only); rw [g6 t ht]; exact h5 t ht⟩)
end
section
/-! findCurrent, power, init -/
theorem fc_findP {c f s0 s : Nat} {k : Nat → Int32} (hB : fc_B c f k) (hF : fc_F c k) (h0 : s0 < 8 ∧ (k (4 * s0) ≠ 0 ∨ (s0 = 0 ∧ ∀ b, b < 8 → k (4 * b) = 0)))
    (h1 : s < 8 ∧ ((k (4 * s) ≠ 0 ∧ k (4 * s + 3) = 0) ∨ (s = s0 ∧ ∀ b, b < 8 → ¬ (k (4 * b) ≠ 0 ∧ k (4 * b + 3) = 0)))) : ∃ f', fc_B s f' k ∧ fc_F s k := by
  obtain ⟨hs, h1⟩ := h1
  obtain ⟨hc, hf, hb1, hb2⟩ := hB
  rcases h1 with ⟨p1, p2⟩ | ⟨e, hno⟩
  · have e : s = c := by
      by_cases e : s = c
      · exact e
      · rcases hb2 s hs e with z | z
        · exact absurd (z 0 (by omega)) p1
        · exact absurd p2 (z 3 (by omega))
    subst e
    exact ⟨f, ⟨hc, hf, hb1, hb2⟩, hF⟩
  · have hall : ∀ b, b < 8 → (∀ j, j < 4 → k (4 * b + j) = 0) ∨ (∀ j, j < 4 → k (4 * b + j) ≠ 0) := by
      intro b hb
      by_cases e : b = c
      · subst e
        by_cases f0 : f = 0
        · refine Or.inl (fun j hj => ?_)
          by_cases z : k (4 * b + j) = 0
          · exact z
          · have := (hb1 j hj).mp z
            omega
        · by_cases f4 : f = 4
          · exact Or.inr (fun j hj => (hb1 j hj).mpr (by omega))
          · refine absurd ⟨(hb1 0 (by omega)).mpr (by omega), ?_⟩ (hno b hb)
            by_cases z : k (4 * b + 3) = 0
            · exact z
            · have := (hb1 3 (by omega)).mp z
              omega
      · exact hb2 b hb e
    subst e
    rcases h0.2 with z | ⟨z1, z2⟩
    · refine ⟨4, ⟨hs, by omega, fun j hj => ⟨fun _ => hj, fun _ => ?_⟩, fun b hb _ => hall b hb⟩, ?_⟩
      · rcases hall s hs with y | y
        · exact absurd (y 0 (by omega)) z
        · exact y j hj
      · obtain ⟨b, hb, hbc, hz⟩ := hF
        refine ⟨b, hb, ?_, hz⟩
        intro e
        subst e
        exact z (hz 0 (by omega))
    · have hzero : ∀ b, b < 8 → ∀ j, j < 4 → k (4 * b + j) = 0 := by
        intro b hb
        rcases hall b hb with y | y
        · exact y
        · exact absurd (z2 b hb) (y 0 (by omega))
      refine ⟨0, ⟨hs, by omega, fun j hj => ⟨fun y => absurd (hzero s hs j hj) y, fun y => absurd y (by omega)⟩, fun b hb _ => hall b hb⟩, ⟨1, by omega, by omega, hzero 1 (by omega)⟩⟩
theorem fc_f97 {post : St1 → Prop} {s f n : Nat} {k : Nat → Int32} {o m : Nat → Nat} {wd tn : Nat → Int32} {w : Nat → Option Nat} (hB : fc_B s f k) (H : post (fc_S s f n k o m wd tn w)) :
    ∃ z, wX_findCurrent_97 post (nI s) (lN n) k (fun p => nI (o p)) (fun p => lN (m p)) wd tn (fun t => fc_pg (w t)) z (nI (4 * s)) 0 := by
  obtain ⟨hs, hf, hb1, hb2⟩ := hB
  refine pk_loop (fun z i x => wX_findCurrent_97 post (nI s) (lN n) k (fun p => nI (o p)) (fun p => lN (m p)) wd tn (fun t => fc_pg (w t)) z (nI (4 * s + i)) (nI x)) (fun i x => x = min i f) 4 0 0 (by omega) (Nat.zero_min f).symm ?_ ?_
  · intro z x h
    refine pk_le (4 * s + 4) (4 * s + 4) (fun _ => ?_) (fun z => absurd z (by omega)) (hx := fc_4a s 4)
    have e : x = f := by omega
    rw [e]
    exact H
  · intro z i x hi h hwk
    try dsimp only at hwk
    show wX_findCurrent_97 post (nI s) (lN n) k (fun p => nI (o p)) (fun p => lN (m p)) wd tn (fun t => fc_pg (w t)) (z + 1) (nI (4 * s + i)) (nI x)
    unfold wX_findCurrent_97
    rw [nI_clamp (show 4 * s + i < 2 ^ 31 by omega)]
    have e1 : nI (4 * s + i) + 1 = nI (4 * s + (i + 1)) := nI_1 (4 * s + i)
    have hb := hb1 i hi
    refine pk_le (4 * s + 4) (4 * s + i) (fun z => absurd z (by omega)) (fun _ => ⟨vp_in_nI (by omega) (by omega), ?_⟩) (hx := fc_4a s 4)
    refine br_c (fun e0 => ?_) (fun e0 => ?_)
    · refine nm_r (e' := nI (x + 0)) (nI_add x 0) (nm_r e1 (hwk _ ?_))
      have : ¬ i < f := fun t => hb.mpr t e0
      omega
    · refine nm_r (e' := nI (x + 1)) (nI_1 x) (nm_r e1 (hwk _ ?_))
      have : i < f := hb.mp e0
      omega
theorem fc_find {post : St1 → Prop} {cu fi : Int32} {c f n : Nat} {k : Nat → Int32} {o m : Nat → Nat} {wd tn : Nat → Int32} {w : Nat → Option Nat} (hB : fc_B c f k) (hF : fc_F c k)
    (H : ∀ c' f', fc_B c' f' k → fc_F c' k → post (fc_S c' f' n k o m wd tn w)) : wpX_findCurrent post (cu, fi, lN n, k, fun p => nI (o p), fun p => lN (m p), wd, tn, fun t => fc_pg (w t)) := by
  unfold wpX_findCurrent
  try dsimp only
  have two : ∀ s0, (s0 < 8 ∧ (k (4 * s0) ≠ 0 ∨ (s0 = 0 ∧ ∀ b, b < 8 → k (4 * b) = 0))) → ∃ z, wX_findCurrent_49 post 0 (lN n) k (fun p => nI (o p)) (fun p => lN (m p)) wd tn (fun t => fc_pg (w t)) z 0 (nI s0) := by
    intro s0 hs0
    refine pk_loop (fun z i x => wX_findCurrent_49 post 0 (lN n) k (fun p => nI (o p)) (fun p => lN (m p)) wd tn (fun t => fc_pg (w t)) z (nI i) (nI x)) (fun i x => x < 8 ∧ ((k (4 * x) ≠ 0 ∧ k (4 * x + 3) = 0) ∨ (x = s0 ∧ ∀ b, b < i → ¬ (k (4 * b) ≠ 0 ∧ k (4 * b + 3) = 0)))) 8 0 s0 (by omega) ⟨hs0.1, Or.inr ⟨rfl, fun b hb => absurd hb (by omega)⟩⟩ ?_ ?_
    · intro z x h
      refine pk_le 8 8 (fun _ => nm_r (fc_4 x) ?_) (fun z => absurd z (by omega))
      obtain ⟨f', g1, g2⟩ := fc_findP hB hF hs0 h
      exact fc_f97 g1 (H x f' g1 g2)
    · intro z i x hi h hwk
      try dsimp only at hwk
      show wX_findCurrent_49 post 0 (lN n) k (fun p => nI (o p)) (fun p => lN (m p)) wd tn (fun t => fc_pg (w t)) (z + 1) (nI i) (nI x)
      have e3 : (4 : Int32) * nI i + 3 = nI (4 * i + 3) := fc_4a i 3
      unfold wX_findCurrent_49
      rw [e3, fc_4 i, nI_clamp (show 4 * i < 2 ^ 31 by omega), nI_clamp (show 4 * i + 3 < 2 ^ 31 by omega)]
      have keep : ¬ (k (4 * i) ≠ 0 ∧ k (4 * i + 3) = 0) → wX_findCurrent_49 post 0 (lN n) k (fun p => nI (o p)) (fun p => lN (m p)) wd tn (fun t => fc_pg (w t)) z (nI (i + 1)) (nI x) := by
        intro hn
        refine hwk x ⟨h.1, ?_⟩
        rcases h.2 with y | ⟨y1, y2⟩
        · exact Or.inl y
        · refine Or.inr ⟨y1, fun b hb => ?_⟩
          by_cases e : b = i
          · rw [e]
            exact hn
          · exact y2 b (by omega)
      refine pk_le 8 i (fun z => absurd z (by omega)) (fun _ => ⟨vp_in_nI (by omega) (by omega), ?_⟩)
      refine br_c (fun e0 => nm_r (nI_1 i) (keep (fun t => t.1 e0))) (fun e0 => ⟨vp_in_nI (by omega) (by omega), ?_⟩)
      exact br_c (fun e1 => nm_r (nI_1 i) (hwk i ⟨hi, Or.inl ⟨e0, e1⟩⟩)) (fun e1 => nm_r (nI_1 i) (keep (fun t => e1 t.2)))
  refine pk_loop (fun z i x => wX_findCurrent_12 post 0 (lN n) k (fun p => nI (o p)) (fun p => lN (m p)) wd tn (fun t => fc_pg (w t)) z (nI i) (nI x)) (fun i x => x < 8 ∧ (k (4 * x) ≠ 0 ∨ (x = 0 ∧ ∀ b, b < i → k (4 * b) = 0))) 8 0 0 (by omega) ⟨by omega, Or.inr ⟨rfl, fun b hb => absurd hb (by omega)⟩⟩ ?_ ?_
  · intro z x h
    exact pk_le 8 8 (fun _ => two x h) (fun z => absurd z (by omega))
  · intro z i x hi h hwk
    try dsimp only at hwk
    show wX_findCurrent_12 post 0 (lN n) k (fun p => nI (o p)) (fun p => lN (m p)) wd tn (fun t => fc_pg (w t)) (z + 1) (nI i) (nI x)
    unfold wX_findCurrent_12
    rw [fc_4 i, nI_clamp (show 4 * i < 2 ^ 31 by omega)]
    refine pk_le 8 i (fun z => absurd z (by omega)) (fun _ => ⟨vp_in_nI (by omega) (by omega), ?_⟩)
    refine br_c (fun e0 => nm_r (nI_1 i) (hwk x ⟨h.1, ?_⟩)) (fun e0 => nm_r (nI_1 i) (hwk i ⟨hi, Or.inl e0⟩))
    rcases h.2 with y | ⟨y1, y2⟩
    · exact Or.inl y
    · refine Or.inr ⟨y1, fun b hb => ?_⟩
      by_cases e : b = i
      · rw [e]
        exact e0
      · exact y2 b (by omega)
/-! the map built up again -/
def fc_PI (n : Nat) (k : Nat → Int32) (o m : Nat → Nat) (i n' : Nat) (w : Nat → Option Nat) : Prop :=
  1 ≤ n' ∧ n' ≤ n ∧ (∀ p, p < i → k p ≠ 0 → m p < n') ∧ (∀ p, p < i → k p ≠ 0 → ∃ q, w (o p) = some q ∧ m p ≤ m q) ∧ (∀ s q, s < 16 → w s = some q → q < i ∧ k q ≠ 0 ∧ o q = s)
theorem fc_PI_skip {n : Nat} {k : Nat → Int32} {o m : Nat → Nat} {i n' : Nat} {w : Nat → Option Nat} (h : fc_PI n k o m i n' w) (h0 : k i = 0) : fc_PI n k o m (i + 1) n' w := by
  obtain ⟨h1, h2, h3, h4, h5⟩ := h
  refine ⟨h1, h2, fun p hp hk => ?_, fun p hp hk => ?_, fun s q hs hq => ?_⟩
  · by_cases e : p = i
    · subst e
      exact absurd h0 hk
    · exact h3 p (by omega) hk
  · by_cases e : p = i
    · subst e
      exact absurd h0 hk
    · exact h4 p (by omega) hk
  · obtain ⟨a1, a2, a3⟩ := h5 s q hs hq
    exact ⟨by omega, a2, a3⟩
theorem fc_PI_keep {n : Nat} {k : Nat → Int32} {o m : Nat → Nat} {i n' q0 : Nat} {w : Nat → Option Nat} (h : fc_PI n k o m i n' w) (hm : m i < n) (hq0 : w (o i) = some q0) (hle : m i ≤ m q0) : fc_PI n k o m (i + 1) (max n' (m i + 1)) w := by
  obtain ⟨h1, h2, h3, h4, h5⟩ := h
  refine ⟨by omega, by omega, fun p hp hk => ?_, fun p hp hk => ?_, fun s q hs hq => ?_⟩
  · by_cases e : p = i
    · subst e
      omega
    · have := h3 p (by omega) hk
      omega
  · by_cases e : p = i
    · subst e
      exact ⟨q0, hq0, hle⟩
    · exact h4 p (by omega) hk
  · obtain ⟨a1, a2, a3⟩ := h5 s q hs hq
    exact ⟨by omega, a2, a3⟩
theorem fc_PI_set {n : Nat} {k : Nat → Int32} {o m : Nat → Nat} {i n' : Nat} {w : Nat → Option Nat} (h : fc_PI n k o m i n' w) (hk0 : k i ≠ 0) (hm : m i < n) (hle : ∀ q, w (o i) = some q → m q ≤ m i) : fc_PI n k o m (i + 1) (max n' (m i + 1)) (fc_u w (o i) (some i)) := by
  obtain ⟨h1, h2, h3, h4, h5⟩ := h
  refine ⟨by omega, by omega, fun p hp hk => ?_, fun p hp hk => ?_, fun s q hs hq => ?_⟩
  · by_cases e : p = i
    · subst e
      omega
    · have := h3 p (by omega) hk
      omega
  · by_cases e : p = i
    · subst e
      exact ⟨p, fc_us, Nat.le_refl _⟩
    · obtain ⟨q, hq, hmq⟩ := h4 p (by omega) hk
      by_cases e2 : o p = o i
      · refine ⟨i, by rw [e2, fc_us], ?_⟩
        rw [e2] at hq
        have := hle q hq
        omega
      · exact ⟨q, by rw [fc_un e2]; exact hq, hmq⟩
  · by_cases e : s = o i
    · rw [e, fc_us] at hq
      injection hq with hq
      subst hq
      exact ⟨by omega, hk0, e.symm⟩
    · rw [fc_un e] at hq
      obtain ⟨a1, a2, a3⟩ := h5 s q hs hq
      exact ⟨by omega, a2, a3⟩
theorem fc_PI_end {n : Nat} {k : Nat → Int32} {o m : Nat → Nat} {n' : Nat} {w w' : Nat → Option Nat} (hM : fc_M n k o m w) (h : fc_PI n k o m 32 n' w') : (∀ t, t < 16 → w' t = w t) ∧ fc_M n' k o m w' := by
  obtain ⟨h1, h2, h3, h4, h5⟩ := h
  obtain ⟨g1, g2, g3, g4, g5⟩ := hM
  have key : ∀ t, t < 16 → w' t = w t := by
    intro t ht
    cases e : w t with
    | none =>
      cases e' : w' t with
      | none => rfl
      | some q =>
        obtain ⟨a1, a2, a3⟩ := h5 t q ht e'
        obtain ⟨r, b1, _⟩ := g4 q a1 a2
        rw [a3, e] at b1
        cases b1
    | some q =>
      obtain ⟨a1, a2, a3⟩ := g5 t q ht e
      obtain ⟨r, b1, b2⟩ := h4 q a1 a2
      rw [a3] at b1
      obtain ⟨c1, c2, c3⟩ := h5 t r ht b1
      obtain ⟨x, d1, d2⟩ := g4 r c1 c2
      rw [c3, e] at d1
      injection d1 with d1
      subst d1
      rcases d2 with d2 | d2
      · rw [b1, d2]
      · omega
  refine ⟨key, h1, g2, h3, fun p hp hk => ?_, h5⟩
  obtain ⟨q, hq, hm⟩ := g4 p hp hk
  exact ⟨q, by rw [key (o p) (g2 p)]; exact hq, hm⟩
theorem fc_p87 {post : St1 → Prop} {J : Int32 → Int64 → (Nat → Int32) → (Nat → Int32) → (Nat → Int64) → (Nat → Int32) → (Nat → Int32) → (Nat → Int32) → Prop} {cu fi : Int32} {i n : Nat} {k : Nat → Int32} {o m : Nat → Nat} {wd tn : Nat → Int32} {w : Nat → Option Nat}
    (hi : i < 32) (hm : m i < 2 ^ 62) (hn : n < 2 ^ 62) (H : J (nI (i + 1)) (lN (max n (m i + 1))) k (fun p => nI (o p)) (fun p => lN (m p)) wd tn (fun t => fc_pg (w t))) :
    wX_power_87 post J (nI i) cu fi (lN n) k (fun p => nI (o p)) (fun p => lN (m p)) wd tn (fun t => fc_pg (w t)) := by
  unfold wX_power_87
  rw [nI_clamp (show i < 2 ^ 31 by omega)]
  try dsimp only
  have hin : vp_in (nI i) 32 := vp_in_nI hi (by omega)
  refine ⟨hin, ek_if (pk_lLT (by omega) (by omega)) (fun z => nm_r (nI_1 i) ?_) (fun z => ⟨hin, nm_r (lN_1 (m i)) (nm_r (nI_1 i) ?_)⟩)⟩
  · rw [show max n (m i + 1) = n by omega] at H
    exact H
  · rw [show max n (m i + 1) = m i + 1 by omega] at H
    exact H
theorem fc_p28 {post : St1 → Prop} {cu fi : Int32} {c f n : Nat} {k : Nat → Int32} {o m : Nat → Nat} {wd tn : Nat → Int32} {w w1 : Nat → Option Nat} (hM : fc_M n k o m w) (hn : n < 2 ^ 40) (hB : fc_B c f k) (hF : fc_F c k) (hw1 : ∀ t, t < 16 → w1 t = none)
    (H : ∀ (c' f' n' : Nat) (w' : Nat → Option Nat), fc_M n' k o m w' → fc_B c' f' k → fc_F c' k → n' ≤ n → (∀ t, t < 16 → w' t = w t) → post (fc_S c' f' n' k o m wd tn w')) :
    ∃ z, wX_power_28 post cu fi z 0 1 k (fun p => nI (o p)) (fun p => lN (m p)) wd tn (fun t => fc_pg (w1 t)) := by
  refine pk_loop (σ := Nat × (Nat → Option Nat)) (fun z i s => wX_power_28 post cu fi z (nI i) (lN s.1) k (fun p => nI (o p)) (fun p => lN (m p)) wd tn (fun t => fc_pg (s.2 t))) (fun i s => fc_PI n k o m i s.1 s.2) 32 0 (1, w1) (by omega) ?_ ?_ ?_
  · refine ⟨Nat.le_refl _, hM.1, fun p hp => absurd hp (by omega), fun p hp => absurd hp (by omega), fun s q hs hq => ?_⟩
    try dsimp only at hq
    rw [hw1 s hs] at hq
    cases hq
  · intro z s h
    obtain ⟨n', w'⟩ := s
    try dsimp only at h
    obtain ⟨e1, e2⟩ := fc_PI_end hM h
    have e3 := h.2.1
    refine pk_le 32 32 (fun _ => ?_) (fun z => absurd z (by omega))
    exact fc_find hB hF (fun c' f' g1 g2 => H c' f' n' w' e2 g1 g2 e3 e1)
  · intro z i s hi h hwk
    obtain ⟨n', w'⟩ := s
    try dsimp only at h hwk
    show wX_power_28 post cu fi (z + 1) (nI i) (lN n') k (fun p => nI (o p)) (fun p => lN (m p)) wd tn (fun t => fc_pg (w' t))
    unfold wX_power_28
    rw [nI_clamp (show i < 2 ^ 31 by omega)]
    have hin : vp_in (nI i) 32 := vp_in_nI hi (by omega)
    have hn' := h.2.1
    have ho := hM.2.1 i
    refine pk_le 32 i (fun z => absurd z (by omega)) (fun _ => ⟨hin, ?_⟩)
    refine br_c (fun e0 => nm_r (nI_1 i) (hwk (n', w') (fc_PI_skip h e0))) (fun e0 => ⟨hin, ?_⟩)
    have hm : m i < n := hM.2.2.1 i hi e0
    refine nm_r (e' := nI (o i)) rfl ⟨vp_in_nI ho (by omega), ?_⟩
    rw [nI_clamp (show o i < 2 ^ 31 by omega)]
    have hset : (∀ q, w' (o i) = some q → m q ≤ m i) → wX_power_80 post (wX_power_28 post cu fi z) (nI i) (nI (o i)) cu fi (lN n') k (fun p => nI (o p)) (fun p => lN (m p)) wd tn (fun t => fc_pg (w' t)) := by
      intro hle
      unfold wX_power_80
      rw [nI_clamp (show o i < 2 ^ 31 by omega)]
      refine ⟨vp_in_nI ho (by omega), nm_r (fc_upW _ _ (some i)) ?_⟩
      exact fc_p87 hi (by omega) (by omega) (hwk (_, _) (fc_PI_set h e0 hm hle))
    cases hw : w' (o i) with
    | none =>
      refine br_t ?_ (hset (fun q hq => by rw [hw] at hq; cases hq))
      try dsimp only
      rw [hw]
      exact fc_neg1
    | some q =>
      obtain ⟨a1, a2, a3⟩ := h.2.2.2.2 (o i) q ho hw
      have hmq : m q < n := hM.2.2.1 q (by omega) a2
      have e : fc_pg (w' (o i)) = nI q := by rw [hw]; rfl
      try dsimp only
      rw [e, nI_clamp (show q < 2 ^ 31 by omega)]
      refine br_f (nI_pos (by omega)) ⟨hin, vp_in_nI ho (by omega), vp_in_nI (by omega) (by omega), ?_⟩
      refine ek_if (pk_lLE (by omega) (by omega)) (fun hle => ?_) (fun hle => ?_)
      · exact fc_p87 hi (by omega) (by omega) (hwk (_, _) (fc_PI_keep h hm hw hle))
      · refine hset (fun r hr => ?_)
        rw [hw] at hr
        injection hr with hr
        subst hr
        omega
theorem fc_power {post : St1 → Prop} {cu fi : Int32} {ns : Int64} {c f n : Nat} {k : Nat → Int32} {o m : Nat → Nat} {wd tn : Nat → Int32} {w w1 : Nat → Option Nat} (hM : fc_M n k o m w) (hn : n < 2 ^ 40) (hB : fc_B c f k) (hF : fc_F c k)
    (H : ∀ (c' f' n' : Nat) (w' : Nat → Option Nat), fc_M n' k o m w' → fc_B c' f' k → fc_F c' k → n' ≤ n → (∀ t, t < 16 → w' t = w t) → post (fc_S c' f' n' k o m wd tn w')) :
    wpX_power post (cu, fi, ns, k, fun p => nI (o p), fun p => lN (m p), wd, tn, fun t => fc_pg (w1 t)) := by
  unfold wpX_power
  try dsimp only
  refine pk_loop (fun z i s => wX_power_7 post cu fi 1 z (nI i) k (fun p => nI (o p)) (fun p => lN (m p)) wd tn (fun t => fc_pg (s t))) (fun i s => ∀ t, t < i → s t = none) 16 0 w1 (by omega) (fun t ht => absurd ht (by omega)) ?_ ?_
  · intro z s h
    exact pk_le 16 16 (fun _ => fc_p28 hM hn hB hF h H) (fun z => absurd z (by omega))
  · intro z i s hi h hwk
    try dsimp only at hwk
    show wX_power_7 post cu fi 1 (z + 1) (nI i) k (fun p => nI (o p)) (fun p => lN (m p)) wd tn (fun t => fc_pg (s t))
    unfold wX_power_7
    rw [nI_clamp (show i < 2 ^ 31 by omega)]
    refine pk_le 16 i (fun z => absurd z (by omega)) (fun _ => ⟨vp_in_nI hi (by omega), ?_⟩)
    refine nm_r (fc_upW _ _ none) (nm_r (nI_1 i) (hwk (fc_u s i none) (fun t ht => ?_)))
    by_cases e : t = i
    · rw [e, fc_us]
    · rw [fc_un e]
      exact h t (by omega)
end
section
/-! the methods over the content A of the sectors -/
def fc_R (A : Nat → Int32 × Int32 × Int32) (N : Nat) (u : St1) : Prop :=
  ∃ (c f n : Nat) (k : Nat → Int32) (o m : Nat → Nat) (wd tn : Nat → Int32) (w : Nat → Option Nat), u = fc_S c f n k o m wd tn w ∧ fc_M n k o m w ∧ fc_B c f k ∧ fc_F c k ∧ n ≤ N ∧ ∀ t, t < 16 → fc_ct k wd tn w t = A t
theorem fc_R_le {A : Nat → Int32 × Int32 × Int32} {N N' : Nat} {u : St1} (h : fc_R A N u) (hN : N ≤ N') : fc_R A N' u := by
  obtain ⟨c, f, n, k, o, m, wd, tn, w, h1, h2, h3, h4, h5, h6⟩ := h
  exact ⟨c, f, n, k, o, m, wd, tn, w, h1, h2, h3, h4, by omega, h6⟩
theorem fc_uu {α : Type} (f : Nat → α) (k : Nat) (v v' : α) : fc_u (fc_u f k v) k v' = fc_u f k v' := by
  funext j
  by_cases e : j = k
  · rw [e, fc_us, fc_us]
  · rw [fc_un e, fc_un e, fc_un e]
def fc_rv (a : Int32 × Int32 × Int32) : Int32 := if a.1 = 0 ∨ a.1 = 2 then -2 else fc_dec (a.2.1 ^^^ a.2.2)
theorem fc_isS {post : Int32 → Prop} {s : Nat} (hs : s < 16) (H : post 1) : wpX_isSector post () (nI s) :=
  br_f (nI_pos (by omega)) (br_f (nI_nlt (a := 15) (b := s) (by omega) (by omega)) H)
theorem fc_read {post : Int32 → Prop} {A : Nat → Int32 × Int32 × Int32} {N : Nat} {u : St1} {s : Nat} (h : fc_R A N u) (hs : s < 16) (H : post (fc_rv (A s))) : wpX_read post u (nI s) := by
  obtain ⟨c, f, n, k, o, m, wd, tn, w, h1, h2, h3, h4, h5, h6⟩ := h
  subst h1
  unfold wpX_read fc_S
  try dsimp only
  refine fc_isS hs (br_f (by decide) ⟨vp_in_nI hs (by omega), ?_⟩)
  rw [nI_clamp (show s < 2 ^ 31 by omega)]
  rw [← h6 s hs] at H
  cases hw : w s with
  | none =>
    rw [fc_ct_n hw] at H
    refine nm_r (e' := -1) rfl (br_t fc_neg1 ?_)
    exact H
  | some q =>
    rw [fc_ct_s hw] at H
    obtain ⟨a1, a2, a3⟩ := h2.2.2.2.2 s q hs hw
    refine nm_r (e' := nI q) rfl (br_f (nI_pos (by omega)) ⟨vp_in_nI a1 (by omega), ?_⟩)
    rw [nI_clamp (show q < 2 ^ 31 by omega)]
    unfold fc_rv at H
    try dsimp only at H
    refine br_c (fun e => ?_) (fun e => ⟨vp_in_nI a1 (by omega), vp_in_nI a1 (by omega), fc_decode ?_⟩)
    · rw [if_pos (Or.inr e)] at H
      exact H
    · rw [if_neg (fun t => t.elim a2 e)] at H
      exact H
theorem fc_isW {post : Int32 → Prop} {A : Nat → Int32 × Int32 × Int32} {N : Nat} {u : St1} {s : Nat} (h : fc_R A N u) (hs : s < 16) (H1 : (A s).1 = 1 → post 1) (H0 : (A s).1 ≠ 1 → post 0) : wpX_isWritten post u (nI s) := by
  obtain ⟨c, f, n, k, o, m, wd, tn, w, h1, h2, h3, h4, h5, h6⟩ := h
  subst h1
  unfold wpX_isWritten fc_S
  try dsimp only
  rw [nI_clamp (show s < 2 ^ 31 by omega)]
  refine ⟨vp_in_nI hs (by omega), ?_⟩
  rw [← h6 s hs] at H1 H0
  cases hw : w s with
  | none =>
    rw [fc_ct_n hw] at H0
    exact br_t fc_neg1 (H0 (by decide))
  | some q =>
    rw [fc_ct_s hw] at H1 H0
    obtain ⟨a1, a2, a3⟩ := h2.2.2.2.2 s q hs hw
    have e : fc_pg (some q) = nI q := rfl
    rw [e, nI_clamp (show q < 2 ^ 31 by omega)]
    exact br_f (nI_pos (by omega)) ⟨vp_in_nI hs (by omega), vp_in_nI a1 (by omega), br_c H1 H0⟩
theorem fc_turn {post : Int32 → St1 → Prop} {A : Nat → Int32 × Int32 × Int32} {N : Nat} {u : St1} {s b : Nat} (h : fc_R A N u) (hs : s < 16) (hb : b < 22)
    (H0 : (A s).1 ≠ 1 → post (-2) u)
    (H1 : (A s).1 = 1 → fc_on (fc_bt ((A s).2.2 ^^^ fc_tt b)) 22 ≤ 2 → ∀ u', fc_R (fc_u A s ((A s).1, (A s).2.1, (A s).2.2 ^^^ fc_tt b)) N u' → post (nI (fc_on (fc_bt ((A s).2.2 ^^^ fc_tt b)) 22)) u')
    (H2 : (A s).1 = 1 → 2 < fc_on (fc_bt ((A s).2.2 ^^^ fc_tt b)) 22 → post (-3) u) : wpX_turn post u (nI s) (nI b) := by
  have hR := h
  obtain ⟨c, f, n, k, o, m, wd, tn, w, h1, h2, h3, h4, h5, h6⟩ := h
  subst h1
  unfold wpX_turn fc_S
  try dsimp only
  refine fc_isS hs (br_f (by decide) (br_f (nI_pos (by omega)) (br_t (nI_le (a := b) (b := 21) (by omega) (by omega)) ?_)))
  refine fc_isW hR hs (fun hA => br_f (by decide) ⟨vp_in_nI hs (by omega), ?_⟩) (fun hA => br_t rfl (H0 hA))
  rw [nI_clamp (show s < 2 ^ 31 by omega)]
  have hA6 := h6 s hs
  cases hw : w s with
  | none =>
    rw [fc_ct_n hw] at hA6
    rw [← hA6] at hA
    exact absurd hA (by decide)
  | some q =>
    rw [fc_ct_s hw] at hA6
    obtain ⟨a1, a2, a3⟩ := h2.2.2.2.2 s q hs hw
    have et : (A s).2.2 = tn q := by rw [← hA6]
    have ew : (A s).2.1 = wd q := by rw [← hA6]
    have ek : (A s).1 = k q := by rw [← hA6]
    refine nm_r (e' := nI q) rfl ⟨vp_in_nI a1 (by omega), ?_⟩
    rw [nI_clamp (show q < 2 ^ 31 by omega)]
    refine nm_r (e' := (A s).2.2 ^^^ fc_tt b) (by rw [et]; rfl) (fc_ones ?_)
    have hon := fc_on_le (fc_bt ((A s).2.2 ^^^ fc_tt b)) 22
    refine pk_le (fc_on (fc_bt ((A s).2.2 ^^^ fc_tt b)) 22) 2 (fun hle => ⟨vp_in_nI a1 (by omega), nm_e ?_⟩) (fun hlt => H2 hA hlt)
    refine H1 hA hle _ ⟨c, f, n, k, o, m, wd, fc_u tn q ((A s).2.2 ^^^ fc_tt b), w, rfl, h2, h3, h4, h5, ?_⟩
    intro t ht
    by_cases e : t = s
    · subst e
      rw [fc_us, fc_ct_s hw, fc_us, ew, ek]
    · rw [fc_un e, ← h6 t ht]
      cases hwt : w t with
      | none => rw [fc_ct_n hwt, fc_ct_n hwt]
      | some r =>
        have b3 := (h2.2.2.2.2 t r ht hwt).2.2
        have hrq : r ≠ q := by
          intro z
          subst z
          exact e (b3.symm.trans a3)
        rw [fc_ct_s hwt, fc_ct_s hwt, fc_un hrq]
theorem fc_progR {post : St1 → Prop} {A : Nat → Int32 × Int32 × Int32} {N : Nat} {u : St1} {s : Nat} {kd cd fl : Int32} (h : fc_R A N u) (hs : s < 16) (hk : kd ≠ 0)
    (H : ∀ u', fc_R (fc_u A s (kd, cd, fl)) (N + 5) u' → post u') : wpX_program post u (nI s) kd cd fl := by
  obtain ⟨c, f, n, k, o, m, wd, tn, w, h1, h2, h3, h4, h5, h6⟩ := h
  subst h1
  refine fc_prog h2 h3 h4 hs hk (fun c' f' n' k' o' m' wd' tn' w' g1 g2 g3 g4 g5 => H _ ⟨c', f', n', k', o', m', wd', tn', w', rfl, g1, g2, g3, by omega, fun t ht => ?_⟩)
  rw [g5 t ht]
  by_cases e : t = s
  · rw [if_pos e, e, fc_us]
  · rw [if_neg e, fc_un e]
    exact h6 t ht
theorem fc_write {post : Int32 → St1 → Prop} {A : Nat → Int32 × Int32 × Int32} {N : Nat} {u : St1} {s : Nat} {v : Int32} (h : fc_R A N u) (hs : s < 16)
    (H : ∀ u', fc_R (fc_u A s (1, fc_enc (v &&& 65535), 0)) (N + 5) u' → post 0 u') : wpX_write post u (nI s) v := by
  obtain ⟨x1, x2, x3, x4, x5, x6, x7, x8, x9⟩ := u
  unfold wpX_write
  try dsimp only
  refine fc_isS hs (br_f (by decide) (fc_encode (fc_progR h hs (by decide) (fun u' hu => ?_))))
  obtain ⟨y1, y2, y3, y4, y5, y6, y7, y8, y9⟩ := u'
  exact H _ hu
theorem fc_trim {post : Int32 → St1 → Prop} {A : Nat → Int32 × Int32 × Int32} {N : Nat} {u : St1} {s : Nat} (h : fc_R A N u) (hs : s < 16)
    (H0 : (A s).1 ≠ 1 → post (-2) u) (H : (A s).1 = 1 → ∀ u', fc_R (fc_u A s (2, 0, 0)) (N + 5) u' → post 0 u') : wpX_trim post u (nI s) := by
  obtain ⟨x1, x2, x3, x4, x5, x6, x7, x8, x9⟩ := u
  unfold wpX_trim
  try dsimp only
  refine fc_isS hs (br_f (by decide) (fc_isW h hs (fun hA => br_f (by decide) (fc_progR h hs (by decide) (fun u' hu => ?_))) (fun hA => br_t rfl (H0 hA))))
  obtain ⟨y1, y2, y3, y4, y5, y6, y7, y8, y9⟩ := u'
  exact H hA _ hu
theorem fc_repair {post : Int32 → St1 → Prop} {A : Nat → Int32 × Int32 × Int32} {N : Nat} {u : St1} {s : Nat} (h : fc_R A N u) (hs : s < 16)
    (H0 : fc_rv (A s) < 0 → post (fc_rv (A s)) u) (H : ¬ fc_rv (A s) < 0 → ∀ u', fc_R (fc_u A s (1, fc_enc (fc_rv (A s) &&& 65535), 0)) (N + 5) u' → post (fc_rv (A s)) u') : wpX_repair post u (nI s) := by
  obtain ⟨x1, x2, x3, x4, x5, x6, x7, x8, x9⟩ := u
  unfold wpX_repair
  try dsimp only
  refine fc_read h hs (br_c H0 (fun hn => fc_write h hs (fun u' hu => ?_)))
  obtain ⟨y1, y2, y3, y4, y5, y6, y7, y8, y9⟩ := u'
  exact H hn _ hu
theorem fc_powerR {post : St1 → Prop} {A : Nat → Int32 × Int32 × Int32} {N : Nat} {u : St1} (h : fc_R A N u) (hN : N < 2 ^ 40) (H : ∀ u', fc_R A N u' → post u') : wpX_power post u := by
  obtain ⟨c, f, n, k, o, m, wd, tn, w, h1, h2, h3, h4, h5, h6⟩ := h
  subst h1
  refine fc_power h2 (by omega) h3 h4 (fun c' f' n' w' g1 g2 g3 g4 g5 => H _ ⟨c', f', n', k, o, m, wd, tn, w', rfl, g1, g2, g3, by omega, fun t ht => ?_⟩)
  rw [← h6 t ht]
  unfold fc_ct
  rw [g5 t ht]
theorem fc_tidyR {post : St1 → Prop} {A : Nat → Int32 × Int32 × Int32} {N x : Nat} {u : St1} (h : fc_R A N u) (hx : x < 2 ^ 31) (H : ∀ u', fc_R A (N + 16) u' → post u') : wpX_tidy post u (nI x) := by
  obtain ⟨c, f, n, k, o, m, wd, tn, w, h1, h2, h3, h4, h5, h6⟩ := h
  subst h1
  refine fc_tidy hx h2 h3 h4 (fun f' n' k' o' m' wd' tn' w' g1 g2 g3 g4 g5 => H _ ⟨c, f', n', k', o', m', wd', tn', w', rfl, g1, g2, g3, by omega, fun t ht => ?_⟩)
  rw [g5 t ht]
  exact h6 t ht
theorem fc_init {post : St1 → Prop} {mc ms : Nat} (hc : 6 ≤ mc) (hs : 176 ≤ ms) (H : ∀ u', fc_R (fun _ => (0, 0, 0)) 1 u' → post u') : wpX_init post mc ms (0, 0, 0) := by
  unfold wpX_init
  try dsimp only
  refine ⟨by omega, by omega, by omega, by omega, by omega, by omega, by omega, by omega, by omega, by omega, by omega, by omega, ?_⟩
  have hM : fc_M 1 (fun _ => 0) (fun _ => 0) (fun _ => 0) (fun _ => none) :=
    ⟨Nat.le_refl _, fun p => (by omega : 0 < 16), fun p _ hk => absurd rfl hk, fun p _ hk => absurd rfl hk, fun s q _ hq => by cases hq⟩
  have hB : fc_B 0 0 (fun _ => 0) := ⟨by omega, by omega, fun j hj => ⟨fun hk => absurd rfl hk, fun z => absurd z (by omega)⟩, fun b _ _ => Or.inl (fun _ _ => rfl)⟩
  have hF : fc_F 0 (fun _ => 0) := ⟨1, by omega, by omega, fun _ _ => rfl⟩
  refine fc_power (w := fun _ => none) (w1 := fun _ => some 0) (o := fun _ => 0) (m := fun _ => 0) hM (by omega) hB hF (fun c' f' n' w' g1 g2 g3 g4 g5 => ?_)
  exact H _ ⟨c', f', n', _, _, _, _, _, w', rfl, g1, g2, g3, g4, fun t ht => fc_ct_n (g5 t ht)⟩
/-! written, damaged, sum, alike -/
theorem fc_written {post : Int32 → Prop} {A : Nat → Int32 × Int32 × Int32} {N : Nat} {u : St1} (h : fc_R A N u) (H : post (nI (fc_sm (fun s => if (A s).1 = 1 then 1 else 0) 16))) : wpX_written post u := by
  obtain ⟨x1, x2, x3, x4, x5, x6, x7, x8, x9⟩ := u
  unfold wpX_written
  try dsimp only
  refine pk_loop (fun z i y => wX_written_4 post x1 x2 x3 x4 x5 x6 x7 x8 x9 z (nI y) (nI i)) (fun i y => y = fc_sm (fun s => if (A s).1 = 1 then 1 else 0) i) 16 0 0 (by omega) rfl ?_ ?_
  · intro z y e
    refine pk_le 16 16 (fun _ => ?_) (fun z => absurd z (by omega))
    rw [e]
    exact H
  · intro z i y hi e hwk
    have hs : fc_sm (fun s => if (A s).1 = 1 then 1 else 0) (i + 1) = y + (if (A i).1 = 1 then 1 else 0) := by
      rw [e]
      rfl
    refine pk_le 16 i (fun z => absurd z (by omega)) (fun _ => ?_)
    refine fc_isW h hi (fun hA => br_f (by decide) (nm_r (nI_1 y) (nm_r (nI_1 i) (hwk _ ?_)))) (fun hA => br_t rfl (nm_r (nI_add y 0) (nm_r (nI_1 i) (hwk _ ?_))))
    · rw [hs, if_pos hA]
    · rw [hs, if_neg hA]
theorem fc_damaged {post : Int32 → Prop} {A : Nat → Int32 × Int32 × Int32} {N : Nat} {u : St1} (h : fc_R A N u) (H : post (nI (fc_sm (fun s => if fc_rv (A s) = -3 then 1 else 0) 16))) : wpX_damaged post u := by
  obtain ⟨x1, x2, x3, x4, x5, x6, x7, x8, x9⟩ := u
  unfold wpX_damaged
  try dsimp only
  refine pk_loop (fun z i y => wX_damaged_4 post x1 x2 x3 x4 x5 x6 x7 x8 x9 z (nI y) (nI i)) (fun i y => y = fc_sm (fun s => if fc_rv (A s) = -3 then 1 else 0) i) 16 0 0 (by omega) rfl ?_ ?_
  · intro z y e
    refine pk_le 16 16 (fun _ => ?_) (fun z => absurd z (by omega))
    rw [e]
    exact H
  · intro z i y hi e hwk
    have hs : fc_sm (fun s => if fc_rv (A s) = -3 then 1 else 0) (i + 1) = y + (if fc_rv (A i) = -3 then 1 else 0) := by
      rw [e]
      rfl
    refine pk_le 16 i (fun z => absurd z (by omega)) (fun _ => ?_)
    refine fc_read h hi (br_c (fun hA => nm_r (nI_1 y) (nm_r (nI_1 i) (hwk _ ?_))) (fun hA => nm_r (nI_add y 0) (nm_r (nI_1 i) (hwk _ ?_))))
    · rw [hs, if_pos hA]
    · rw [hs, if_neg hA]
def fc_su (A : Nat → Int32 × Int32 × Int32) : Nat → Int32
  | 0 => 0
  | i + 1 => if fc_rv (A i) ≤ 0 then fc_su A i + 0 else fc_su A i + fc_rv (A i)
theorem fc_sum {post : Int32 → Prop} {A : Nat → Int32 × Int32 × Int32} {N : Nat} {u : St1} (h : fc_R A N u) (H : post (fc_su A 16)) : wpX_sum post u := by
  obtain ⟨x1, x2, x3, x4, x5, x6, x7, x8, x9⟩ := u
  unfold wpX_sum
  try dsimp only
  refine pk_loop (fun z i y => wX_sum_4 post x1 x2 x3 x4 x5 x6 x7 x8 x9 z y (nI i)) (fun i y => y = fc_su A i) 16 0 0 (by omega) rfl ?_ ?_
  · intro z y e
    refine pk_le 16 16 (fun _ => ?_) (fun z => absurd z (by omega))
    rw [e]
    exact H
  · intro z i y hi e hwk
    refine pk_le 16 i (fun z => absurd z (by omega)) (fun _ => ?_)
    refine fc_read h hi (br_c (fun hA => nm_e (nm_r (nI_1 i) (hwk _ ?_))) (fun hA => nm_e (nm_r (nI_1 i) (hwk _ ?_))))
    · rw [e]
      exact (if_pos hA).symm
    · rw [e]
      exact (if_neg hA).symm
theorem fc_alike {post : Int32 → Prop} {A : Nat → Int32 × Int32 × Int32} {N M : Nat} {x1 x2 : Int32} {x3 : Int64} {x4 x5 : Nat → Int32} {x6 : Nat → Int64} {x7 x8 x9 : Nat → Int32} {y1 y2 : Int32} {y3 : Int64} {y4 y5 : Nat → Int32} {y6 : Nat → Int64} {y7 y8 y9 : Nat → Int32}
    (hu : fc_R A N (x1, x2, x3, x4, x5, x6, x7, x8, x9)) (hv : fc_R A M (y1, y2, y3, y4, y5, y6, y7, y8, y9)) (H : post 1) : wpL_alike post (x1, x2, x3, x4, x5, x6, x7, x8, x9, y1, y2, y3, y4, y5, y6, y7, y8, y9) := by
  unfold wpL_alike
  try dsimp only
  refine pk_loop (σ := Unit) (fun z i _ => wL_alike_2 post x1 x2 x3 x4 x5 x6 x7 x8 x9 y1 y2 y3 y4 y5 y6 y7 y8 y9 z (nI i)) (fun _ _ => True) 16 0 () (by omega) trivial ?_ ?_
  · intro z _ _
    refine pk_le 16 16 (fun _ => ?_) (fun z => absurd z (by omega))
    exact fc_written hu (fc_written hv (br_t rfl (fc_damaged hu (fc_damaged hv (br_t rfl (fc_sum hu (fc_sum hv (br_t rfl H))))))))
  · intro z i _ hi _ hwk
    refine pk_le 16 i (fun z => absurd z (by omega)) (fun _ => ?_)
    exact fc_read hu hi (fc_read hv hi (br_t rfl (nm_r (nI_1 i) (hwk () trivial))))
end
section
/-! turned, call, the law -/
theorem fc_readT {post : Int32 → Prop} {A : Nat → Int32 × Int32 × Int32} {N : Nat} {u : St1} {s : Nat} {E t r : Int32} (h : fc_R (fc_u A s (1, E, t)) N u) (hs : s < 16) (hr : fc_dec (E ^^^ t) = r) (H : post r) : wpX_read post u (nI s) := by
  refine fc_read h hs ?_
  rw [fc_us]
  unfold fc_rv
  try dsimp only
  rw [if_neg (by decide), hr]
  exact H
theorem fc_turnT {post : Int32 → St1 → Prop} {A : Nat → Int32 × Int32 × Int32} {N : Nat} {u : St1} {s b j : Nat} {E t t' : Int32} (h : fc_R (fc_u A s (1, E, t)) N u) (hs : s < 16) (hb : b < 22) (ht : t ^^^ fc_tt b = t') (hj : fc_on (fc_bt t') 22 = j) (hj2 : j ≤ 2)
    (H : ∀ u', fc_R (fc_u A s (1, E, t')) N u' → post (nI j) u') : wpX_turn post u (nI s) (nI b) := by
  refine fc_turn h hs hb (fun z => ?_) (fun _ _ u' hu => ?_) (fun _ z => ?_)
  · rw [fc_us] at z
    exact absurd rfl z
  · rw [fc_us, fc_uu] at hu
    rw [fc_us]
    try dsimp only at hu
    try dsimp only
    rw [ht] at hu
    rw [ht, hj]
    exact H u' hu
  · rw [fc_us] at z
    try dsimp only at z
    rw [ht, hj] at z
    omega
theorem fc_turned {post : Int32 → St1 → Prop} {A : Nat → Int32 × Int32 × Int32} {N : Nat} {u : St1} {s a b : Nat} {v : Int32} (h : fc_R A N u) (hs : s < 16) (ha : a < 22) (hb : b < 22)
    (H : ∀ u', fc_R (fc_u A s (1, fc_enc (v &&& 65535), 0)) (N + 5) u' → post 1 u') : wpL_turned post u (nI s) v (nI a) (nI b) := by
  obtain ⟨x1, x2, x3, x4, x5, x6, x7, x8, x9⟩ := u
  unfold wpL_turned
  try dsimp only
  have ta := fc_tt_s a ha
  have tb := fc_tt_s b hb
  refine nm_e (fc_write h hs (fun u1 h1 => ?_))
  obtain ⟨y1, y2, y3, y4, y5, y6, y7, y8, y9⟩ := u1
  refine br_t rfl (fc_readT h1 hs (fc_dec_0 v) (br_t rfl ?_))
  refine fc_turnT h1 hs ha (fc_0x _) ta.2.2 (by omega) (fun u2 h2 => ?_)
  obtain ⟨y1, y2, y3, y4, y5, y6, y7, y8, y9⟩ := u2
  refine br_t rfl (fc_readT h2 hs (fc_dec_1 v ha) (br_t rfl ?_))
  by_cases e : a = b
  · subst e
    refine fc_turnT h2 hs ha (fc_xs _) fc_t0_s (by omega) (fun u3 h3 => ?_)
    obtain ⟨y1, y2, y3, y4, y5, y6, y7, y8, y9⟩ := u3
    refine br_t rfl ?_
    unfold wL_turned_65
    refine br_t rfl (fc_readT h3 hs (fc_dec_0 v) (br_t rfl ?_))
    unfold wL_turned_86
    refine br_t rfl (fc_turnT h3 hs ha (fc_0x _) ta.2.2 (by omega) (fun u4 h4 => ?_))
    obtain ⟨y1, y2, y3, y4, y5, y6, y7, y8, y9⟩ := u4
    refine br_t rfl (fc_readT h4 hs (fc_dec_1 v ha) (br_t rfl ?_))
    refine fc_turnT h4 hs ha (fc_xs _) fc_t0_s (by omega) (fun u5 h5 => ?_)
    obtain ⟨y1, y2, y3, y4, y5, y6, y7, y8, y9⟩ := u5
    exact br_t rfl (fc_readT h5 hs (fc_dec_0 v) (br_t rfl (H _ h5)))
  · have t2 := fc_t2_s a ha b hb e
    have hne : ¬ nI a = nI b := fun z => e ((nI_eq (by omega) (by omega)).mp z)
    refine fc_turnT h2 hs hb rfl t2.2.2 (by omega) (fun u3 h3 => ?_)
    obtain ⟨y1, y2, y3, y4, y5, y6, y7, y8, y9⟩ := u3
    refine br_f hne ?_
    unfold wL_turned_65
    refine br_t rfl (fc_readT h3 hs (fc_dec_2 v ha hb e) (br_f hne ?_))
    unfold wL_turned_86
    refine br_t rfl (fc_turnT h3 hs hb (fc_xx _ _) ta.2.2 (by omega) (fun u4 h4 => ?_))
    obtain ⟨y1, y2, y3, y4, y5, y6, y7, y8, y9⟩ := u4
    refine br_t rfl (fc_readT h4 hs (fc_dec_1 v ha) (br_t rfl ?_))
    refine fc_turnT h4 hs ha (fc_xs _) fc_t0_s (by omega) (fun u5 h5 => ?_)
    obtain ⟨y1, y2, y3, y4, y5, y6, y7, y8, y9⟩ := u5
    exact br_t rfl (fc_readT h5 hs (fc_dec_0 v) (br_t rfl (H _ h5)))
theorem fc_r22 {j : Nat} (hj : j < 256) : nI j - nI j / 22 * 22 = nI (j % 22) := pk_rem (a := j) (d := 22) (by omega) (by omega) (by omega)
theorem fc_mod22 (v : Int32) : ∃ b, b < 22 ∧ (v &&& 255) - (v &&& 255) / 22 * 22 = nI b := by
  obtain ⟨j, hj, e⟩ := pk_andE v (m := 255) 8 (by decide)
  exact ⟨j % 22, Nat.mod_lt _ (by omega), by rw [e]; exact fc_r22 hj⟩
theorem fc_call (A : Nat → Int32 × Int32 × Int32) {kk s : Nat} (v : Int32) (hk : kk ≤ 10) (hs : s < 16) : ∃ (r : Int32) (A' : Nat → Int32 × Int32 × Int32), ∀ (post : Int32 → St1 → Prop) (N : Nat) (u : St1), fc_R A N u → (∀ u', fc_R A' (N + 5) u' → post r u') → wpL_call post u (nI kk) (nI s) v := by
  have h22 : ¬ (22 : Int32) = 0 := by decide
  by_cases k5 : kk ≤ 5
  · refine ⟨0, fc_u A s (1, fc_enc (v &&& 65535), 0), fun post N u h H => ?_⟩
    obtain ⟨x1, x2, x3, x4, x5, x6, x7, x8, x9⟩ := u
    unfold wpL_call
    try dsimp only
    refine pk_lt 5 kk (fun z => absurd z (by omega)) (fun _ => fc_write h hs (fun u' hu => ?_))
    obtain ⟨y1, y2, y3, y4, y5, y6, y7, y8, y9⟩ := u'
    exact H _ hu
  · by_cases k8 : kk ≤ 8
    · obtain ⟨b, hb, eb⟩ := fc_mod22 v
      have go : ∀ (post : Int32 → St1 → Prop) (u : St1), (∀ post' : Int32 → St1 → Prop, (∀ r u', post r u' → post' r u') → wpX_turn post' u (nI s) (nI b)) → wpL_call post u (nI kk) (nI s) v := by
        intro post u h
        obtain ⟨x1, x2, x3, x4, x5, x6, x7, x8, x9⟩ := u
        unfold wpL_call
        try dsimp only
        rw [eb]
        refine pk_lt 5 kk (fun _ => ?_) (fun z => absurd z (by omega))
        refine pk_lt 8 kk (fun z => absurd z (by omega)) (fun _ => ⟨h22, h _ (fun r u' hp => ?_)⟩)
        obtain ⟨y1, y2, y3, y4, y5, y6, y7, y8, y9⟩ := u'
        exact hp
      by_cases hA : (A s).1 = 1
      · by_cases hon : fc_on (fc_bt ((A s).2.2 ^^^ fc_tt b)) 22 ≤ 2
        · refine ⟨nI (fc_on (fc_bt ((A s).2.2 ^^^ fc_tt b)) 22), fc_u A s ((A s).1, (A s).2.1, (A s).2.2 ^^^ fc_tt b), fun post N u h H => go post u (fun post' hp => ?_)⟩
          exact fc_turn h hs hb (fun z => absurd hA z) (fun _ _ u' hu => hp _ _ (H u' (fc_R_le hu (by omega)))) (fun _ z => absurd hon (by omega))
        · refine ⟨-3, A, fun post N u h H => go post u (fun post' hp => ?_)⟩
          exact fc_turn h hs hb (fun z => absurd hA z) (fun _ z => absurd z hon) (fun _ _ => hp _ _ (H u (fc_R_le h (by omega))))
      · refine ⟨-2, A, fun post N u h H => go post u (fun post' hp => ?_)⟩
        exact fc_turn h hs hb (fun _ => hp _ _ (H u (fc_R_le h (by omega)))) (fun z => absurd z hA) (fun z => absurd z hA)
    · by_cases k9 : kk = 9
      · have go : ∀ (post : Int32 → St1 → Prop) (u : St1), (∀ post' : Int32 → St1 → Prop, (∀ r u', post r u' → post' r u') → wpX_trim post' u (nI s)) → wpL_call post u (nI kk) (nI s) v := by
          intro post u h
          obtain ⟨x1, x2, x3, x4, x5, x6, x7, x8, x9⟩ := u
          unfold wpL_call
          try dsimp only
          refine pk_lt 5 kk (fun _ => ?_) (fun z => absurd z (by omega))
          refine pk_lt 8 kk (fun _ => ?_) (fun z => absurd z (by omega))
          refine pk_eq kk 9 (fun _ => h _ (fun r u' hp => ?_)) (fun z => absurd k9 z)
          obtain ⟨y1, y2, y3, y4, y5, y6, y7, y8, y9⟩ := u'
          exact hp
        by_cases hA : (A s).1 = 1
        · refine ⟨0, fc_u A s (2, 0, 0), fun post N u h H => go post u (fun post' hp => ?_)⟩
          exact fc_trim h hs (fun z => absurd hA z) (fun _ u' hu => hp _ _ (H u' hu))
        · refine ⟨-2, A, fun post N u h H => go post u (fun post' hp => ?_)⟩
          exact fc_trim h hs (fun _ => hp _ _ (H u (fc_R_le h (by omega)))) (fun z => absurd z hA)
      · have go : ∀ (post : Int32 → St1 → Prop) (u : St1), (∀ post' : Int32 → St1 → Prop, (∀ r u', post r u' → post' r u') → wpX_repair post' u (nI s)) → wpL_call post u (nI kk) (nI s) v := by
          intro post u h
          obtain ⟨x1, x2, x3, x4, x5, x6, x7, x8, x9⟩ := u
          unfold wpL_call
          try dsimp only
          refine pk_lt 5 kk (fun _ => ?_) (fun z => absurd z (by omega))
          refine pk_lt 8 kk (fun _ => ?_) (fun z => absurd z (by omega))
          refine pk_eq kk 9 (fun z => absurd z k9) (fun _ => h _ (fun r u' hp => ?_))
          obtain ⟨y1, y2, y3, y4, y5, y6, y7, y8, y9⟩ := u'
          exact hp
        by_cases hr : fc_rv (A s) < 0
        · refine ⟨fc_rv (A s), A, fun post N u h H => go post u (fun post' hp => ?_)⟩
          exact fc_repair h hs (fun _ => hp _ _ (H u (fc_R_le h (by omega)))) (fun z => absurd hr z)
        · refine ⟨fc_rv (A s), fc_u A s (1, fc_enc (fc_rv (A s) &&& 65535), 0), fun post N u h H => go post u (fun post' hp => ?_)⟩
          exact fc_repair h hs (fun z => absurd z hr) (fun _ u' hu => hp _ _ (H u' hu))
end
section
/-! the law's loop and the owed statement -/
theorem fc_law {L : Nat} {xs : Nat → Int32} {kc ks : Nat} (hL : L ≤ 260) {u v : St1} (hu : fc_R (fun _ => (0, 0, 0)) 1 u) (hv : fc_R (fun _ => (0, 0, 0)) 1 v) :
    ∃ z, wL_law_18 (fun r => r = 1) L xs kc ks z 0 u.1 u.2.1 u.2.2.1 u.2.2.2.1 u.2.2.2.2.1 u.2.2.2.2.2.1 u.2.2.2.2.2.2.1 u.2.2.2.2.2.2.2.1 u.2.2.2.2.2.2.2.2 v.1 v.2.1 v.2.2.1 v.2.2.2.1 v.2.2.2.2.1 v.2.2.2.2.2.1 v.2.2.2.2.2.2.1 v.2.2.2.2.2.2.2.1 v.2.2.2.2.2.2.2.2 := by
  refine pk_loop (σ := St1 × St1) (fun z i s => wL_law_18 (fun r => r = 1) L xs kc ks z (nI (3 * i)) s.1.1 s.1.2.1 s.1.2.2.1 s.1.2.2.2.1 s.1.2.2.2.2.1 s.1.2.2.2.2.2.1 s.1.2.2.2.2.2.2.1 s.1.2.2.2.2.2.2.2.1 s.1.2.2.2.2.2.2.2.2 s.2.1 s.2.2.1 s.2.2.2.1 s.2.2.2.2.1 s.2.2.2.2.2.1 s.2.2.2.2.2.2.1 s.2.2.2.2.2.2.2.1 s.2.2.2.2.2.2.2.2.1 s.2.2.2.2.2.2.2.2.2)
    (fun i s => ∃ A, fc_R A (1 + 16 * i) s.1 ∧ fc_R A (1 + 16 * i) s.2) (L / 3) 0 (u, v) (by omega) ⟨_, hu, hv⟩ ?_ ?_
  · intro z s _
    exact pk_lt L (3 * (L / 3) + 3) (fun _ => rfl) (fun z => absurd z (by omega)) (hy := nI_add (3 * (L / 3)) 3)
  · intro z i s hi hI hwk
    obtain ⟨u, v⟩ := s
    obtain ⟨A, hu, hv⟩ := hI
    try dsimp only at hu hv hwk
    have next : ∀ (A' : Nat → Int32 × Int32 × Int32) (u' v' : St1), fc_R A' (1 + 16 * i + 16) u' → fc_R A' (1 + 16 * i + 16) v' →
        wL_law_169 (fun r => r = 1) L xs (wL_law_18 (fun r => r = 1) L xs kc ks z) (nI (3 * i)) kc ks u'.1 u'.2.1 u'.2.2.1 u'.2.2.2.1 u'.2.2.2.2.1 u'.2.2.2.2.2.1 u'.2.2.2.2.2.2.1 u'.2.2.2.2.2.2.2.1 u'.2.2.2.2.2.2.2.2 v'.1 v'.2.1 v'.2.2.1 v'.2.2.2.1 v'.2.2.2.2.1 v'.2.2.2.2.2.1 v'.2.2.2.2.2.2.1 v'.2.2.2.2.2.2.2.1 v'.2.2.2.2.2.2.2.2 := by
      intro A' u' v' hu' hv'
      obtain ⟨x1, x2, x3, x4, x5, x6, x7, x8, x9⟩ := u'
      obtain ⟨y1, y2, y3, y4, y5, y6, y7, y8, y9⟩ := v'
      unfold wL_law_169
      refine fc_alike hu' hv' (br_f (by decide) (nm_r (e' := nI (3 * (i + 1))) (nI_add (3 * i) 3) ?_))
      exact hwk ((x1, x2, x3, x4, x5, x6, x7, x8, x9), (y1, y2, y3, y4, y5, y6, y7, y8, y9)) ⟨A', hu', hv'⟩
    obtain ⟨x1, x2, x3, x4, x5, x6, x7, x8, x9⟩ := u
    obtain ⟨y1, y2, y3, y4, y5, y6, y7, y8, y9⟩ := v
    show wL_law_18 (fun r => r = 1) L xs kc ks (z + 1) (nI (3 * i)) x1 x2 x3 x4 x5 x6 x7 x8 x9 y1 y2 y3 y4 y5 y6 y7 y8 y9
    unfold wL_law_18
    have i1 : nI (3 * i) + 1 = nI (3 * i + 1) := nI_1 _
    have i2 : nI (3 * i) + 2 = nI (3 * i + 2) := nI_add (3 * i) 2
    have i3 : nI (3 * i) + 3 = nI (3 * i + 3) := nI_add (3 * i) 3
    rw [i1, i2]
    refine pk_lt L (3 * i + 3) (fun z => absurd z (by omega)) (fun _ => ⟨vp_in_nI (by omega) (by omega), ?_⟩) (hy := i3)
    obtain ⟨kk, hkk, ekk⟩ := pk_andE (xs (nI (3 * i)).toNatClampNeg) (m := 15) 4 (by decide)
    obtain ⟨sc, hsc, esc⟩ := pk_andE (xs (nI (3 * i + 1)).toNatClampNeg) (m := 15) 4 (by decide)
    refine nm_r ekk ⟨vp_in_nI (by omega) (by omega), nm_r esc ⟨vp_in_nI (by omega) (by omega), nm_e ?_⟩⟩
    generalize xs (nI (3 * i + 2)).toNatClampNeg = vv
    refine pk_lt 10 kk (fun h10 => ?_) (fun h10 => ?_)
    · refine pk_eq kk 11 (fun _ => ?_) (fun h11 => ?_)
      · refine fc_powerR hu (by omega) (fun u' hu' => ?_)
        obtain ⟨w1, w2, w3, w4, w5, w6, w7, w8, w9⟩ := u'
        exact next A (w1, w2, w3, w4, w5, w6, w7, w8, w9) (y1, y2, y3, y4, y5, y6, y7, y8, y9) (fc_R_le hu' (by omega)) (fc_R_le hv (by omega))
      · refine pk_lt 13 kk (fun h13 => ?_) (fun h13 => ?_)
        · obtain ⟨a, ha, ea⟩ := fc_mod22 vv
          obtain ⟨b, hb, eb⟩ := fc_mod22 (vv >>> ((8 : Int32) &&& 31))
          refine ⟨by decide, nm_r ea ⟨by decide, nm_r eb ?_⟩⟩
          refine fc_turned hu hsc ha hb (fun u' hu' => ?_)
          obtain ⟨w1, w2, w3, w4, w5, w6, w7, w8, w9⟩ := u'
          refine br_f (by decide) (fc_write hv hsc (fun v' hv' => ?_))
          obtain ⟨t1, t2, t3, t4, t5, t6, t7, t8, t9⟩ := v'
          exact br_t rfl (next _ (w1, w2, w3, w4, w5, w6, w7, w8, w9) (t1, t2, t3, t4, t5, t6, t7, t8, t9) (fc_R_le hu' (by omega)) (fc_R_le hv' (by omega)))
        · obtain ⟨x, hx, ex⟩ := pk_andE vv (m := 31) 5 (by decide)
          rw [ex]
          refine fc_tidyR hu (by omega) (fun u' hu' => ?_)
          obtain ⟨w1, w2, w3, w4, w5, w6, w7, w8, w9⟩ := u'
          exact next A (w1, w2, w3, w4, w5, w6, w7, w8, w9) (y1, y2, y3, y4, y5, y6, y7, y8, y9) hu' (fc_R_le hv (by omega))
    · obtain ⟨r, A', hc⟩ := fc_call A (kk := kk) (s := sc) vv h10 hsc
      refine hc _ _ _ hu (fun u' hu' => ?_)
      obtain ⟨w1, w2, w3, w4, w5, w6, w7, w8, w9⟩ := u'
      refine hc _ _ _ hv (fun v' hv' => ?_)
      obtain ⟨t1, t2, t3, t4, t5, t6, t7, t8, t9⟩ := v'
      exact br_t rfl (next A' (w1, w2, w3, w4, w5, w6, w7, w8, w9) (t1, t2, t3, t4, t5, t6, t7, t8, t9) (fc_R_le hu' (by omega)) (fc_R_le hv' (by omega)))
theorem i_vc (xs : Nat → Int32) (L : Nat) (hL : L ≤ 260) : wpL_law (fun r => r = 1) L xs := by
  unfold wpL_law
  refine ⟨6, 176, by omega, by omega, ?_⟩
  refine fc_init (by omega) (by omega) (fun u hu => ?_)
  obtain ⟨x1, x2, x3, x4, x5, x6, x7, x8, x9⟩ := u
  refine ⟨by omega, by omega, 6, 176, by omega, by omega, ?_⟩
  refine fc_init (by omega) (by omega) (fun v hv => ?_)
  obtain ⟨y1, y2, y3, y4, y5, y6, y7, y8, y9⟩ := v
  exact fc_law hL hu hv
end
