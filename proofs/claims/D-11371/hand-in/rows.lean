section
/-- something negative, or a place below N -/
def ic_ok (N : Nat) (x : Int32) : Prop := x < 0 ∨ ∃ t : Nat, t < N ∧ x = nI t
/-- an argument as an index: a cluster, or 16 for one out of range -/
def ic_ix (C : Int32) (c : Nat) : Prop := (c < 16 ∧ C = nI c) ∨ (c = 16 ∧ (C < 0 ∨ nI 16 ≤ C))
theorem ic_ix_of (C : Int32) : ∃ c : Nat, ic_ix C c := by
  rcases pk_ix C (n := 16) (by omega) with h | h | ⟨j, hj, h⟩
  · exact ⟨16, Or.inr ⟨rfl, Or.inl h⟩⟩
  · exact ⟨16, Or.inr ⟨rfl, Or.inr h⟩⟩
  · exact ⟨j, Or.inl ⟨hj, h⟩⟩
theorem ic_nle {x : Int32} (h : x < 0) : ¬ 0 ≤ x := by
  rw [Int32.lt_iff_toInt_lt] at h
  rw [Int32.le_iff_toInt_le]
  omega
theorem ic_m1 : (-1 : Int32) < 0 := by decide
theorem ic_m2 : (-2 : Int32) < 0 := by decide
theorem ic_m12 : ¬ (-2 : Int32) = -1 := by decide
theorem ic_nm1 {n : Nat} (h : n < 2 ^ 31) : ¬ nI n = -1 := by
  intro e
  have z : nI n < 0 := by
    rw [e]
    exact ic_m1
  exact nI_pos h z
theorem ic_one0 : ¬ (1 : Int32) = 0 := by decide
/-- what first table f says for cluster k -/
def ic_E (a1 a2 : Nat → Int32) (f k : Nat) : Int32 := if a1 (f * 4 + k / 4) < 0 then -1 else a2 ((a1 (f * 4 + k / 4)).toNatClampNeg * 4 + k % 4)
/-- the word of an entry -/
def ic_V (a4 : Nat → Int32) (e : Int32) : Int32 := if e < 0 then 0 else a4 e.toNatClampNeg
/-- entry e says o -/
def ic_P (a4 : Nat → Int32) (e : Int32) (o : Option Int32) : Prop := (o = none ∧ e = -1) ∨ (∃ x : Int32, o = some x ∧ ¬ e = -1 ∧ ic_V a4 e = x)
/-- the arrays match the picture s: image, cluster -/
def ic_R (a1 a2 a4 : Nat → Int32) (s : Nat → Nat → Option Int32) : Prop :=
  (∀ i, i < 8 → ic_ok 36 (a1 i)) ∧ (∀ j, j < 144 → ic_ok 132 (a2 j)) ∧ (∀ f k, f < 2 → k < 16 → ic_P a4 (ic_E a1 a2 f k) (s f k))
/-- and the tables and places in use are marked so; behind b all are free -/
def ic_Q (a1 a2 a3 a4 a5 : Nat → Int32) (b : Nat) (s : Nat → Nat → Option Int32) : Prop :=
  ic_R a1 a2 a4 s ∧ (∀ i t, i < 8 → t < 36 → a1 i = nI t → ¬ a3 t = 0) ∧ (∀ i t j p, i < 8 → t < 36 → j < 4 → p < 132 → a1 i = nI t → a2 (t * 4 + j) = nI p → ¬ a5 p = 0)
    ∧ (∀ k, b ≤ k → k < 36 → a3 k = 0) ∧ (∀ k, b ≤ k → k < 132 → a5 k = 0)
/-- the word of cluster k -/
def ic_w (s : Nat → Nat → Option Int32) (k : Nat) : Int32 := (s 1 k).getD ((s 0 k).getD 0)
def ic_one (c : Nat) (w : Int32) (k : Nat) : Option Int32 := if k = c then some w else none
/-- image f says w for cluster c and nothing else -/
def ic_set (s : Nat → Nat → Option Int32) (f c : Nat) (w : Int32) (g k : Nat) : Option Int32 := if g = f then ic_one c w k else s g k
def ic_cnt (p : Nat → Bool) : Nat → Nat
  | 0 => 0
  | n + 1 => ic_cnt p n + (if p n = true then 1 else 0)
theorem ic_cnt_t {p : Nat → Bool} {n : Nat} (h : p n = true) : nI (ic_cnt p n) + 1 = nI (ic_cnt p (n + 1)) := by
  rw [nI_1]
  show _ = nI (ic_cnt p n + (if p n = true then 1 else 0))
  rw [if_pos h]
theorem ic_cnt_f {p : Nat → Bool} {n : Nat} (h : ¬ p n = true) : ic_cnt p (n + 1) = ic_cnt p n := by
  show ic_cnt p n + (if p n = true then 1 else 0) = _
  rw [if_neg h]
  rfl
theorem ic_cnt_c {p q : Nat → Bool} : ∀ n : Nat, (∀ k, k < n → p k = q k) → ic_cnt p n = ic_cnt q n := by
  intro n
  induction n with
  | zero => intro _; rfl
  | succ n ih =>
    intro h
    show ic_cnt p n + (if p n = true then 1 else 0) = ic_cnt q n + (if q n = true then 1 else 0)
    rw [ih (fun k hk => h k (by omega)), h n (by omega)]
theorem ic_cnt2 : ∀ (c d : Fin 17) (x y : Bool), ic_cnt (fun k => (k == c.val && x) || (k == d.val && y)) 16
    = (if decide (c.val < 16) && x then 1 else 0) + (if decide (d.val < 16) && y && !(x && c.val == d.val) then 1 else 0) := by decide +kernel
theorem ic_E_ok {a1 a2 a4 : Nat → Int32} {s : Nat → Nat → Option Int32} {f k : Nat} (h : ic_R a1 a2 a4 s) (hf : f < 2) (hk : k < 16) : ic_ok 132 (ic_E a1 a2 f k) := by
  unfold ic_E
  rcases h.1 (f * 4 + k / 4) (by omega) with g | ⟨t, ht, g⟩
  · rw [if_pos g]
    exact Or.inl ic_m1
  · rw [g, if_neg (nI_pos (by omega)), nI_clamp (by omega)]
    exact h.2.1 _ (by omega)
theorem ic_E_neg {a1 a2 : Nat → Int32} {f k : Nat} (h : a1 (f * 4 + k / 4) < 0) : ic_E a1 a2 f k = -1 := by
  unfold ic_E
  rw [if_pos h]
theorem ic_E_pos {a1 a2 : Nat → Int32} {f k t : Nat} (h : a1 (f * 4 + k / 4) = nI t) (ht : t < 36) : ic_E a1 a2 f k = a2 (t * 4 + k % 4) := by
  unfold ic_E
  rw [h, if_neg (nI_pos (by omega)), nI_clamp (by omega)]
theorem ic_V_pos {a4 : Nat → Int32} {p : Nat} (h : p < 132) : ic_V a4 (nI p) = a4 p := by
  unfold ic_V
  rw [if_neg (nI_pos (by omega)), nI_clamp (by omega)]
theorem ic_V_neg {a4 : Nat → Int32} {e : Int32} (h : e < 0) : ic_V a4 e = 0 := by
  unfold ic_V
  rw [if_pos h]
theorem ic_P_none {a4 : Nat → Int32} {e : Int32} {o : Option Int32} (h : ic_P a4 e o) (he : e = -1) : o = none := by
  rcases h with h | ⟨x, h1, h2, h3⟩
  · exact h.1
  · exact absurd he h2
theorem ic_P_some {a4 : Nat → Int32} {e : Int32} {o : Option Int32} (h : ic_P a4 e o) (he : ¬ e = -1) : o = some (ic_V a4 e) := by
  rcases h with h | ⟨x, h1, h2, h3⟩
  · exact absurd h.2 he
  · rw [h3]
    exact h1
theorem ic_P_getD {a4 : Nat → Int32} {e : Int32} {o : Option Int32} (h : ic_P a4 e o) : ic_V a4 e = o.getD 0 := by
  rcases h with ⟨h1, h2⟩ | ⟨x, h1, h2, h3⟩
  · rw [h1, h2]
    exact ic_V_neg ic_m1
  · rw [h1, h3]
    rfl
/-- what freshPlace or ZERO gives -/
def ic_new (e w : Int32) (a4 a5 a4' a5' : Nat → Int32) (b : Nat) : Prop :=
  (w = 0 ∧ e = -2 ∧ a4' = a4 ∧ a5' = a5) ∨ (∃ p : Nat, p < 132 ∧ p ≤ b ∧ a5 p = 0 ∧ e = nI p ∧ a4' = upd a4 p w ∧ a5' = upd a5 p 1)
theorem ic_inj {a b : Nat} (ha : a < 2 ^ 31) (hb : b < 2 ^ 31) (h : nI a = nI b) : a = b := (nI_eq ha hb).mp h
theorem ic_new_P {e w : Int32} {a4 a5 a4' a5' : Nat → Int32} {b : Nat} (h : ic_new e w a4 a5 a4' a5' b) : ic_P a4' e (some w) := by
  rcases h with ⟨hw, he, h4, h5⟩ | ⟨p, hp, hb, h0, he, h4, h5⟩
  · refine Or.inr ⟨w, rfl, ?_, ?_⟩
    · rw [he]
      exact ic_m12
    · rw [he, hw]
      exact ic_V_neg ic_m2
  · refine Or.inr ⟨w, rfl, ?_, ?_⟩
    · rw [he]
      exact ic_nm1 (by omega)
    · rw [he, ic_V_pos hp, h4, pk_us]
theorem ic_new_ok {e w : Int32} {a4 a5 a4' a5' : Nat → Int32} {b : Nat} (h : ic_new e w a4 a5 a4' a5' b) : ic_ok 132 e := by
  rcases h with ⟨hw, he, h4, h5⟩ | ⟨p, hp, hb, h0, he, h4, h5⟩
  · rw [he]
    exact Or.inl ic_m2
  · exact Or.inr ⟨p, hp, he⟩
theorem ic_new_4 {e w : Int32} {a4 a5 a4' a5' : Nat → Int32} {b q : Nat} (h : ic_new e w a4 a5 a4' a5' b) (hq : ¬ a5 q = 0) : a4' q = a4 q := by
  rcases h with ⟨hw, he, h4, h5⟩ | ⟨p, hp, hb, h0, he, h4, h5⟩
  · rw [h4]
  · rw [h4, pk_un]
    intro z
    rw [z] at hq
    exact hq h0
theorem ic_new_5 {e w : Int32} {a4 a5 a4' a5' : Nat → Int32} {b q : Nat} (h : ic_new e w a4 a5 a4' a5' b) (hq : ¬ a5 q = 0) : ¬ a5' q = 0 := by
  rcases h with ⟨hw, he, h4, h5⟩ | ⟨p, hp, hb, h0, he, h4, h5⟩
  · rw [h5]
    exact hq
  · by_cases z : q = p
    · rw [h5, z, pk_us]
      exact ic_one0
    · rw [h5, pk_un z]
      exact hq
theorem ic_new_e {e w : Int32} {a4 a5 a4' a5' : Nat → Int32} {b q : Nat} (h : ic_new e w a4 a5 a4' a5' b) (hq : q < 132) (he' : e = nI q) : ¬ a5' q = 0 := by
  rcases h with ⟨hw, he, h4, h5⟩ | ⟨p, hp, hb, h0, he, h4, h5⟩
  · rw [he] at he'
    have z : nI q < 0 := by
      rw [← he']
      exact ic_m2
    exact absurd z (nI_pos (by omega))
  · rw [he] at he'
    have z := ic_inj (by omega) (by omega) he'
    rw [h5, ← z, pk_us]
    exact ic_one0
theorem ic_new_z {e w : Int32} {a4 a5 a4' a5' : Nat → Int32} {b q : Nat} (h : ic_new e w a4 a5 a4' a5' b) (hz : ∀ k, b ≤ k → k < 132 → a5 k = 0) (hq : b + 1 ≤ q) (hq2 : q < 132) : a5' q = 0 := by
  rcases h with ⟨hw, he, h4, h5⟩ | ⟨p, hp, hb, h0, he, h4, h5⟩
  · rw [h5]
    exact hz q (by omega) hq2
  · rw [h5, pk_un (by omega)]
    exact hz q (by omega) hq2
end
section
/-- the picture after a write into an empty row of image f -/
theorem ic_put {a1 a2 a3 a4 a5 a2' a4' a5' : Nat → Int32} {b f c t : Nat} {e w : Int32} {s : Nat → Nat → Option Int32} (hq : ic_Q a1 a2 a3 a4 a5 b s) (hf : f < 2) (hc : c < 16)
    (hrow : ∀ k, k < 4 → a1 (f * 4 + k) = -1) (ht : t < 36) (htb : t ≤ b) (ht0 : a3 t = 0)
    (ho : ∀ j, ¬ (t * 4 ≤ j ∧ j < t * 4 + 4) → a2' j = a2 j) (hi : ∀ j, j < 4 → ¬ j = c % 4 → a2' (t * 4 + j) = -1) (he : a2' (t * 4 + c % 4) = e)
    (hn : ic_new e w a4 a5 a4' a5' b) :
    ic_Q (upd a1 (f * 4 + c / 4) (nI t)) a2' (upd a3 t 1) a4' a5' (b + 1) (ic_set s f c w) := by
  obtain ⟨⟨r1, r2, r3⟩, q1, q2, q3, q4⟩ := hq
  have hne : ∀ i t', i < 8 → t' < 36 → a1 i = nI t' → ¬ t' = t := by
    intro i t' hi8 ht' h z
    rw [z] at h
    exact q1 i t hi8 ht h ht0
  have hold : ∀ t' j, ¬ t' = t → j < 4 → a2' (t' * 4 + j) = a2 (t' * 4 + j) := by
    intro t' j hz hj
    exact ho _ (by omega)
  refine ⟨⟨?_, ?_, ?_⟩, ?_, ?_, ?_, ?_⟩
  · intro i hi8
    by_cases z : i = f * 4 + c / 4
    · rw [z, pk_us]
      exact Or.inr ⟨t, ht, rfl⟩
    · rw [pk_un z]
      exact r1 i hi8
  · intro j hj
    by_cases z : t * 4 ≤ j ∧ j < t * 4 + 4
    · have hj' : j = t * 4 + (j - t * 4) := by omega
      by_cases y : j - t * 4 = c % 4
      · rw [hj', y, he]
        exact ic_new_ok hn
      · rw [hj', hi _ (by omega) y]
        exact Or.inl ic_m1
    · rw [ho j z]
      exact r2 j hj
  · intro g k hg hk
    by_cases z : g = f
    · have hs : ic_set s f c w g k = ic_one c w k := by
        unfold ic_set
        rw [if_pos z]
      rw [hs, z]
      by_cases y : k / 4 = c / 4
      · have h1 : upd a1 (f * 4 + c / 4) (nI t) (f * 4 + k / 4) = nI t := by rw [y, pk_us]
        rw [ic_E_pos h1 ht]
        unfold ic_one
        by_cases x : k = c
        · rw [if_pos x, x, he]
          exact ic_new_P hn
        · rw [if_neg x, hi _ (by omega) (by omega)]
          exact Or.inl ⟨rfl, rfl⟩
      · have h1 : upd a1 (f * 4 + c / 4) (nI t) (f * 4 + k / 4) = -1 := by
          rw [pk_un (by omega)]
          exact hrow _ (by omega)
        rw [ic_E_neg (by rw [h1]; exact ic_m1)]
        unfold ic_one
        rw [if_neg (fun x : k = c => y (by rw [x]))]
        exact Or.inl ⟨rfl, rfl⟩
    · have hs : ic_set s f c w g k = s g k := by
        unfold ic_set
        rw [if_neg z]
      have h1 : upd a1 (f * 4 + c / 4) (nI t) (g * 4 + k / 4) = a1 (g * 4 + k / 4) := pk_un (by omega)
      have h3 := r3 g k hg hk
      rw [hs]
      rcases r1 (g * 4 + k / 4) (by omega) with h | ⟨t', ht', h⟩
      · rw [ic_E_neg h] at h3
        rw [ic_E_neg (by rw [h1]; exact h)]
        rcases h3 with h3 | ⟨x, x1, x2, x3⟩
        · exact Or.inl h3
        · exact absurd rfl x2
      · rw [ic_E_pos h ht'] at h3
        have h1' : upd a1 (f * 4 + c / 4) (nI t) (g * 4 + k / 4) = nI t' := by rw [h1, h]
        rw [ic_E_pos h1' ht', hold t' (k % 4) (hne _ t' (by omega) ht' h) (by omega)]
        rcases h3 with h3 | ⟨x, x1, x2, x3⟩
        · exact Or.inl h3
        · refine Or.inr ⟨x, x1, x2, ?_⟩
          rcases r2 (t' * 4 + k % 4) (by omega) with v | ⟨p, hp, v⟩
          · rw [ic_V_neg v] at x3 ⊢
            exact x3
          · rw [v, ic_V_pos hp] at x3 ⊢
            rw [ic_new_4 hn (q2 _ t' (k % 4) p (by omega) ht' (by omega) hp h v)]
            exact x3
  · intro i t' hi8 ht' h
    by_cases z : i = f * 4 + c / 4
    · rw [z, pk_us] at h
      have y := ic_inj (by omega) (by omega) h
      rw [← y, pk_us]
      exact ic_one0
    · rw [pk_un z] at h
      rw [pk_un (hne i t' hi8 ht' h)]
      exact q1 i t' hi8 ht' h
  · intro i t' j p hi8 ht' hj hp h h2
    by_cases z : i = f * 4 + c / 4
    · rw [z, pk_us] at h
      have y := ic_inj (by omega) (by omega) h
      rw [← y] at h2
      by_cases x : j = c % 4
      · rw [x, he] at h2
        exact ic_new_e hn hp h2
      · rw [hi j hj x] at h2
        exact absurd h2.symm (ic_nm1 (by omega))
    · rw [pk_un z] at h
      rw [hold t' j (hne i t' hi8 ht' h) hj] at h2
      exact ic_new_5 hn (q2 i t' j p hi8 ht' hj hp h h2)
  · intro k hk hk2
    rw [pk_un (by omega)]
    exact q3 k (by omega) hk2
  · intro k hk hk2
    exact ic_new_z hn q4 hk hk2
/-- a write out of range changes nothing -/
theorem ic_put16 {a1 a2 a3 a4 a5 : Nat → Int32} {b f : Nat} {w : Int32} {s : Nat → Nat → Option Int32} (hq : ic_Q a1 a2 a3 a4 a5 b s)
    (hrow : ∀ k, k < 4 → a1 (f * 4 + k) = -1) : ic_Q a1 a2 a3 a4 a5 (b + 1) (ic_set s f 16 w) := by
  obtain ⟨⟨r1, r2, r3⟩, q1, q2, q3, q4⟩ := hq
  refine ⟨⟨r1, r2, ?_⟩, q1, q2, fun k hk hk2 => q3 k (by omega) hk2, fun k hk hk2 => q4 k (by omega) hk2⟩
  intro g k hg hk
  unfold ic_set
  by_cases z : g = f
  · rw [if_pos z, z, ic_E_neg (by rw [hrow _ (by omega)]; exact ic_m1)]
    unfold ic_one
    rw [if_neg (by omega)]
    exact Or.inl ⟨rfl, rfl⟩
  · rw [if_neg z]
    exact r3 g k hg hk
end
section
theorem ic_at (f c : Nat) (hc : c < 16) : nI f * 4 + nI c >>> ((2 : Int32) &&& 31) = nI (f * 4 + c / 4) := by
  have e0 : nI c >>> ((2 : Int32) &&& 31) = nI (c / 4) := pk_shrN (by omega) _ 2 (by decide)
  rw [e0, show (4 : Int32) = nI 4 from rfl, pk_mul, nI_add]
theorem ic_at2 (t c : Nat) (hc : c < 16) : nI t * 4 + (nI c &&& 3) = nI (t * 4 + c % 4) := by
  have e0 : nI c &&& 3 = nI (c % 4) := pk_andN (by omega) 2 (by decide)
  rw [e0, show (4 : Int32) = nI 4 from rfl, pk_mul, nI_add]
theorem ic_at3 (t j : Nat) : nI t * 4 + nI j = nI (t * 4 + j) := by
  rw [show (4 : Int32) = nI 4 from rfl, pk_mul, nI_add]
section
variable {im sh : Int32} {a1 a2 a3 a4 a5 a6 a7 a8 : Nat → Int32} {s : Nat → Nat → Option Int32}
theorem ic_entry {post : Int32 → Prop} {f c : Nat} {F C : Int32} (hF : F = nI f) (hC : C = nI c) (hf : f < 2) (hc : c < 16) (hr : ic_R a1 a2 a4 s) (hp : post (ic_E a1 a2 f c)) :
    wpX_entry post (im, sh, a1, a2, a3, a4, a5, a6, a7, a8) F C := by
  subst hF hC
  unfold wpX_entry
  dsimp only
  rw [ic_at f c hc, nI_clamp (by omega)]
  refine ⟨vp_in_nI (by omega) (by omega), nm_e ?_⟩
  rcases hr.1 (f * 4 + c / 4) (by omega) with h | ⟨t, ht, h⟩
  · rw [ic_E_neg h] at hp
    exact br_f (ic_nle h) hp
  · rw [ic_E_pos h ht] at hp
    rw [h, ic_at2 t c hc, nI_clamp (by omega)]
    exact br_t (nI_pos' (by omega)) ⟨vp_in_nI (by omega) (by omega), hp⟩
theorem ic_wordOf {post : Int32 → Prop} {e : Int32} (h : ic_ok 132 e) (hp : post (ic_V a4 e)) : wpX_wordOf post (im, sh, a1, a2, a3, a4, a5, a6, a7, a8) e := by
  unfold wpX_wordOf
  dsimp only
  rcases h with h | ⟨p, hpp, rfl⟩
  · rw [ic_V_neg h] at hp
    exact br_f (ic_nle h) hp
  · rw [ic_V_pos hpp] at hp
    rw [nI_clamp (by omega)]
    exact br_t (nI_pos' (by omega)) ⟨vp_in_nI hpp (by omega), hp⟩
/-- which image is the top: one image and nothing said by the second, or two -/
def ic_top (im : Int32) (s : Nat → Nat → Option Int32) : Prop := (im = 1 ∧ ∀ k, k < 16 → s 1 k = none) ∨ im = 2
theorem ic_word {post : Int32 → Prop} {c : Nat} {C : Int32} (hr : ic_R a1 a2 a4 s) (hi : ic_top im s) (hc : c < 16) (hC : C = nI c) (hp : post (ic_w s c)) :
    wpX_word post (im, sh, a1, a2, a3, a4, a5, a6, a7, a8) C := by
  have w39 : ∀ f : Nat, f < 2 → post ((s f c).getD 0) → wX_lookUp_39 post (ic_E a1 a2 f c) im sh a1 a2 a3 a4 a5 a6 a7 a8 := by
    intro f hf h
    rw [← ic_P_getD (hr.2.2 f c hf hc)] at h
    exact ic_wordOf (ic_E_ok hr hf hc) h
  unfold ic_w at hp
  unfold wpX_word
  dsimp only
  unfold wpX_top
  dsimp only
  unfold wpX_lookUp
  dsimp only
  rcases hi with ⟨h1, hn⟩ | h2
  · subst h1
    rw [hn c hc] at hp
    refine ic_entry (f := 0) (c := c) (s := s) rfl hC (by omega) hc hr ?_
    exact nm_r (show (1 : Int32) - 2 = -1 from by decide) ⟨1, br_t ic_m1 (w39 0 (by omega) hp)⟩
  · subst h2
    refine ic_entry (f := 1) (c := c) (s := s) rfl hC (by omega) hc hr ?_
    refine nm_r (show (2 : Int32) - 2 = 0 from by decide) ⟨2, br_f (show ¬ (0 : Int32) < 0 from by decide) ?_⟩
    refine br_c (fun he => ?_) (fun he => ?_)
    · rw [ic_P_none (hr.2.2 1 c (by omega) hc) he] at hp
      refine ic_entry (f := 0) (c := c) (s := s) rfl hC (by omega) hc hr ?_
      exact nm_r (show (0 : Int32) + (-1) = -1 from by decide) (br_t ic_m1 (w39 0 (by omega) hp))
    · refine w39 1 (by omega) ?_
      rw [ic_P_some (hr.2.2 1 c (by omega) hc) he] at hp ⊢
      exact hp
theorem ic_bad_in {post : Int32 → Prop} {c : Nat} {C : Int32} (hc : c < 16) (hC : C = nI c) (hp : post 0) : wpX_bad post (im, sh, a1, a2, a3, a4, a5, a6, a7, a8) C :=
  pk_lt c 0 (fun z => absurd z (by omega)) (fun _ => pk_lt c 16 (fun _ => hp) (fun z => absurd z (by omega)) hC rfl) hC rfl
theorem ic_bad_out {post : Int32 → Prop} {C : Int32} (h : C < 0 ∨ nI 16 ≤ C) (hp : post 1) : wpX_bad post (im, sh, a1, a2, a3, a4, a5, a6, a7, a8) C := by
  refine br_c (fun _ => hp) (fun h0 => ?_)
  refine br_f ?_ hp
  have h1 : nI 16 ≤ C := h.resolve_left h0
  intro z
  rw [Int32.lt_iff_toInt_lt] at z
  rw [Int32.le_iff_toInt_le] at h1
  have e : (nI 16).toInt = (16 : Int32).toInt := by decide
  omega
theorem ic_saved {post : Int32 → Prop} {c : Nat} {C : Int32} (hx : ic_ix C c) (hp : post (if c = 16 then 0 else a7 c)) : wpX_saved post (im, sh, a1, a2, a3, a4, a5, a6, a7, a8) C := by
  unfold wpX_saved
  dsimp only
  rcases hx with ⟨hc, hC⟩ | ⟨hc, hC⟩
  · rw [if_neg (by omega)] at hp
    refine ic_bad_in hc hC (br_t rfl ⟨pk_in c 16 hc hC, ?_⟩)
    rw [pk_cl c hC]
    exact hp
  · rw [if_pos hc] at hp
    exact ic_bad_out hC (br_f ic_one0 hp)
theorem ic_read {post : Int32 → Prop} {c : Nat} {C : Int32} (hr : ic_R a1 a2 a4 s) (hi : ic_top im s) (hx : ic_ix C c) (hp : post (if c = 16 then 0 else ic_w s c)) :
    wpX_read post (im, sh, a1, a2, a3, a4, a5, a6, a7, a8) C := by
  unfold wpX_read
  dsimp only
  rcases hx with ⟨hc, hC⟩ | ⟨hc, hC⟩
  · rw [if_neg (by omega)] at hp
    exact ic_bad_in hc hC (br_t rfl (ic_word hr hi hc hC hp))
  · rw [if_pos hc] at hp
    exact ic_bad_out hC (br_f ic_one0 hp)
theorem ic_fill {f g a : Nat → Int32} {i : Nat} {x : Int32} (h : ∀ j, j < i → a j = f j) (hg : ∀ j, i ≤ j → a j = g j) (hx : x = f i) :
    (∀ j, j < i + 1 → upd a i x j = f j) ∧ (∀ j, i + 1 ≤ j → upd a i x j = g j) := by
  refine ⟨fun j hj => ?_, fun j hj => ?_⟩
  · by_cases e : j = i
    · rw [e, pk_us, hx]
    · rw [pk_un e]
      exact h j (by omega)
  · rw [pk_un (by omega)]
    exact hg j (by omega)
theorem ic_skip {f g a : Nat → Int32} {i : Nat} (h : ∀ j, j < i → a j = f j) (hg : ∀ j, i ≤ j → a j = g j) (hx : g i = f i) :
    (∀ j, j < i + 1 → a j = f j) ∧ (∀ j, i + 1 ≤ j → a j = g j) := by
  refine ⟨fun j hj => ?_, fun j hj => hg j (by omega)⟩
  by_cases e : j = i
  · rw [e, hg i (by omega), hx]
  · exact h j (by omega)
/-- a is f below i and g from there on -/
def ic_two (f g a : Nat → Int32) (i : Nat) : Prop := (∀ j, j < i → a j = f j) ∧ (∀ j, i ≤ j → a j = g j)
theorem ic_two0 (f g : Nat → Int32) : ic_two f g g 0 := ⟨fun j hj => absurd hj (by omega), fun j _ => rfl⟩
theorem ic_backup {post : Int32 → St2 → Prop} (hr : ic_R a1 a2 a4 s) (hi : ic_top im s)
    (H : ∀ a6' a7' : Nat → Int32, (∀ k, k < 16 → a6' k = 0) → (∀ k, k < 16 → a7' k = if a6 k = 0 then a7 k else ic_w s k) →
      post (nI (ic_cnt (fun k => !decide (a6 k = 0)) 16)) (im, sh, a1, a2, a3, a4, a5, a6', a7', a8)) :
    wpX_backup post (im, sh, a1, a2, a3, a4, a5, a6, a7, a8) := by
  unfold wpX_backup
  dsimp only
  refine pk_loop (σ := Int32 × (Nat → Int32) × (Nat → Int32)) (fun n i z => wX_backup_4 post im sh n z.1 (nI i) a1 a2 a3 a4 a5 z.2.1 z.2.2 a8)
    (fun i z => z.1 = nI (ic_cnt (fun k => !decide (a6 k = 0)) i) ∧ ic_two (fun _ => 0) a6 z.2.1 i ∧ ic_two (fun k => if a6 k = 0 then a7 k else ic_w s k) a7 z.2.2 i) 16 0 (0, a6, a7) (by omega)
    ⟨rfl, ic_two0 _ _, ic_two0 _ _⟩ ?_ ?_
  · rintro n ⟨x, b6, b7⟩ ⟨h1, h2, h3⟩
    dsimp only at h1 h2 h3
    refine pk_le 16 16 (fun _ => ?_) (fun z => absurd z (by omega))
    rw [h1]
    exact H b6 b7 h2.1 h3.1
  · rintro n i ⟨x, b6, b7⟩ hi16 ⟨h1, h2, h3⟩ hw
    dsimp only at h1 h2 h3
    refine pk_le 16 i (fun z => absurd z (by omega)) (fun _ => ⟨pk_in i 16 hi16, ?_⟩)
    rw [nI_clamp (by omega)]
    have h6 : b6 i = a6 i := h2.2 i (by omega)
    refine br_c (fun e => nm_r (nI_1 i) ?_) (fun e => ?_)
    · have e' : a6 i = 0 := by rw [← h6]; exact e
      refine hw (x, b6, b7) ⟨?_, ic_skip h2.1 h2.2 e', ic_skip h3.1 h3.2 ?_⟩
      · show x = _
        rw [h1, ic_cnt_f]
        simp [e']
      · rw [if_pos e']
    · have e' : ¬ a6 i = 0 := by rw [← h6]; exact e
      refine ic_word hr hi hi16 rfl ⟨pk_in i 16 hi16, nm_e ⟨pk_in i 16 hi16, nm_e (nm_e (nm_r (nI_1 i) ?_))⟩⟩
      refine hw (x + 1, upd b6 i 0, upd b7 i (ic_w s i)) ⟨?_, ic_fill h2.1 h2.2 rfl, ic_fill h3.1 h3.2 ?_⟩
      · show x + 1 = _
        rw [h1, ic_cnt_t]
        simp [e']
      · rw [if_neg e']
theorem ic_keepWords {post : St2 → Prop} (hr : ic_R a1 a2 a4 s) (hi : ic_top im s)
    (H : ∀ a8' : Nat → Int32, (∀ k, k < 16 → a8' k = ic_w s k) → post (im, sh, a1, a2, a3, a4, a5, a6, a7, a8')) :
    wpX_keepWords post (im, sh, a1, a2, a3, a4, a5, a6, a7, a8) := by
  unfold wpX_keepWords
  dsimp only
  refine pk_loop (σ := Nat → Int32) (fun n i z => wX_keepWords_2 post im sh n (nI i) a1 a2 a3 a4 a5 a6 a7 z)
    (fun i z => ic_two (ic_w s) a8 z i) 16 0 a8 (by omega) (ic_two0 _ _) ?_ ?_
  · intro n z h
    exact pk_le 16 16 (fun _ => H z h.1) (fun z => absurd z (by omega))
  · intro n i z hi16 h hw
    refine pk_le 16 i (fun z => absurd z (by omega)) (fun _ => ?_)
    refine ic_word hr hi hi16 rfl ⟨pk_in i 16 hi16, nm_e (nm_r (nI_1 i) ?_)⟩
    rw [nI_clamp (by omega)]
    exact hw _ (ic_fill h.1 h.2 rfl)
theorem ic_markChanges {post : Int32 → St2 → Prop} (hr : ic_R a1 a2 a4 s) (hi : ic_top im s)
    (H : ∀ (r : Int32) (a6' : Nat → Int32), (∀ k, k < 16 → a6' k = if ic_w s k = a8 k then a6 k else 1) → post r (im, sh, a1, a2, a3, a4, a5, a6', a7, a8)) :
    wpX_markChanges post (im, sh, a1, a2, a3, a4, a5, a6, a7, a8) := by
  unfold wpX_markChanges
  dsimp only
  refine pk_loop (σ := Int32 × (Nat → Int32)) (fun n i z => wX_markChanges_4 post im sh n z.1 (nI i) a1 a2 a3 a4 a5 z.2 a7 a8)
    (fun i z => ic_two (fun k => if ic_w s k = a8 k then a6 k else 1) a6 z.2 i) 16 0 (0, a6) (by omega) (ic_two0 _ _) ?_ ?_
  · rintro n ⟨x, b6⟩ h
    exact pk_le 16 16 (fun _ => H x b6 h.1) (fun z => absurd z (by omega))
  · rintro n i ⟨x, b6⟩ hi16 h hw
    dsimp only at h
    refine pk_le 16 i (fun z => absurd z (by omega)) (fun _ => ?_)
    refine ic_word hr hi hi16 rfl ⟨pk_in i 16 hi16, ?_⟩
    rw [nI_clamp (by omega)]
    refine br_c (fun e => nm_r (nI_1 i) ?_) (fun e => ⟨pk_in i 16 hi16, nm_e (nm_e (nm_r (nI_1 i) ?_))⟩)
    · refine hw (x, b6) (ic_skip h.1 h.2 ?_)
      rw [if_pos e]
    · refine hw (x + 1, upd b6 i 1) (ic_fill h.1 h.2 ?_)
      rw [if_neg e]
theorem ic_behind {post : Int32 → Prop} (hr : ic_R a1 a2 a4 s) (hi : ic_top im s)
    (hp : post (nI (ic_cnt (fun k => !decide ((if a6 k = 0 then a7 k else ic_w s k) = a7 k)) 16))) : wpX_behind post (im, sh, a1, a2, a3, a4, a5, a6, a7, a8) := by
  unfold wpX_behind
  dsimp only
  refine pk_loop (σ := Int32) (fun n i z => wX_behind_4 post im sh a1 a2 a3 a4 a5 a6 a7 a8 n z (nI i))
    (fun i z => z = nI (ic_cnt (fun k => !decide ((if a6 k = 0 then a7 k else ic_w s k) = a7 k)) i)) 16 0 0 (by omega) rfl ?_ ?_
  · intro n z h
    refine pk_le 16 16 (fun _ => ?_) (fun z => absurd z (by omega))
    rw [h]
    exact hp
  · intro n i z hi16 h hw
    have w33 : ∀ y : Int32, y = (if a6 i = 0 then a7 i else ic_w s i) → wX_behind_33 post (wX_behind_4 post im sh a1 a2 a3 a4 a5 a6 a7 a8 n) z (nI i) y im sh a1 a2 a3 a4 a5 a6 a7 a8 := by
      intro y hy
      refine ⟨pk_in i 16 hi16, ?_⟩
      rw [nI_clamp (by omega)]
      refine br_c (fun e => nm_r (nI_1 i) ?_) (fun e => nm_e (nm_r (nI_1 i) ?_))
      · refine hw z ?_
        rw [h, ic_cnt_f]
        rw [hy] at e
        simp [e]
      · refine hw (z + 1) ?_
        rw [h, ic_cnt_t]
        rw [hy] at e
        simp [e]
    refine pk_le 16 i (fun z => absurd z (by omega)) (fun _ => ⟨pk_in i 16 hi16, ?_⟩)
    rw [nI_clamp (by omega)]
    refine br_c (fun e => ⟨pk_in i 16 hi16, w33 _ (by rw [if_pos e])⟩) (fun e => ?_)
    exact ic_word hr hi hi16 rfl (w33 _ (by rw [if_neg e]))
theorem ic_marked {post : Int32 → Prop} (hp : post (nI (ic_cnt (fun k => !decide (a6 k = 0)) 16))) : wpX_marked post (im, sh, a1, a2, a3, a4, a5, a6, a7, a8) := by
  unfold wpX_marked
  dsimp only
  refine pk_loop (σ := Int32) (fun n i z => wX_marked_4 post im sh a1 a2 a3 a4 a5 a6 a7 a8 n z (nI i))
    (fun i z => z = nI (ic_cnt (fun k => !decide (a6 k = 0)) i)) 16 0 0 (by omega) rfl ?_ ?_
  · intro n z h
    refine pk_le 16 16 (fun _ => ?_) (fun z => absurd z (by omega))
    rw [h]
    exact hp
  · intro n i z hi16 h hw
    refine pk_le 16 i (fun z => absurd z (by omega)) (fun _ => ⟨pk_in i 16 hi16, ?_⟩)
    rw [nI_clamp (by omega)]
    refine br_c (fun e => nm_r (nI_1 i) ?_) (fun e => nm_e (nm_r (nI_1 i) ?_))
    · refine hw z ?_
      rw [h, ic_cnt_f]
      simp [e]
    · refine hw (z + 1) ?_
      rw [h, ic_cnt_t]
      simp [e]
end
end
section
section
variable {im sh : Int32} {a1 a2 a3 a4 a5 a6 a7 a8 : Nat → Int32} {s : Nat → Nat → Option Int32}
theorem ic_init {post : St2 → Prop} {mc ms : Nat} (hc : 8 ≤ mc) (hs : 524 ≤ ms)
    (H : ∀ a : Nat → Int32, (∀ i, i < 32 → a i = -1) → post (1, sh, a, (fun _ => 0), (fun _ => 0), (fun _ => 0), (fun _ => 0), (fun _ => 0), (fun _ => 0), (fun _ => 0))) :
    wpX_init post mc ms (im, sh) := by
  unfold wpX_init
  dsimp only
  refine ⟨by omega, by omega, by omega, by omega, by omega, by omega, by omega, by omega, by omega, by omega, by omega, by omega, by omega, by omega, by omega, by omega, ?_⟩
  refine pk_loop (σ := Nat → Int32) (fun n i z => wX_init_78 post mc ms 8 524 1 sh n (nI i) z (fun _ => 0) (fun _ => 0) (fun _ => 0) (fun _ => 0) (fun _ => 0) (fun _ => 0) (fun _ => 0))
    (fun i z => ∀ j, j < i → z j = -1) 32 0 (fun _ => 0) (by omega) (fun j hj => absurd hj (by omega)) ?_ ?_
  · intro n z h
    exact pk_le 32 32 (fun _ => H z h) (fun z => absurd z (by omega))
  · intro n i z hi h hw
    refine pk_le 32 i (fun z => absurd z (by omega)) (fun _ => ⟨pk_in i 32 hi, nm_e (nm_r (nI_1 i) ?_)⟩)
    rw [nI_clamp (by omega)]
    refine hw _ (fun j hj => ?_)
    by_cases e : j = i
    · rw [e, pk_us]
    · rw [pk_un e]
      exact h j (by omega)
theorem ic_freshTable {post : Int32 → St2 → Prop} {b : Nat} (hb : b < 36) (h3 : ∀ k, b ≤ k → k < 36 → a3 k = 0)
    (H : ∀ t : Nat, t < 36 → t ≤ b → a3 t = 0 → post (nI t) (im, sh, a1, a2, upd a3 t 1, a4, a5, a6, a7, a8)) :
    wpX_freshTable post (im, sh, a1, a2, a3, a4, a5, a6, a7, a8) := by
  unfold wpX_freshTable
  dsimp only
  have key := pk_loopD (σ := Int32) (fun n i z => wX_freshTable_5 post im sh a1 a2 a3 a4 a5 a6 a7 a8 n z (nI i + (-1)))
    (fun i z => i ≤ 36 ∧ ∃ t : Nat, t < 36 ∧ z = nI t ∧ (i ≤ b → a3 t = 0 ∧ t ≤ b)) ?_ ?_ 36 0 ⟨by omega, 0, by omega, rfl, fun z => absurd z (by omega)⟩
  · rw [show nI 36 + (-1) = 35 from by decide] at key
    exact ⟨37, key⟩
  · rintro n z ⟨_, t, ht, rfl, h⟩
    obtain ⟨h0, htb⟩ := h (by omega)
    refine br_t (show nI 0 + (-1) < 0 from by decide) ⟨vp_in_nI ht (by omega), ?_⟩
    rw [nI_clamp (by omega)]
    exact nm_e (H t ht htb h0)
  · rintro n i z ⟨hi, t, ht, rfl, h⟩ hw
    rw [pk_m1]
    refine br_f (nI_pos (by omega)) ⟨vp_in_nI (by omega) (by omega), ?_⟩
    rw [nI_clamp (by omega)]
    refine br_c (fun e => nm_e ?_) (fun e => nm_e ?_)
    · exact hw (nI i) ⟨by omega, i, by omega, rfl, fun z => ⟨e, z⟩⟩
    · refine hw (nI t) ⟨by omega, t, ht, rfl, fun z => h ?_⟩
      by_cases y : i = b
      · exact absurd (h3 i (by omega) (by omega)) e
      · omega
theorem ic_freshPlace {post : Int32 → St2 → Prop} {b : Nat} {w : Int32} (hb : b < 132) (h5 : ∀ k, b ≤ k → k < 132 → a5 k = 0)
    (H : ∀ p : Nat, p < 132 → p ≤ b → a5 p = 0 → post (nI p) (im, sh, a1, a2, a3, upd a4 p w, upd a5 p 1, a6, a7, a8)) :
    wpX_freshPlace post (im, sh, a1, a2, a3, a4, a5, a6, a7, a8) w := by
  unfold wpX_freshPlace
  dsimp only
  have key := pk_loopD (σ := Int32) (fun n i z => wX_freshPlace_6 post w im sh a1 a2 a3 a4 a5 a6 a7 a8 n z (nI i + (-1)))
    (fun i z => i ≤ 132 ∧ ∃ t : Nat, t < 132 ∧ z = nI t ∧ (i ≤ b → a5 t = 0 ∧ t ≤ b)) ?_ ?_ 132 0 ⟨by omega, 0, by omega, rfl, fun z => absurd z (by omega)⟩
  · rw [show nI 132 + (-1) = 131 from by decide] at key
    exact ⟨133, key⟩
  · rintro n z ⟨_, t, ht, rfl, h⟩
    obtain ⟨h0, htb⟩ := h (by omega)
    refine br_t (show nI 0 + (-1) < 0 from by decide) ⟨vp_in_nI ht (by omega), ?_⟩
    rw [nI_clamp (by omega)]
    exact nm_e ⟨vp_in_nI ht (by omega), nm_e (H t ht htb h0)⟩
  · rintro n i z ⟨hi, t, ht, rfl, h⟩ hw
    rw [pk_m1]
    refine br_f (nI_pos (by omega)) ⟨vp_in_nI (by omega) (by omega), ?_⟩
    rw [nI_clamp (by omega)]
    refine br_c (fun e => nm_e ?_) (fun e => nm_e ?_)
    · exact hw (nI i) ⟨by omega, i, by omega, rfl, fun z => ⟨e, z⟩⟩
    · refine hw (nI t) ⟨by omega, t, ht, rfl, fun z => h ?_⟩
      by_cases y : i = b
      · exact absurd (h5 i (by omega) (by omega)) e
      · omega
theorem ic_own44 {post : Int32 → St2 → Prop} {q t : Nat} (hq : q < 32) (ht : t < 36)
    (H : ∀ a2' : Nat → Int32, (∀ j, ¬ (t * 4 ≤ j ∧ j < t * 4 + 4) → a2' j = a2 j) → (∀ j, j < 4 → a2' (t * 4 + j) = -1) →
      post (nI t) (im, sh, upd a1 q (nI t), a2', a3, a4, a5, a6, a7, a8)) :
    ∃ n, wX_ownTable_44 post (nI q) (-1) (nI t) im sh n 0 a1 a2 a3 a4 a5 a6 a7 a8 := by
  refine pk_loop (σ := Nat → Int32) (fun n i z => wX_ownTable_44 post (nI q) (-1) (nI t) im sh n (nI i) a1 z a3 a4 a5 a6 a7 a8)
    (fun i z => (∀ j, ¬ (t * 4 ≤ j ∧ j < t * 4 + 4) → z j = a2 j) ∧ (∀ j, j < i → z (t * 4 + j) = -1)) 4 0 a2 (by omega) ⟨fun j _ => rfl, fun j hj => absurd hj (by omega)⟩ ?_ ?_
  · intro n z h
    refine pk_le 4 4 (fun _ => ?_) (fun z => absurd z (by omega))
    refine br_f (ic_nle ic_m1) ⟨vp_in_nI hq (by omega), ?_⟩
    rw [nI_clamp (by omega)]
    exact nm_e (H z h.1 h.2)
  · intro n i z hi h hw
    refine pk_le 4 i (fun z => absurd z (by omega)) (fun _ => ?_)
    refine br_f (ic_nle ic_m1) ?_
    unfold wX_ownTable_71
    rw [ic_at3, nI_clamp (by omega)]
    refine ⟨vp_in_nI (by omega) (by omega), nm_e (br_t ic_m1 (nm_r (nI_1 i) ?_))⟩
    refine hw _ ⟨fun j hj => ?_, fun j hj => ?_⟩
    · rw [pk_un (by omega)]
      exact h.1 j hj
    · by_cases e : j = i
      · rw [e, pk_us]
      · rw [pk_un (by omega)]
        exact h.2 j (by omega)
theorem ic_ownTable {post : Int32 → St2 → Prop} {F C : Int32} {f c b : Nat} (hF : F = nI f) (hC : C = nI c) (hf : f < 2) (hc : c < 16) (hb : b < 36)
    (h1 : a1 (f * 4 + c / 4) = -1) (h3 : ∀ k, b ≤ k → k < 36 → a3 k = 0)
    (H : ∀ (t : Nat) (a2' : Nat → Int32), t < 36 → t ≤ b → a3 t = 0 → (∀ j, ¬ (t * 4 ≤ j ∧ j < t * 4 + 4) → a2' j = a2 j) → (∀ j, j < 4 → a2' (t * 4 + j) = -1) →
      post (nI t) (im, sh, upd a1 (f * 4 + c / 4) (nI t), a2', upd a3 t 1, a4, a5, a6, a7, a8)) :
    wpX_ownTable post (im, sh, a1, a2, a3, a4, a5, a6, a7, a8) F C := by
  subst hF hC
  unfold wpX_ownTable
  dsimp only
  refine nm_r (ic_at f c hc) ⟨vp_in_nI (by omega) (by omega), nm_r (e' := -1) (by rw [nI_clamp (by omega)]; exact h1) (br_t ic_m1 ?_)⟩
  unfold wX_ownTable_35
  exact ic_freshTable hb h3 (fun t ht htb h0 => ic_own44 (by omega) ht (fun a2' ho hi => H t a2' ht htb h0 ho hi))
theorem ic_say56 {post : St2 → Prop} {w : Int32} {q b : Nat} (hq : q < 144) (hb : b < 132) (h5 : ∀ k, b ≤ k → k < 132 → a5 k = 0)
    (H : ∀ (e : Int32) (a4' a5' : Nat → Int32), ic_new e w a4 a5 a4' a5' b → post (im, sh, a1, upd a2 q e, a3, a4', a5', a6, a7, a8)) :
    wX_say_56 post w (nI q) (-1) im sh a1 a2 a3 a4 a5 a6 a7 a8 := by
  unfold wX_say_56
  refine br_t ic_m1 ?_
  refine br_c (fun e => ⟨vp_in_nI hq (by omega), ?_⟩) (fun e => ?_)
  · rw [nI_clamp (by omega)]
    exact nm_e (H (-2) a4 a5 (Or.inl ⟨e, rfl, rfl, rfl⟩))
  · refine ic_freshPlace hb h5 (fun p hp hpb h0 => ⟨vp_in_nI hq (by omega), ?_⟩)
    rw [nI_clamp (by omega)]
    exact nm_e (H (nI p) _ _ (Or.inr ⟨p, hp, hpb, h0, rfl, rfl, rfl⟩))
theorem ic_say {post : St2 → Prop} {F C w : Int32} {f c b : Nat} (hF : F = nI f) (hC : C = nI c) (hf : f < 2) (hc : c < 16) (hb : b < 36)
    (h1 : a1 (f * 4 + c / 4) = -1) (h3 : ∀ k, b ≤ k → k < 36 → a3 k = 0) (h5 : ∀ k, b ≤ k → k < 132 → a5 k = 0)
    (H : ∀ (t : Nat) (a2' : Nat → Int32) (e : Int32) (a4' a5' : Nat → Int32), t < 36 → t ≤ b → a3 t = 0 → (∀ j, ¬ (t * 4 ≤ j ∧ j < t * 4 + 4) → a2' j = a2 j) →
      (∀ j, j < 4 → ¬ j = c % 4 → a2' (t * 4 + j) = -1) → a2' (t * 4 + c % 4) = e → ic_new e w a4 a5 a4' a5' b →
      post (im, sh, upd a1 (f * 4 + c / 4) (nI t), a2', upd a3 t 1, a4', a5', a6, a7, a8)) :
    wpX_say post (im, sh, a1, a2, a3, a4, a5, a6, a7, a8) F C w := by
  unfold wpX_say
  dsimp only
  refine ic_ownTable hF hC hf hc hb h1 h3 (fun t a2' ht htb h0 ho hi => ?_)
  subst hC
  dsimp only
  have k56 : wX_say_56 post w (nI (t * 4 + c % 4)) (-1) im sh (upd a1 (f * 4 + c / 4) (nI t)) a2' (upd a3 t 1) a4 a5 a6 a7 a8 := by
    refine ic_say56 (by omega) (by omega) h5 (fun e a4' a5' hn => H t _ e a4' a5' ht htb h0 (fun j hj => ?_) (fun j hj hj2 => ?_) pk_us hn)
    · rw [pk_un (by omega)]
      exact ho j hj
    · rw [pk_un (by omega)]
      exact hi j hj
  refine nm_r (ic_at2 t c hc) ⟨vp_in_nI (by omega) (by omega), nm_r (e' := -1) (by rw [nI_clamp (by omega)]; exact hi _ (by omega)) ?_⟩
  exact br_c (fun _ => k56) (fun _ => br_t ic_m1 k56)
theorem ic_write {post : Int32 → St2 → Prop} {C w : Int32} {f c b : Nat} (hx : ic_ix C c) (hq : ic_Q a1 a2 a3 a4 a5 b s) (hb : b < 36) (hf : f < 2) (hF : im - 1 = nI f) (hi : ic_top im s)
    (hrow : ∀ k, k < 4 → a1 (f * 4 + k) = -1)
    (H : ∀ a1' a2' a3' a4' a5' a6' : Nat → Int32, ic_Q a1' a2' a3' a4' a5' (b + 1) (ic_set s f c w) → (∀ i, (i < f * 4 ∨ f * 4 + 4 ≤ i) → a1' i = a1 i) →
      (∀ k, k < 16 → a6' k = if k = c ∧ ¬ ic_w s k = w then 1 else a6 k) →
      post (if c = 16 then -1 else if ic_w s c = w then 0 else 1) (im, sh, a1', a2', a3', a4', a5', a6', a7, a8)) :
    wpX_write post (im, sh, a1, a2, a3, a4, a5, a6, a7, a8) C w := by
  unfold wpX_write
  dsimp only
  rcases hx with ⟨hc, hC⟩ | ⟨hc, hC⟩
  · refine ic_bad_in hc hC (br_t rfl ?_)
    refine ic_word hq.1 hi hc hC ?_
    unfold wpX_top
    dsimp only
    refine ic_say hF hC hf hc hb (hrow _ (by omega)) hq.2.2.2.1 hq.2.2.2.2 (fun t a2' e a4' a5' ht htb h0 ho hin he hn => ?_)
    have hQ := ic_put hq hf hc hrow ht htb h0 ho hin he hn
    have hA : ∀ i, (i < f * 4 ∨ f * 4 + 4 ≤ i) → upd a1 (f * 4 + c / 4) (nI t) i = a1 i := fun i hi => pk_un (by omega)
    dsimp only
    refine br_c (fun z => ?_) (fun z => ⟨pk_in c 16 hc hC, ?_⟩)
    · have g := H _ _ _ _ _ a6 hQ hA (fun k hk => ?_)
      · rw [if_neg (by omega), if_pos z] at g
        exact g
      · rw [if_neg]
        rintro ⟨y1, y2⟩
        rw [y1] at y2
        exact y2 z
    · rw [pk_cl c hC]
      refine nm_e ?_
      have g := H _ _ _ _ _ (upd a6 c 1) hQ hA (fun k hk => ?_)
      · rw [if_neg (by omega), if_neg z] at g
        exact g
      · by_cases y : k = c
        · rw [y, pk_us, if_pos ⟨rfl, z⟩]
        · rw [pk_un y, if_neg (fun x => y x.1)]
  · refine ic_bad_out hC (br_f ic_one0 ?_)
    subst hc
    have g := H _ _ _ _ _ a6 (ic_put16 hq hrow) (fun i _ => rfl) (fun k hk => by rw [if_neg (fun x => absurd x.1 (by omega))])
    rw [if_pos rfl] at g
    exact g
theorem ic_overlay {post : Int32 → St2 → Prop} (hp : post 2 (2, 0, a1, a2, a3, a4, a5, a6, a7, a8)) : wpX_overlay post (1, 0, a1, a2, a3, a4, a5, a6, a7, a8) := by
  unfold wpX_overlay
  dsimp only
  exact br_f (by decide) (br_t (by decide) (nm_r (e' := 2) (by decide) hp))
end
end
section
section
variable {im sh : Int32} {a1 a2 a3 a4 a5 a6 a7 a8 : Nat → Int32} {s : Nat → Nat → Option Int32}
theorem ic_leavePlace {post : St2 → Prop} {e : Int32} (he : ic_ok 132 e) (H : ∀ b5 : Nat → Int32, post (im, sh, a1, a2, a3, a4, b5, a6, a7, a8)) :
    wpX_leavePlace post (im, sh, a1, a2, a3, a4, a5, a6, a7, a8) e := by
  unfold wpX_leavePlace
  dsimp only
  rcases he with h | ⟨p, hp, rfl⟩
  · exact br_t h (H a5)
  · exact br_f (nI_pos (by omega)) ⟨vp_in_nI hp (by omega), vp_in_nI hp (by omega), nm_e (H _)⟩
theorem ic_leave30 {post : St2 → Prop} {t : Nat} (ht : t < 36) (h2 : ∀ j, j < 144 → ic_ok 132 (a2 j)) (H : ∀ b5 : Nat → Int32, post (im, sh, a1, a2, a3, a4, b5, a6, a7, a8)) :
    ∃ n, wX_leaveTable_30 post (nI t) n 0 im sh a1 a2 a3 a4 a5 a6 a7 a8 := by
  refine pk_loop (σ := Nat → Int32) (fun n i z => wX_leaveTable_30 post (nI t) n (nI i) im sh a1 a2 a3 a4 z a6 a7 a8)
    (fun _ _ => True) 4 0 a5 (by omega) trivial ?_ ?_
  · intro n z _
    exact pk_le 4 4 (fun _ => H z) (fun z => absurd z (by omega))
  · intro n i z hi _ hw
    refine pk_le 4 i (fun z => absurd z (by omega)) (fun _ => ?_)
    rw [ic_at3, nI_clamp (by omega)]
    exact ⟨vp_in_nI (by omega) (by omega), ic_leavePlace (h2 _ (by omega)) (fun b5 => nm_r (nI_1 i) (hw b5 trivial))⟩
theorem ic_leaveTable {post : St2 → Prop} {e : Int32} (he : ic_ok 36 e) (h2 : ∀ j, j < 144 → ic_ok 132 (a2 j)) (H : ∀ b3 b5 : Nat → Int32, post (im, sh, a1, a2, b3, a4, b5, a6, a7, a8)) :
    wpX_leaveTable post (im, sh, a1, a2, a3, a4, a5, a6, a7, a8) e := by
  unfold wpX_leaveTable
  dsimp only
  rcases he with h | ⟨t, ht, rfl⟩
  · exact br_f (ic_nle h) (H a3 a5)
  · exact br_t (nI_pos' (by omega)) ⟨vp_in_nI ht (by omega), vp_in_nI ht (by omega), nm_e ⟨vp_in_nI ht (by omega), br_c (fun _ => ic_leave30 ht h2 (fun b5 => H _ b5)) (fun _ => H _ a5)⟩⟩
theorem ic_clear {post : St2 → Prop} {F : Int32} (hF : F = nI 1) (hr : ic_R a1 a2 a4 s)
    (H : ∀ b1 b3 b5 : Nat → Int32, (∀ i, i < 4 → b1 i = a1 i) → (∀ k, k < 4 → b1 (4 + k) = -1) → post (im, sh, b1, a2, b3, a4, b5, a6, a7, a8)) :
    wpX_clearTable post (im, sh, a1, a2, a3, a4, a5, a6, a7, a8) F := by
  subst hF
  unfold wpX_clearTable
  dsimp only
  refine pk_loop (σ := (Nat → Int32) × (Nat → Int32) × (Nat → Int32)) (fun n i z => wX_clearTable_2 post (nI 1) n (nI i) im sh z.1 a2 z.2.1 a4 z.2.2 a6 a7 a8)
    (fun i z => (∀ j, (j < 4 ∨ 4 + i ≤ j) → z.1 j = a1 j) ∧ (∀ k, k < i → z.1 (4 + k) = -1)) 4 0 (a1, a3, a5) (by omega) ⟨fun j _ => rfl, fun k hk => absurd hk (by omega)⟩ ?_ ?_
  · rintro n ⟨b1, b3, b5⟩ ⟨h1, h2⟩
    dsimp only at h1 h2
    exact pk_le 4 4 (fun _ => H b1 b3 b5 (fun i hi => h1 i (Or.inl hi)) h2) (fun z => absurd z (by omega))
  · rintro n i ⟨b1, b3, b5⟩ hi ⟨h1, h2⟩ hw
    dsimp only at h1 h2
    refine pk_le 4 i (fun z => absurd z (by omega)) (fun _ => ?_)
    rw [ic_at3, nI_clamp (by omega)]
    refine ⟨vp_in_nI (by omega) (by omega), ic_leaveTable ?_ hr.2.1 (fun c3 c5 => ⟨vp_in_nI (by omega) (by omega), nm_e (nm_r (nI_1 i) ?_)⟩)⟩
    · show ic_ok 36 (b1 (1 * 4 + i))
      rw [h1 _ (by omega)]
      exact hr.1 _ (by omega)
    · refine hw (upd b1 (1 * 4 + i) (-1), c3, c5) ⟨fun j hj => ?_, fun k hk => ?_⟩
      · show upd b1 (1 * 4 + i) (-1) j = a1 j
        rw [pk_un (by omega)]
        exact h1 j (by omega)
      · show upd b1 (1 * 4 + i) (-1) (4 + k) = -1
        by_cases e : k = i
        · rw [show 4 + k = 1 * 4 + i by omega, pk_us]
        · rw [pk_un (by omega)]
          exact h2 k (by omega)
/-- the picture without the second image -/
def ic_cut (s : Nat → Nat → Option Int32) (g k : Nat) : Option Int32 := if g = 1 then none else s g k
theorem ic_R_cut {b1 : Nat → Int32} (hr : ic_R a1 a2 a4 s) (h1 : ∀ i, i < 4 → b1 i = a1 i) (h2 : ∀ k, k < 4 → b1 (4 + k) = -1) : ic_R b1 a2 a4 (ic_cut s) := by
  refine ⟨fun i hi => ?_, hr.2.1, fun f k hf hk => ?_⟩
  · by_cases e : i < 4
    · rw [h1 i e]
      exact hr.1 i hi
    · rw [show i = 4 + (i - 4) by omega, h2 _ (by omega)]
      exact Or.inl ic_m1
  · unfold ic_cut
    by_cases e : f = 1
    · have h : b1 (f * 4 + k / 4) < 0 := by
        rw [show f * 4 + k / 4 = 4 + k / 4 by omega, h2 _ (by omega)]
        exact ic_m1
      rw [if_pos e, ic_E_neg h]
      exact Or.inl ⟨rfl, rfl⟩
    · rw [if_neg e]
      have h := hr.2.2 f k hf hk
      unfold ic_E at h ⊢
      rw [h1 _ (by omega)]
      exact h
theorem ic_topw {post : Int32 → Prop} (hp : post (im - 1)) : wpX_top post (im, sh, a1, a2, a3, a4, a5, a6, a7, a8) := hp
theorem ic_abandon {post : Int32 → St2 → Prop} (hr : ic_R a1 a2 a4 s)
    (H : ∀ b1 b3 b5 b6 b8 : Nat → Int32, ic_R b1 a2 a4 (ic_cut s) → (∀ k, k < 16 → b6 k = if ic_w (ic_cut s) k = ic_w s k then a6 k else 1) →
      post (nI (ic_cnt (fun k => (s 1 k).isSome) 16)) (1, 0, b1, a2, b3, a4, b5, b6, a7, b8)) :
    wpX_abandon post (2, 0, a1, a2, a3, a4, a5, a6, a7, a8) := by
  unfold wpX_abandon
  dsimp only
  refine br_f (by decide) (br_t (by decide) (ic_keepWords hr (Or.inr rfl) (fun b8 h8 => ?_)))
  dsimp only
  refine pk_loop (σ := Int32) (fun n i z => wX_abandon_26 post 2 0 a1 a2 a3 a4 a5 a6 a7 b8 n z (nI i))
    (fun i z => z = nI (ic_cnt (fun k => (s 1 k).isSome) i)) 16 0 0 (by omega) rfl ?_ ?_
  · intro n z h
    refine pk_le 16 16 (fun _ => ?_) (fun z => absurd z (by omega))
    refine ic_topw (ic_clear (s := s) (by decide) hr (fun b1 b3 b5 h1 h2 => ?_))
    dsimp only
    have hR := ic_R_cut hr h1 h2
    refine nm_r (e' := 1) (by decide) (ic_markChanges hR (Or.inl ⟨rfl, fun k _ => rfl⟩) (fun r b6 h6 => ?_))
    dsimp only
    rw [h]
    refine H b1 b3 b5 b6 b8 hR (fun k hk => ?_)
    rw [h6 k hk, h8 k hk]
  · intro n i z hi h hw
    refine pk_le 16 i (fun z => absurd z (by omega)) (fun _ => ?_)
    refine ic_topw (ic_entry (f := 1) (c := i) (s := s) (by decide) rfl (by omega) hi hr ?_)
    refine br_c (fun e => nm_r (nI_1 i) ?_) (fun e => nm_e (nm_r (nI_1 i) ?_))
    · refine hw z ?_
      rw [h, ic_cnt_f]
      rw [ic_P_none (hr.2.2 1 i (by omega) hi) e]
      decide
    · refine hw (z + 1) ?_
      rw [h, ic_cnt_t]
      rw [ic_P_some (hr.2.2 1 i (by omega) hi) e]
      rfl
end
end
section
section
variable {post : Int32 → St0 → Prop} {mc ms kc ks : Nat} {x0 x1 x2 x3 x5 x6 x7 x8 x9 x10 x11 x12 x13 x14 x15 x16 x17 x18 z0 z1 : Int32}
theorem ic_t310 (h : z1 = z0) (hp : post 1 ()) : wL_lawOf_310 post mc ms z0 z1 kc ks := br_t h hp
theorem ic_t295 (h : z1 = z0) (h12 : x12 = if x16 = 0 then 0 else 1) (hp : post 1 ()) : wL_lawOf_295 post mc ms x12 x16 z0 z1 kc ks :=
  br_t h (br_c (fun e => ic_t310 (by rw [h12, if_pos e]) hp) (fun e => ic_t310 (by rw [h12, if_neg e]) hp))
theorem ic_t280 (h : z1 = z0) (h11 : x11 = if x16 = 0 then 0 else 1) (h12 : x12 = if x16 = 0 then 0 else 1) (hp : post 1 ()) : wL_lawOf_280 post mc ms x11 x12 x16 z0 z1 kc ks :=
  br_t h (br_c (fun e => ic_t295 (by rw [h11, if_pos e]) h12 hp) (fun e => ic_t295 (by rw [h11, if_neg e]) h12 hp))
theorem ic_t264 (h : z1 = z0) (h10 : x10 = if x14 = 0 then 0 else x15) (h11 : x11 = if x16 = 0 then 0 else 1) (h12 : x12 = if x16 = 0 then 0 else 1) (hp : post 1 ()) :
    wL_lawOf_264 post mc ms x10 x11 x12 x14 x15 x16 z0 z1 kc ks :=
  br_t h (br_c (fun e => ic_t280 (by rw [h10, if_pos e]) h11 h12 hp) (fun e => ic_t280 (by rw [h10, if_neg e]) h11 h12 hp))
theorem ic_t249 (h : z1 = z0) (h9 : x9 = if x14 = 0 then 0 else 1) (h10 : x10 = if x14 = 0 then 0 else x15) (h11 : x11 = if x16 = 0 then 0 else 1) (h12 : x12 = if x16 = 0 then 0 else 1) (hp : post 1 ()) :
    wL_lawOf_249 post mc ms x9 x10 x11 x12 x14 x15 x16 z0 z1 kc ks :=
  br_t h (br_c (fun e => ic_t264 (by rw [h9, if_pos e]) h10 h11 h12 hp) (fun e => ic_t264 (by rw [h9, if_neg e]) h10 h11 h12 hp))
theorem ic_t227 (h : z1 = z0) (h7 : x7 = x18) (h8 : x8 = if x14 = 0 then 0 else x3) (h9 : x9 = if x14 = 0 then 0 else 1) (h10 : x10 = if x14 = 0 then 0 else x15)
    (h11 : x11 = if x16 = 0 then 0 else 1) (h12 : x12 = if x16 = 0 then 0 else 1) (hp : post 1 ()) :
    wL_lawOf_227 post mc ms x3 x7 x8 x9 x10 x11 x12 x14 x15 x16 x18 z0 z1 kc ks :=
  br_t h (br_t h7 (br_c (fun e => ic_t249 (by rw [h8, if_pos e]) h9 h10 h11 h12 hp) (fun e => ic_t249 (by rw [h8, if_neg e]) h9 h10 h11 h12 hp)))
/-- the answers that the law compares with dIn = x14, below = x15, changed = x16 -/
def ic_ans (x3 x5 x6 x8 x9 x10 x11 x12 x14 x15 x16 : Int32) : Prop :=
  x5 = 2 ∧ (x6 = if x14 = 0 then -1 else if x16 = 0 then 0 else 1) ∧ (x8 = if x14 = 0 then 0 else x3) ∧ (x9 = if x14 = 0 then 0 else 1) ∧ (x10 = if x14 = 0 then 0 else x15)
    ∧ (x11 = if x16 = 0 then 0 else 1) ∧ (x12 = if x16 = 0 then 0 else 1)
theorem ic_t197 (h7 : x7 = z1 + z0) (ha : ic_ans x3 x5 x6 x8 x9 x10 x11 x12 x14 x15 x16) (hp : post 1 ()) : wL_lawOf_197 post mc ms x3 x5 x6 x7 x8 x9 x10 x11 x12 x14 x15 x16 z0 z1 kc ks := by
  obtain ⟨h5, h6, h8, h9, h10, h11, h12⟩ := ha
  refine nm_r h7.symm (br_t h5 (br_c (fun e => ?_) (fun e => br_c (fun e' => ?_) (fun e' => ?_))))
  · exact ic_t227 (by rw [h6, if_pos e]) rfl h8 h9 h10 h11 h12 hp
  · exact ic_t227 (by rw [h6, if_neg e, if_pos e']) rfl h8 h9 h10 h11 h12 hp
  · exact ic_t227 (by rw [h6, if_neg e, if_neg e']) rfl h8 h9 h10 h11 h12 hp
theorem ic_t177 (h7 : x7 = z0 + (if x16 = 0 then 0 else if x17 = 0 then 1 else if x0 = x2 then 0 else 1)) (ha : ic_ans x3 x5 x6 x8 x9 x10 x11 x12 x14 x15 x16) (hp : post 1 ()) :
    wL_lawOf_177 post mc ms x0 x2 x3 x5 x6 x7 x8 x9 x10 x11 x12 x14 x15 x16 x17 z0 kc ks := by
  refine br_c (fun e => ?_) (fun e => br_c (fun e' => ?_) (fun e' => br_c (fun d => ?_) (fun d => ?_)))
  · exact ic_t197 (by rw [h7, if_pos e]) ha hp
  · exact ic_t197 (by rw [h7, if_neg e, if_pos e']) ha hp
  · exact ic_t197 (by rw [h7, if_neg e, if_neg e', if_pos d]) ha hp
  · exact ic_t197 (by rw [h7, if_neg e, if_neg e', if_neg d]) ha hp
/-- how many the backup copies: first = y, changed = x16 -/
def ic_many (x0 x2 x16 y : Int32) : Int32 := (if y = 0 then 0 else 1) + (if x16 = 0 then 0 else if y = 0 then 1 else if x0 = x2 then 0 else 1)
theorem ic_t165 (h7 : x7 = ic_many x0 x2 x16 z0) (ha : ic_ans x3 x5 x6 x8 x9 x10 x11 x12 x14 x15 x16) (hp : post 1 ()) :
    wL_lawOf_165 post mc ms x0 x2 x3 x5 x6 x7 x8 x9 x10 x11 x12 x14 x15 x16 z0 kc ks := by
  unfold ic_many at h7
  refine br_c (fun e => ic_t177 ?_ ha hp) (fun e => ic_t177 ?_ ha hp)
  · rw [h7, if_pos e]
  · rw [h7, if_neg e]
/-- first, changed, below, in range: as the law makes them -/
def ic_fi (x13 x1 : Int32) : Int32 := if x13 = 0 then 0 else if x1 = 0 then 0 else 1
def ic_ch (x14 x3 x15 : Int32) : Int32 := if x14 = 0 then 0 else if x3 = x15 then 0 else 1
def ic_be (x13 x14 x0 x2 x1 : Int32) : Int32 := if x13 = 0 then 0 else if x14 = 0 then 0 else if x0 = x2 then x1 else 0
def ic_in (x : Int32) : Int32 := if x < 0 then 0 else if 15 < x then 0 else 1
theorem ic_t149 (h7 : x7 = ic_many x0 x2 z0 (ic_fi x13 x1)) (ha : ic_ans x3 x5 x6 x8 x9 x10 x11 x12 x14 x15 z0) (hp : post 1 ()) :
    wL_lawOf_149 post mc ms x0 x1 x2 x3 x5 x6 x7 x8 x9 x10 x11 x12 x13 x14 x15 z0 kc ks := by
  unfold ic_fi at h7
  refine br_c (fun e => ?_) (fun e => br_c (fun e' => ?_) (fun e' => ?_))
  · rw [if_pos e] at h7
    exact ic_t165 h7 ha hp
  · rw [if_neg e, if_pos e'] at h7
    exact ic_t165 h7 ha hp
  · rw [if_neg e, if_neg e'] at h7
    exact ic_t165 h7 ha hp
theorem ic_t131 (h7 : x7 = ic_many x0 x2 (ic_ch x14 x3 z0) (ic_fi x13 x1)) (ha : ic_ans x3 x5 x6 x8 x9 x10 x11 x12 x14 z0 (ic_ch x14 x3 z0)) (hp : post 1 ()) :
    wL_lawOf_131 post mc ms x0 x1 x2 x3 x5 x6 x7 x8 x9 x10 x11 x12 x13 x14 z0 kc ks := by
  unfold ic_ch at h7 ha
  refine br_c (fun e => ?_) (fun e => br_c (fun e' => ?_) (fun e' => ?_))
  · rw [if_pos e] at h7 ha
    exact ic_t149 h7 ha hp
  · rw [if_neg e, if_pos e'] at h7 ha
    exact ic_t149 h7 ha hp
  · rw [if_neg e, if_neg e'] at h7 ha
    exact ic_t149 h7 ha hp
theorem ic_t109 (h7 : x7 = ic_many x0 x2 (ic_ch z0 x3 (ic_be x13 z0 x0 x2 x1)) (ic_fi x13 x1))
    (ha : ic_ans x3 x5 x6 x8 x9 x10 x11 x12 z0 (ic_be x13 z0 x0 x2 x1) (ic_ch z0 x3 (ic_be x13 z0 x0 x2 x1))) (hp : post 1 ()) :
    wL_lawOf_109 post mc ms x0 x1 x2 x3 x5 x6 x7 x8 x9 x10 x11 x12 x13 z0 kc ks := by
  unfold ic_be at h7 ha
  refine br_c (fun e => ?_) (fun e => br_c (fun e' => ?_) (fun e' => br_c (fun d => ?_) (fun d => ?_)))
  · rw [if_pos e] at h7 ha
    exact ic_t131 h7 ha hp
  · rw [if_neg e, if_pos e'] at h7 ha
    exact ic_t131 h7 ha hp
  · rw [if_neg e, if_neg e', if_pos d] at h7 ha
    exact ic_t131 h7 ha hp
  · rw [if_neg e, if_neg e', if_neg d] at h7 ha
    exact ic_t131 h7 ha hp
theorem ic_t92 (h7 : x7 = ic_many x0 x2 (ic_ch (ic_in x2) x3 (ic_be z0 (ic_in x2) x0 x2 x1)) (ic_fi z0 x1))
    (ha : ic_ans x3 x5 x6 x8 x9 x10 x11 x12 (ic_in x2) (ic_be z0 (ic_in x2) x0 x2 x1) (ic_ch (ic_in x2) x3 (ic_be z0 (ic_in x2) x0 x2 x1))) (hp : post 1 ()) :
    wL_lawOf_92 post mc ms x0 x1 x2 x3 x5 x6 x7 x8 x9 x10 x11 x12 z0 kc ks := by
  have k : ∀ y : Int32, ic_in x2 = y → wL_lawOf_109 post mc ms x0 x1 x2 x3 x5 x6 x7 x8 x9 x10 x11 x12 z0 y kc ks := by
    intro y hy
    rw [hy] at h7 ha
    exact ic_t109 h7 ha hp
  refine br_c (fun e => ?_) (fun e => br_c (fun e' => ?_) (fun e' => ?_))
  · exact k 0 (by unfold ic_in; rw [if_pos e])
  · exact k 0 (by unfold ic_in; rw [if_neg e, if_pos e'])
  · exact k 1 (by unfold ic_in; rw [if_neg e, if_neg e'])
theorem ic_tail (h7 : x7 = ic_many x0 x2 (ic_ch (ic_in x2) x3 (ic_be (ic_in x0) (ic_in x2) x0 x2 x1)) (ic_fi (ic_in x0) x1))
    (ha : ic_ans x3 x5 x6 x8 x9 x10 x11 x12 (ic_in x2) (ic_be (ic_in x0) (ic_in x2) x0 x2 x1) (ic_ch (ic_in x2) x3 (ic_be (ic_in x0) (ic_in x2) x0 x2 x1))) (hp : post 1 ()) :
    ((x0 < 0 → (wL_lawOf_91 post mc ms x0 x1 x2 x3 x5 x6 x7 x8 x9 x10 x11 x12 kc ks)) ∧ (¬ x0 < 0 → (((15 < x0 → (wL_lawOf_91 post mc ms x0 x1 x2 x3 x5 x6 x7 x8 x9 x10 x11 x12 kc ks)) ∧ (¬ 15 < x0 → (wL_lawOf_92 post mc ms x0 x1 x2 x3 x5 x6 x7 x8 x9 x10 x11 x12 1 kc ks)))))) := by
  have k : ∀ y : Int32, ic_in x0 = y → wL_lawOf_92 post mc ms x0 x1 x2 x3 x5 x6 x7 x8 x9 x10 x11 x12 y kc ks := by
    intro y hy
    rw [hy] at h7 ha
    exact ic_t92 h7 ha hp
  refine br_c (fun e => ?_) (fun e => br_c (fun e' => ?_) (fun e' => ?_))
  · exact k 0 (by unfold ic_in; rw [if_pos e])
  · exact k 0 (by unfold ic_in; rw [if_neg e, if_pos e'])
  · exact k 1 (by unfold ic_in; rw [if_neg e, if_neg e'])
end
end
section
/-- the word below: what the first write left -/
def ic_B (c : Nat) (w : Int32) (k : Nat) : Int32 := if k = c then w else 0
def ic_s0 (_ _ : Nat) : Option Int32 := none
theorem ic_w0 (k : Nat) : ic_w ic_s0 k = 0 := rfl
theorem ic_w1 (c k : Nat) (w : Int32) : ic_w (ic_set ic_s0 0 c w) k = ic_B c w k := by
  unfold ic_w ic_set ic_one ic_B ic_s0
  rw [if_neg (by omega), if_pos rfl]
  by_cases e : k = c
  · rw [if_pos e, if_pos e]
    rfl
  · rw [if_neg e, if_neg e]
    rfl
theorem ic_w2 (c d k : Nat) (w v : Int32) : ic_w (ic_set (ic_set ic_s0 0 c w) 1 d v) k = if k = d then v else ic_B c w k := by
  have h1 : ic_set (ic_set ic_s0 0 c w) 1 d v 1 k = ic_one d v k := by
    unfold ic_set
    rw [if_pos rfl]
  have h0 : ic_set (ic_set ic_s0 0 c w) 1 d v 0 k = ic_one c w k := by
    unfold ic_set
    rw [if_neg (by omega), if_pos rfl]
  unfold ic_w
  rw [h1, h0]
  unfold ic_one ic_B
  by_cases e : k = d
  · rw [if_pos e, if_pos e]
    rfl
  · rw [if_neg e, if_neg e]
    by_cases e' : k = c
    · rw [if_pos e', if_pos e']
      rfl
    · rw [if_neg e', if_neg e']
      rfl
theorem ic_w3 (c d k : Nat) (w v : Int32) : ic_w (ic_cut (ic_set (ic_set ic_s0 0 c w) 1 d v)) k = ic_B c w k := by
  have h1 : ic_cut (ic_set (ic_set ic_s0 0 c w) 1 d v) 1 k = none := by
    unfold ic_cut
    rw [if_pos rfl]
  have h0 : ic_cut (ic_set (ic_set ic_s0 0 c w) 1 d v) 0 k = ic_one c w k := by
    unfold ic_cut ic_set
    rw [if_neg (by omega), if_neg (by omega), if_pos rfl]
  unfold ic_w
  rw [h1, h0]
  unfold ic_one ic_B
  by_cases e' : k = c
  · rw [if_pos e', if_pos e']
    rfl
  · rw [if_neg e', if_neg e']
    rfl
theorem ic_w4 (c d k : Nat) (w v : Int32) : (ic_set (ic_set ic_s0 0 c w) 1 d v 1 k).isSome = (k == d) := by
  unfold ic_set
  rw [if_pos rfl]
  unfold ic_one
  by_cases e : k = d
  · rw [if_pos e, e]
    simp
  · rw [if_neg e]
    simp [e]
theorem ic_cntE {p : Nat → Bool} {c d : Nat} (X Y : Bool) (hc : c ≤ 16) (hd : d ≤ 16) (h : ∀ k, k < 16 → p k = ((k == c && X) || (k == d && Y))) :
    ic_cnt p 16 = (if decide (c < 16) && X then 1 else 0) + (if decide (d < 16) && Y && !(X && c == d) then 1 else 0) := by
  rw [ic_cnt_c 16 h]
  exact ic_cnt2 ⟨c, by omega⟩ ⟨d, by omega⟩ X Y
theorem ic_in_lo {C : Int32} {c : Nat} (h : c < 16) (hC : C = nI c) : ic_in C = 1 := by
  subst hC
  unfold ic_in
  have e : ¬ (15 : Int32) < nI c := nI_nlt (a := 15) (by omega) (by omega)
  rw [if_neg (nI_pos (by omega)), if_neg e]
theorem ic_in_hi {C : Int32} (h : C < 0 ∨ nI 16 ≤ C) : ic_in C = 0 := by
  unfold ic_in
  by_cases e : C < 0
  · rw [if_pos e]
  · have h1 : nI 16 ≤ C := h.resolve_left e
    rw [if_neg e, if_pos]
    rw [Int32.le_iff_toInt_le] at h1
    rw [Int32.lt_iff_toInt_lt]
    have e1 : (nI 16).toInt = 16 := by decide
    have e2 : (15 : Int32).toInt = 15 := by decide
    omega
theorem ic_ixle {C : Int32} {c : Nat} (h : ic_ix C c) : c ≤ 16 := by
  rcases h with h | h <;> omega
theorem ic_in_ix {C : Int32} {c : Nat} (h : ic_ix C c) : ic_in C = if c = 16 then 0 else 1 := by
  rcases h with ⟨h, hC⟩ | ⟨h, hC⟩
  · rw [if_neg (by omega)]
    exact ic_in_lo h hC
  · rw [if_pos h]
    exact ic_in_hi hC
theorem ic_ixeq {C D : Int32} {c d : Nat} (hC : ic_ix C c) (hD : ic_ix D d) (hc : ¬ c = 16) (hd : ¬ d = 16) : C = D ↔ c = d := by
  rcases hC with ⟨h, hC⟩ | ⟨h, hC⟩
  · rcases hD with ⟨g, hD⟩ | ⟨g, hD⟩
    · rw [hC, hD]
      exact nI_eq (by omega) (by omega)
    · exact absurd g hd
  · exact absurd h hc
/-- what the law makes of its script -/
theorem ic_vals {C w D v : Int32} {c d : Nat} (hC : ic_ix C c) (hD : ic_ix D d) :
    (ic_be (ic_in C) (ic_in D) C D w = if d = 16 then 0 else ic_B c w d) ∧ (ic_fi (ic_in C) w = if c = 16 then 0 else if w = 0 then 0 else 1) := by
  rw [ic_in_ix hC, ic_in_ix hD]
  unfold ic_be ic_fi ic_B
  by_cases hc : c = 16
  · by_cases hd : d = 16
    · simp [hc, hd]
    · have hne : ¬ d = c := by omega
      simp [hc, hd]
  · by_cases hd : d = 16
    · simp [hc, hd]
    · have hi := ic_ixeq hC hD hc hd
      by_cases e : c = d
      · have e' : C = D := hi.mpr e
        simp [hd, e, e']
      · have e' : ¬ C = D := fun z => e (hi.mp z)
        have e2 : ¬ d = c := fun z => e z.symm
        simp [hc, hd, e', e2]
theorem ic_fin {C w D v : Int32} {c d : Nat} {c6 d7 e6 : Nat → Int32} (hC : ic_ix C c) (hD : ic_ix D d)
    (q6 : ∀ k, k < 16 → c6 k = if k = d ∧ ¬ ic_B c w k = v then 1 else if k = c ∧ ¬ 0 = w then 1 else 0)
    (q7 : ∀ k, k < 16 → d7 k = if c6 k = 0 then 0 else if k = d then v else ic_B c w k)
    (qe : ∀ k, k < 16 → e6 k = if ic_B c w k = (if k = d then v else ic_B c w k) then 0 else 1) :
    (ic_cnt (fun k => !decide (c6 k = 0)) 16 = (if decide (c < 16) && !decide (0 = w) then 1 else 0) + (if decide (d < 16) && !decide (ic_B c w d = v) && !(!decide (0 = w) && c == d) then 1 else 0))
    ∧ (ic_cnt (fun k => k == d) 16 = if d < 16 then 1 else 0)
    ∧ (d < 16 → d7 d = v)
    ∧ (ic_cnt (fun k => !decide (e6 k = 0)) 16 = if decide (d < 16) && !decide (ic_B c w d = v) then 1 else 0)
    ∧ (ic_cnt (fun k => !decide ((if e6 k = 0 then d7 k else ic_B c w k) = d7 k)) 16 = if decide (d < 16) && !decide (ic_B c w d = v) then 1 else 0) := by
  have hc16 := ic_ixle hC
  have hd16 := ic_ixle hD
  have h7 : d < 16 → d7 d = v := by
    intro hd
    have q := q6 d hd
    rw [q7 d hd, if_pos rfl]
    by_cases e : ic_B c w d = v
    · rw [if_neg (fun z : d = d ∧ ¬ ic_B c w d = v => z.2 e)] at q
      by_cases e' : d = c ∧ ¬ 0 = w
      · rw [if_pos e'] at q
        rw [q, if_neg ic_one0]
      · rw [if_neg e'] at q
        rw [q, if_pos rfl]
        rw [← e]
        unfold ic_B
        by_cases z : d = c
        · rw [if_pos z]
          by_cases y : 0 = w
          · exact y
          · exact absurd ⟨z, y⟩ e'
        · rw [if_neg z]
    · rw [if_pos ⟨rfl, e⟩] at q
      rw [q, if_neg ic_one0]
  have he : ∀ k, k < 16 → (e6 k = 0 ↔ ¬ (k = d ∧ ¬ ic_B c w d = v)) := by
    intro k hk
    rw [qe k hk]
    by_cases z : k = d
    · rw [if_pos z, z]
      by_cases y : ic_B c w d = v
      · rw [if_pos y]
        exact ⟨fun _ x => x.2 y, fun _ => rfl⟩
      · rw [if_neg y]
        exact ⟨fun x => absurd x ic_one0, fun x => absurd ⟨rfl, y⟩ x⟩
    · rw [if_neg z, if_pos rfl]
      exact ⟨fun _ x => z x.1, fun _ => rfl⟩
  refine ⟨?_, ?_, h7, ?_, ?_⟩
  · refine ic_cntE (!decide (0 = w)) (!decide (ic_B c w d = v)) hc16 hd16 (fun k hk => ?_)
    rw [q6 k hk]
    by_cases z : k = d
    · subst z
      by_cases y : ic_B c w k = v
      · by_cases x : k = c
        · subst x
          by_cases u : 0 = w
          · simp [y, u]
          · simp [u]
        · simp [x, y]
      · simp [y]
    · by_cases x : k = c
      · by_cases u : 0 = w
        · simp [z, u]
        · simp [x, u]
      · simp [x, z]
  · rw [ic_cntE (c := c) (d := d) false true hc16 hd16 (fun k hk => by simp)]
    by_cases z : d < 16 <;> simp [z]
  · rw [ic_cntE (c := c) (d := d) false (!decide (ic_B c w d = v)) hc16 hd16 (fun k hk => ?_)]
    · by_cases z : d < 16 <;> by_cases y : ic_B c w d = v <;> simp [z, y]
    · by_cases z : k = d ∧ ¬ ic_B c w d = v
      · have g : ¬ e6 k = 0 := fun x => (he k hk).mp x z
        rw [z.1] at g ⊢
        simp [g, z.2]
      · have g : e6 k = 0 := (he k hk).mpr z
        by_cases y : k = d
        · have u : ic_B c w d = v := Decidable.byContradiction (fun x => z ⟨y, x⟩)
          simp [g, u]
        · simp [g, y]
  · rw [ic_cntE (c := c) (d := d) false (!decide (ic_B c w d = v)) hc16 hd16 (fun k hk => ?_)]
    · by_cases z : d < 16 <;> by_cases y : ic_B c w d = v <;> simp [z, y]
    · by_cases z : k = d ∧ ¬ ic_B c w d = v
      · have g : ¬ e6 k = 0 := fun x => (he k hk).mp x z
        have hd : d < 16 := by omega
        rw [if_neg g, z.1, h7 hd]
        simp [z.2]
      · have g : e6 k = 0 := (he k hk).mpr z
        rw [if_pos g]
        by_cases y : k = d
        · have u : ic_B c w d = v := Decidable.byContradiction (fun x => z ⟨y, x⟩)
          simp [u]
        · simp [y]
end
section
theorem ic_Q0 {a : Nat → Int32} (h : ∀ i, i < 32 → a i = -1) : ic_Q a (fun _ => 0) (fun _ => 0) (fun _ => 0) (fun _ => 0) 0 ic_s0 := by
  have h8 : ∀ i, i < 8 → a i = -1 := fun i hi => h i (by omega)
  refine ⟨⟨fun i hi => ?_, fun j hj => Or.inr ⟨0, by omega, rfl⟩, fun f k hf hk => ?_⟩, fun i t hi ht e => ?_, fun i t j p hi ht hj hp e => ?_, fun k _ _ => rfl, fun k _ _ => rfl⟩
  · rw [h8 i hi]
    exact Or.inl ic_m1
  · rw [ic_E_neg (by rw [h8 _ (by omega)]; exact ic_m1)]
    exact Or.inl ⟨rfl, rfl⟩
  · rw [h8 i hi] at e
    exact absurd e.symm (ic_nm1 (by omega))
  · rw [h8 i hi] at e
    exact absurd e.symm (ic_nm1 (by omega))
theorem ic_join {C w D v : Int32} {c d : Nat} {c6 d7 e6 : Nat → Int32} (hC : ic_ix C c) (hD : ic_ix D d)
    (q6 : ∀ k, k < 16 → c6 k = if k = d ∧ ¬ ic_B c w k = v then 1 else if k = c ∧ ¬ 0 = w then 1 else 0)
    (q7 : ∀ k, k < 16 → d7 k = if c6 k = 0 then 0 else if k = d then v else ic_B c w k)
    (qe : ∀ k, k < 16 → e6 k = if ic_B c w k = (if k = d then v else ic_B c w k) then 0 else 1) :
    (nI (ic_cnt (fun k => !decide (c6 k = 0)) 16) = ic_many C D (ic_ch (ic_in D) v (ic_be (ic_in C) (ic_in D) C D w)) (ic_fi (ic_in C) w))
    ∧ ic_ans v 2 (if d = 16 then -1 else if ic_B c w d = v then 0 else 1) (if d = 16 then 0 else d7 d) (nI (ic_cnt (fun k => k == d) 16)) (if d = 16 then 0 else ic_B c w d)
      (nI (ic_cnt (fun k => !decide ((if e6 k = 0 then d7 k else ic_B c w k) = d7 k)) 16)) (nI (ic_cnt (fun k => !decide (e6 k = 0)) 16))
      (ic_in D) (ic_be (ic_in C) (ic_in D) C D w) (ic_ch (ic_in D) v (ic_be (ic_in C) (ic_in D) C D w)) := by
  obtain ⟨n1, n2, n3, n4, n5⟩ := ic_fin hC hD q6 q7 qe
  obtain ⟨v1, v2⟩ := ic_vals (w := w) (v := v) hC hD
  have hc16 := ic_ixle hC
  have hd16 := ic_ixle hD
  rw [n1, n2, n4, n5, v1, v2]
  by_cases hd : d = 16
  · have hch : ic_ch (ic_in D) v (if d = 16 then 0 else ic_B c w d) = 0 := by
      unfold ic_ch
      rw [ic_in_ix hD, if_pos hd, if_pos rfl]
    have hi : ic_in D = 0 := by rw [ic_in_ix hD, if_pos hd]
    have hnd : ¬ d < 16 := by omega
    rw [hch, hi]
    unfold ic_many ic_ans
    refine ⟨?_, ?_⟩
    · by_cases hc : c = 16
      · simp [hc, hnd]
        decide
      · have hcl : c < 16 := by omega
        by_cases hw : w = 0
        · simp [hw, hnd]
          decide
        · have hw' : ¬ 0 = w := fun z => hw z.symm
          simp [hc, hcl, hw, hw', hnd]
          decide
    · simp [hd]
      decide
  · have hdl : d < 16 := by omega
    have hi : ic_in D = 1 := by rw [ic_in_ix hD, if_neg hd]
    rw [hi, n3 hdl, if_neg hd]
    by_cases hv : ic_B c w d = v
    · have hch : ic_ch 1 v (ic_B c w d) = 0 := by
        unfold ic_ch
        rw [if_neg ic_one0, if_pos hv.symm]
      rw [hch]
      unfold ic_many ic_ans
      refine ⟨?_, ?_⟩
      · by_cases hc : c = 16
        · subst hc
          simp [hv]
          decide
        · have hcl : c < 16 := by omega
          by_cases hw : w = 0
          · subst hw
            simp [hv]
            decide
          · have hw' : ¬ 0 = w := fun z => hw z.symm
            simp [hc, hcl, hw, hw', hv]
            decide
      · simp [hd, hdl, hv]
        decide
    · have hch : ic_ch 1 v (ic_B c w d) = 1 := by
        unfold ic_ch
        rw [if_neg ic_one0, if_neg (fun z => hv z.symm)]
      rw [hch]
      unfold ic_many ic_ans
      refine ⟨?_, ?_⟩
      · by_cases hc : c = 16
        · subst hc
          have hd' : ¬ 16 = d := fun z => hd z.symm
          simp [hv, hdl, hd']
          decide
        · have hcl : c < 16 := by omega
          have hq := ic_ixeq hC hD hc hd
          by_cases hw : w = 0
          · subst hw
            simp [hv, hdl]
            decide
          · have hw' : ¬ 0 = w := fun z => hw z.symm
            by_cases e : c = d
            · have e' : C = D := hq.mpr e
              simp [hw, hw', e, e', hd, hdl]
              decide
            · have e' : ¬ C = D := fun z => e (hq.mp z)
              simp [hc, hcl, hw, hw', hv, e, e', hdl]
              decide
      · simp [hd, hdl, hv]
        decide
theorem ic_law {post : Int32 → St0 → Prop} {C w D v : Int32} (hp : post 1 ()) : wpL_lawOf post 9 534 () C w D v := by
  obtain ⟨c, hC⟩ := ic_ix_of C
  obtain ⟨d, hD⟩ := ic_ix_of D
  unfold wpL_lawOf
  refine ⟨by omega, by omega, 8, 524, by omega, by omega, ?_⟩
  refine ic_init (by omega) (by omega) (fun a1 h1 => ?_)
  dsimp only
  refine ic_write (f := 0) (c := c) (b := 0) (s := ic_s0) hC (ic_Q0 h1) (by omega) (by omega) (by decide) (Or.inl ⟨rfl, fun k _ => rfl⟩) (fun k hk => h1 _ (by omega)) (fun b1 b2 b3 b4 b5 b6 hQ hA h6 => ?_)
  dsimp only
  refine ic_overlay ?_
  dsimp only
  refine ic_write (f := 1) (c := d) (b := 1) (s := ic_set ic_s0 0 c w) hD hQ (by omega) (by omega) (by decide) (Or.inr rfl) (fun k hk => ?_) (fun c1 c2 c3 c4 c5 c6 hQ2 hA2 g6 => ?_)
  · rw [hA _ (by omega)]
    exact h1 _ (by omega)
  dsimp only
  refine ic_backup hQ2.1 (Or.inr rfl) (fun d6 d7 k6 k7 => ?_)
  dsimp only
  refine ic_saved hD ?_
  refine ic_abandon hQ2.1 (fun e1 e3 e5 e6 e8 hR m6 => ?_)
  dsimp only
  refine ic_read hR (Or.inl ⟨rfl, fun k _ => rfl⟩) hD ?_
  refine ic_behind hR (Or.inl ⟨rfl, fun k _ => rfl⟩) ?_
  refine ic_marked ?_
  have key := ic_join (C := C) (w := w) (D := D) (v := v) (c := c) (d := d) (c6 := c6) (d7 := d7) (e6 := e6) hC hD ?_ ?_ ?_
  · simp only [ic_w1, ic_w3, ic_w4]
    exact ic_tail key.1 key.2 hp
  · intro k hk
    rw [g6 k hk, h6 k hk, ic_w1, ic_w0]
  · intro k hk
    rw [k7 k hk, ic_w2]
  · intro k hk
    rw [m6 k hk, ic_w3, ic_w2, k6 k hk]
theorem ic_cell {post : Int32 → Prop} {L k : Nat} {xs : Nat → Int32} {p : Int32} (hL : L ≤ 4) (hk : k < 4) (hp : p = nI k) (H : ∀ r, post r) : wpL_cellAt post L xs () p :=
  pk_le L k (fun _ => H _) (fun z => ⟨pk_in k L z hp (by omega), H _⟩) rfl hp
theorem i_vc (xs : Nat → Int32) (L : Nat) (hL : L ≤ 4) : wpL_law (fun r => r = 1) L xs := by
  unfold wpL_law
  refine ic_cell hL (k := 0) (by omega) rfl (fun x0 => ?_)
  refine ic_cell hL (k := 1) (by omega) rfl (fun x1 => ?_)
  refine ic_cell hL (k := 2) (by omega) rfl (fun x2 => ?_)
  refine ic_cell hL (k := 3) (by omega) rfl (fun x3 => ?_)
  exact ⟨9, 534, by omega, by omega, ic_law rfl⟩
end
