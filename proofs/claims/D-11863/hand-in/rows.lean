section
/-! ===== part 01: the pure table, and facts of small ints ===== -/
/-- one candidate: cost c, the entry behind it (lb, wb), the entry so far q -/
def tb_s (c lb wb : Nat) (q : Nat × Nat) : Nat × Nat :=
  if c < 1000000 ∧ lb < 1000000 then (if c + lb < q.1 then (c + lb, wb) else if c + lb = q.1 then (q.1, q.2 + wb) else q) else q
/-- the fold over the next towns -/
def tb_f (c : Nat → Nat) (R : Nat → Nat → Nat × Nat) (s t : Nat) : Nat → Nat × Nat
  | 0 => (1000000, 0)
  | n + 1 => if s / 2 ^ n % 2 = 1 then tb_s (c (7 * t + n)) (R (s - 2 ^ n) n).1 (R (s - 2 ^ n) n).2 (tb_f c R s t n) else tb_f c R s t n
/-- the table by the number of towns in the set -/
def tb_T (c : Nat → Nat) (b : Nat → Nat × Nat) : Nat → Nat → Nat → Nat × Nat
  | 0 => fun _ t => b t
  | k + 1 => fun s t => if s / 2 ^ t % 2 = 1 then (1000000, 0) else tb_f c (tb_T c b k) s t 4
def tb_pc (s : Nat) : Nat := s % 2 + s / 2 % 2 + s / 4 % 2 + s / 8 % 2
/-- the table: costs c, base row b -/
def tb_R (c : Nat → Nat) (b : Nat → Nat × Nat) (s t : Nat) : Nat × Nat := tb_T c b (tb_pc s) s t
theorem tb_s1 {c lb wb : Nat} {q : Nat × Nat} (h1 : c < 1000000) (h2 : lb < 1000000) (h : c + lb < q.1) : tb_s c lb wb q = (c + lb, wb) := by
  unfold tb_s
  rw [if_pos ⟨h1, h2⟩, if_pos h]
theorem tb_s2 {c lb wb : Nat} {q : Nat × Nat} (h1 : c < 1000000) (h2 : lb < 1000000) (h : c + lb = q.1) : tb_s c lb wb q = (q.1, q.2 + wb) := by
  unfold tb_s
  rw [if_pos ⟨h1, h2⟩, if_neg (by omega), if_pos h]
theorem tb_s3 {c lb wb : Nat} {q : Nat × Nat} (h1 : c < 1000000) (h2 : lb < 1000000) (h : q.1 < c + lb) : tb_s c lb wb q = q := by
  unfold tb_s
  rw [if_pos ⟨h1, h2⟩, if_neg (by omega), if_neg (by omega)]
theorem tb_s4 {c lb wb : Nat} {q : Nat × Nat} (h : ¬ (c < 1000000 ∧ lb < 1000000)) : tb_s c lb wb q = q := by
  unfold tb_s
  rw [if_neg h]
theorem tb_s_le (c lb wb : Nat) (q : Nat × Nat) : (tb_s c lb wb q).1 ≤ q.1 := by
  by_cases h : c < 1000000 ∧ lb < 1000000
  · rcases Nat.lt_trichotomy (c + lb) q.1 with z | z | z
    · rw [tb_s1 h.1 h.2 z]
      exact Nat.le_of_lt z
    · rw [tb_s2 h.1 h.2 z]
      exact Nat.le_refl _
    · rw [tb_s3 h.1 h.2 z]
      exact Nat.le_refl _
  · rw [tb_s4 h]
    exact Nat.le_refl _
theorem tb_f_succ (c : Nat → Nat) (R : Nat → Nat → Nat × Nat) (s t n : Nat) : tb_f c R s t (n + 1) = if s / 2 ^ n % 2 = 1 then tb_s (c (7 * t + n)) (R (s - 2 ^ n) n).1 (R (s - 2 ^ n) n).2 (tb_f c R s t n) else tb_f c R s t n := rfl
theorem tb_f_le (c : Nat → Nat) (R : Nat → Nat → Nat × Nat) (s t n : Nat) : (tb_f c R s t n).1 ≤ 1000000 := by
  induction n with
  | zero => exact Nat.le_refl _
  | succ n ih =>
    rw [tb_f_succ]
    by_cases hb : s / 2 ^ n % 2 = 1
    · rw [if_pos hb]
      exact Nat.le_trans (tb_s_le _ _ _ _) ih
    · rw [if_neg hb]
      exact ih
theorem tb_f_congr {c : Nat → Nat} {R R' : Nat → Nat → Nat × Nat} {s t : Nat} (h : ∀ n, n < 4 → s / 2 ^ n % 2 = 1 → R (s - 2 ^ n) n = R' (s - 2 ^ n) n) (n : Nat) (hn : n ≤ 4) : tb_f c R s t n = tb_f c R' s t n := by
  induction n with
  | zero => rfl
  | succ n ih =>
    rw [tb_f_succ, tb_f_succ, ih (by omega)]
    by_cases hb : s / 2 ^ n % 2 = 1
    · rw [if_pos hb, if_pos hb, h n (by omega) hb]
    · rw [if_neg hb, if_neg hb]
theorem tb_pc_s : ∀ s, s < 16 → ∀ n, n < 4 → s / 2 ^ n % 2 = 1 → tb_pc s = tb_pc (s - 2 ^ n) + 1 := by decide +kernel
theorem tb_pc_pos : ∀ s, s < 16 → 1 ≤ s → 1 ≤ tb_pc s := by decide +kernel
theorem tb_R_0 (c : Nat → Nat) (b : Nat → Nat × Nat) (t : Nat) : tb_R c b 0 t = b t := rfl
theorem tb_R_eq {c : Nat → Nat} {b : Nat → Nat × Nat} {s t : Nat} (hs : s < 16) (h0 : 1 ≤ s) : tb_R c b s t = if s / 2 ^ t % 2 = 1 then (1000000, 0) else tb_f c (tb_R c b) s t 4 := by
  obtain ⟨k, hk⟩ : ∃ k, tb_pc s = k + 1 := ⟨tb_pc s - 1, by have := tb_pc_pos s hs h0; omega⟩
  have e : tb_R c b s t = if s / 2 ^ t % 2 = 1 then (1000000, 0) else tb_f c (tb_T c b k) s t 4 := by
    unfold tb_R
    rw [hk]
    rfl
  rw [e]
  by_cases hb : s / 2 ^ t % 2 = 1
  · rw [if_pos hb, if_pos hb]
  · rw [if_neg hb, if_neg hb]
    refine tb_f_congr (fun n hn hb => ?_) 4 (Nat.le_refl 4)
    have h2 := tb_pc_s s hs n hn hb
    unfold tb_R
    rw [show tb_pc (s - 2 ^ n) = k by omega]
theorem tb_R_le {c : Nat → Nat} {b : Nat → Nat × Nat} {s t : Nat} (hb : ∀ t, t < 4 → (b t).1 ≤ 1000000) (hs : s < 16) (ht : t < 4) : (tb_R c b s t).1 ≤ 1000000 := by
  by_cases h0 : s = 0
  · subst h0
    exact hb t ht
  · rw [tb_R_eq hs (by omega)]
    by_cases h : s / 2 ^ t % 2 = 1
    · rw [if_pos h]
      exact Nat.le_refl _
    · rw [if_neg h]
      exact tb_f_le _ _ _ _ _
/-! small ints -/
theorem tb_bit : ∀ s, s < 16 → ∀ n, n < 4 → (nI s >>> (nI n &&& 31)) &&& 1 = nI (s / 2 ^ n % 2) := by decide +kernel
theorem tb_clr : ∀ s, s < 16 → ∀ n, n < 4 → nI s &&& (((1 : Int32) <<< (nI n &&& 31)) ^^^ (-1)) = nI (if s / 2 ^ n % 2 = 1 then s - 2 ^ n else s) := by decide +kernel
theorem tb_down : ∀ s, s < 16 → ∀ n, n < 4 → s / 2 ^ n % 2 = 1 → s - 2 ^ n < s ∧ 7 * (s - 2 ^ n) + n < 7 * s := by decide +kernel
theorem tb_ix (s t : Nat) : 7 * nI s + nI t = nI (7 * s + t) := by
  rw [show (7 : Int32) = nI 7 from rfl, pk_mul, nI_add]
theorem tb_m2 (x : Nat) : x % 2 < 2 ^ 31 := by omega
theorem tb_n4 : (1 : Int32) <<< ((4 : Int32) &&& 31) = nI 16 := by decide
/-! the pictures -/
/-- prices and marks -/
def tb_Pic (p m : Nat → Nat) (P M : Nat → Int32) : Prop := ∀ k, k < 49 → P k = nI (p k) ∧ p k ≤ 40 ∧ M k = nI (m k) ∧ (m k = 0 ∨ m k = 2)
/-- costs -/
def tb_Co (c : Nat → Nat) (C : Nat → Int32) : Prop := ∀ k, k < 49 → C k = nI (c k) ∧ c k ≤ 1000000
def tb_c (p m : Nat → Nat) (k : Nat) : Nat := if k / 7 = k % 7 ∨ m k = 2 then 1000000 else p k
/-- the tables -/
def tb_Tab (c : Nat → Nat) (b : Nat → Nat × Nat) (A B : Nat → Int32) : Prop := ∀ s, s < 16 → ∀ t, t < 4 → A (7 * s + t) = nI (tb_R c b s t).1 ∧ B (7 * s + t) = nI (tb_R c b s t).2
/-- the base row of tours -/
def tb_b (c : Nat → Nat) (t : Nat) : Nat × Nat := if t = 0 then (1000000, 0) else (c (7 * t), if c (7 * t) < 1000000 then 1 else 0)
/-- the base row of paths that end in e -/
def tb_p (e t : Nat) : Nat × Nat := if t = e then (0, 1) else (1000000, 0)
/-- any state over these prices and marks -/
def tb_Post (p m : Nat → Nat) (Q : St2 → Prop) : Prop := ∀ (rq : Int32) (P M C A B a6 a7 a8 a9 a10 a11 : Nat → Int32), tb_Pic p m P M → Q (4, rq, P, M, C, A, B, a6, a7, a8, a9, a10, a11)
theorem tb_put {f : Nat → Nat} {s s' : Nat → Int32} {i : Nat} (h : ∀ k, k < i → s k = nI (f k)) (hs : ∀ k, k ≠ i → s' k = s k) (hi : s' i = nI (f i)) : ∀ k, k < i + 1 → s' k = nI (f k) := by
  intro k hk
  by_cases e : k = i
  · rw [e]
    exact hi
  · rw [hs k e]
    exact h k (by omega)
end
section
/-! ===== part 02: takeCosts, fillEntry, fillSets, fill, pathPrice ===== -/
theorem tb_take {post : St2 → Prop} {x1 rq : Int32} {P M C A B a6 a7 a8 a9 a10 a11 : Nat → Int32} {p m : Nat → Nat} (hp : tb_Pic p m P M)
    (H : ∀ C', tb_Co (tb_c p m) C' → post (4, 0, P, M, C', A, B, a6, a7, a8, a9, a10, a11)) :
    wpX_takeCosts post (4, rq, P, M, C, A, B, a6, a7, a8, a9, a10, a11) x1 := by
  unfold wpX_takeCosts
  refine pk_loop (fun n i s => wX_takeCosts_7 post x1 4 n (nI i) 0 P M s A B a6 a7 a8 a9 a10 a11) (fun i s => ∀ k, k < i → s k = nI (tb_c p m k)) 49 0 C (by omega) (fun k hk => absurd hk (by omega)) ?_ ?_
  · intro n s h
    refine pk_le 49 49 (fun _ => pk_eq 4 2 (fun z => absurd z (by decide)) (fun _ => H s (fun k hk => ⟨h k hk, ?_⟩))) (fun z => absurd z (by omega))
    have h4 := (hp k hk).2.1
    unfold tb_c
    split
    · exact Nat.le_refl _
    · omega
  · intro n i s hi h hw
    obtain ⟨hP, hp4, hM, hm⟩ := hp i hi
    have hcl : (nI i).toNatClampNeg = i := nI_clamp (by omega)
    refine pk_le 49 i (fun z => absurd z (by omega)) (fun _ => ⟨pk_in i 49 hi, pk_in i 49 hi, fun s1 e1 => ⟨by decide, by decide, ?_⟩⟩)
    rw [hcl] at e1
    have hfar : (i / 7 = i % 7 ∨ m i = 2) → wX_takeCosts_46 post (wX_takeCosts_7 post x1 4 n) x1 (nI i) 4 0 P M s1 A B a6 a7 a8 a9 a10 a11 := by
      intro hz
      refine And.intro (pk_in i 49 hi) (fun s2 e2 => nm_r (nI_1 i) (hw s2 (tb_put h ?_ ?_)))
      · intro k hk
        rw [e2, hcl, pk_un hk, e1, pk_un hk]
      · rw [e2, hcl, pk_us]
        unfold tb_c
        rw [if_pos hz]
        rfl
    refine pk_eq (i / 7) (i % 7) (fun hz => hfar (Or.inl hz)) (fun hz => ⟨pk_in i 49 hi, ?_⟩) (pk_div (by omega) (by decide) (by decide)) (pk_rem (by omega) (by decide) (by decide))
    refine pk_eq (m i) 2 (fun hz => hfar (Or.inr hz)) (fun hz2 => ?_) (by rw [hcl]; exact hM) rfl (by omega) (by omega)
    have hnx : wX_takeCosts_7 post x1 4 n (nI (i + 1)) 0 P M s1 A B a6 a7 a8 a9 a10 a11 := by
      refine hw s1 (tb_put h ?_ ?_)
      · intro k hk
        rw [e1, pk_un hk]
      · rw [e1, pk_us, hP]
        unfold tb_c
        rw [if_neg (by omega)]
    refine br_c (fun _ => nm_r (nI_1 i) hnx) (fun _ => ⟨pk_in i 49 hi, ?_⟩)
    exact pk_eq (m i) 1 (fun hz => absurd hz (by omega)) (fun _ => nm_r (nI_1 i) hnx) (by rw [hcl]; exact hM) rfl (by omega) (by omega)
theorem tb_entry {post : St2 → Prop} {rq : Int32} {P M C A B a6 a7 a8 a9 a10 a11 : Nat → Int32} {c : Nat → Nat} {R : Nat → Nat → Nat × Nat} {s t : Nat} (hs : s < 16) (ht : t < 4) (hC : tb_Co c C)
    (hR : ∀ n, n < 4 → s / 2 ^ n % 2 = 1 → A (7 * (s - 2 ^ n) + n) = nI (R (s - 2 ^ n) n).1 ∧ B (7 * (s - 2 ^ n) + n) = nI (R (s - 2 ^ n) n).2 ∧ (R (s - 2 ^ n) n).1 ≤ 1000000)
    (hA : A (7 * s + t) = nI 1000000) (hB : B (7 * s + t) = nI 0)
    (H : ∀ A' B', (∀ k, k ≠ 7 * s + t → A' k = A k ∧ B' k = B k) → A' (7 * s + t) = nI (tb_f c R s t 4).1 → B' (7 * s + t) = nI (tb_f c R s t 4).2 → post (4, rq, P, M, C, A', B', a6, a7, a8, a9, a10, a11)) :
    wpX_fillEntry post (4, rq, P, M, C, A, B, a6, a7, a8, a9, a10, a11) (nI s) (nI t) := by
  unfold wpX_fillEntry
  intro x3 e3
  rw [tb_ix] at e3
  subst e3
  refine pk_loop (σ := (Nat → Int32) × (Nat → Int32)) (fun n i u => wX_fillEntry_10 post (nI s) (nI t) (nI (7 * s + t)) 4 rq n (nI i) P M C u.1 u.2 a6 a7 a8 a9 a10 a11) (fun i u => (∀ k, k ≠ 7 * s + t → u.1 k = A k ∧ u.2 k = B k) ∧ u.1 (7 * s + t) = nI (tb_f c R s t i).1 ∧ u.2 (7 * s + t) = nI (tb_f c R s t i).2) 4 0 (A, B) (by omega) ⟨fun k _ => ⟨rfl, rfl⟩, hA, hB⟩ ?_ ?_
  · intro n u hu
    obtain ⟨h1, h2, h3⟩ := hu
    exact pk_le 4 4 (fun _ => H u.1 u.2 h1 h2 h3) (fun z => absurd z (by omega))
  · intro n i u hi hu hw
    obtain ⟨h1, h2, h3⟩ := hu
    have hc := hC (7 * t + i) (by omega)
    have hc2 := hc.2
    have hq := tb_f_le c R s t i
    have k3 : (nI (7 * s + t)).toNatClampNeg = 7 * s + t := nI_clamp (by omega)
    have in3 : vp_in (nI (7 * s + t)) 896 := pk_in (7 * s + t) 896 (by omega)
    refine pk_le 4 i (fun z => absurd z (by omega)) (fun _ => ⟨pk_in (7 * t + i) 49 (by omega) (tb_ix t i), ?_⟩)
    intro x5 e5
    rw [tb_ix, nI_clamp (show 7 * t + i < 2 ^ 31 by omega), hc.1] at e5
    subst e5
    have keep : tb_f c R s t (i + 1) = tb_f c R s t i → wX_fillEntry_10 post (nI s) (nI t) (nI (7 * s + t)) 4 rq n (nI (i + 1)) P M C u.1 u.2 a6 a7 a8 a9 a10 a11 := by
      intro hf
      exact hw u ⟨h1, by rw [hf]; exact h2, by rw [hf]; exact h3⟩
    refine pk_eq (s / 2 ^ i % 2) 1 (fun hb => ?_) (fun hb => nm_r (nI_1 i) (keep (by rw [tb_f_succ, if_neg hb]))) (tb_bit s hs i hi) rfl (tb_m2 _) (by omega)
    have hf : tb_f c R s t (i + 1) = tb_s (c (7 * t + i)) (R (s - 2 ^ i) i).1 (R (s - 2 ^ i) i).2 (tb_f c R s t i) := by rw [tb_f_succ, if_pos hb]
    refine pk_le 1000000 (c (7 * t + i)) (fun hc1 => nm_r (nI_1 i) (keep (by rw [hf, tb_s4 (by omega)]))) (fun hc1 => ?_) rfl rfl (by omega) (by omega)
    intro x6 e6
    rw [tb_clr s hs i hi, if_pos hb, tb_ix] at e6
    subst e6
    obtain ⟨r1, r2, r3⟩ := hR i hi hb
    obtain ⟨hd1, hd2⟩ := tb_down s hs i hi hb
    have u1 : u.1 (7 * (s - 2 ^ i) + i) = nI (R (s - 2 ^ i) i).1 := by
      rw [(h1 _ (by omega)).1]
      exact r1
    have u2 : u.2 (7 * (s - 2 ^ i) + i) = nI (R (s - 2 ^ i) i).2 := by
      rw [(h1 _ (by omega)).2]
      exact r2
    have in6 : vp_in (nI (7 * (s - 2 ^ i) + i)) 896 := pk_in (7 * (s - 2 ^ i) + i) 896 (by omega)
    have k6 : (nI (7 * (s - 2 ^ i) + i)).toNatClampNeg = 7 * (s - 2 ^ i) + i := nI_clamp (by omega)
    refine ⟨in6, ?_⟩
    intro x7 e7
    rw [k6, u1, nI_add] at e7
    subst e7
    have v1 : u.1 (nI (7 * (s - 2 ^ i) + i)).toNatClampNeg = nI (R (s - 2 ^ i) i).1 := by
      rw [k6]
      exact u1
    have v3 : u.1 (nI (7 * s + t)).toNatClampNeg = nI (tb_f c R s t i).1 := by
      rw [k3]
      exact h2
    refine ⟨in6, ?_⟩
    refine pk_le 1000000 (R (s - 2 ^ i) i).1 (fun hl => ?_) (fun hl => ⟨in3, ?_⟩) rfl v1 (by omega) (by omega)
    · exact And.intro in6 (pk_le 1000000 (R (s - 2 ^ i) i).1 (fun _ => nm_r (nI_1 i) (keep (by rw [hf, tb_s4 (by omega)]))) (fun z => absurd z (by omega)) rfl v1 (by omega) (by omega))
    · refine pk_le (tb_f c R s t i).1 (c (7 * t + i) + (R (s - 2 ^ i) i).1) (fun hg => ?_) (fun hg => ⟨in3, ?_⟩) v3 rfl (by omega) (by omega)
      · refine And.intro in6 (pk_le 1000000 (R (s - 2 ^ i) i).1 (fun z => absurd z (by omega)) (fun _ => ⟨in3, ?_⟩) rfl v1 (by omega) (by omega))
        refine pk_eq (c (7 * t + i) + (R (s - 2 ^ i) i).1) (tb_f c R s t i).1 (fun he => ?_) (fun he => nm_r (nI_1 i) (keep (by rw [hf, tb_s3 (by omega) (by omega) (by omega)]))) rfl v3 (by omega) (by omega)
        refine ⟨in3, in6, in3, ?_⟩
        intro B1 eB
        rw [k3, k6, h3, u2, nI_add] at eB
        subst eB
        refine nm_r (nI_1 i) (hw (u.1, upd u.2 (7 * s + t) (nI ((tb_f c R s t i).2 + (R (s - 2 ^ i) i).2))) ⟨fun k hk => ⟨(h1 k hk).1, ?_⟩, ?_, ?_⟩)
        · show upd u.2 (7 * s + t) _ k = B k
          rw [pk_un hk]
          exact (h1 k hk).2
        · rw [hf, tb_s2 (by omega) (by omega) he]
          exact h2
        · rw [hf, tb_s2 (by omega) (by omega) he]
          exact pk_us
      · intro A1 eA
        rw [k3] at eA
        subst eA
        refine ⟨in6, in3, ?_⟩
        intro B1 eB
        rw [k3, k6, u2] at eB
        subst eB
        refine nm_r (nI_1 i) (hw (_, _) ⟨fun k hk => ⟨?_, ?_⟩, ?_, ?_⟩)
        · show upd u.1 (7 * s + t) _ k = A k
          rw [pk_un hk]
          exact (h1 k hk).1
        · show upd u.2 (7 * s + t) _ k = B k
          rw [pk_un hk]
          exact (h1 k hk).2
        · rw [hf, tb_s1 (by omega) (by omega) (by omega)]
          exact pk_us
        · rw [hf, tb_s1 (by omega) (by omega) (by omega)]
          exact pk_us
theorem tb_inner {post : St2 → Prop} {J : Int32 → Int32 → Int32 → (Nat → Int32) → (Nat → Int32) → (Nat → Int32) → (Nat → Int32) → (Nat → Int32) → (Nat → Int32) → (Nat → Int32) → (Nat → Int32) → (Nat → Int32) → (Nat → Int32) → (Nat → Int32) → Prop} {rq : Int32} {P M C A B a6 a7 a8 a9 a10 a11 : Nat → Int32} {c : Nat → Nat} {b : Nat → Nat × Nat} {s : Nat} (hs : s < 16) (h0 : 1 ≤ s) (hC : tb_Co c C) (hb : ∀ t, t < 4 → (b t).1 ≤ 1000000)
    (hT : ∀ s', s' < s → ∀ t, t < 4 → A (7 * s' + t) = nI (tb_R c b s' t).1 ∧ B (7 * s' + t) = nI (tb_R c b s' t).2)
    (H : ∀ A' B', (∀ s', s' < s + 1 → ∀ t, t < 4 → A' (7 * s' + t) = nI (tb_R c b s' t).1 ∧ B' (7 * s' + t) = nI (tb_R c b s' t).2) → J (nI (s + 1)) 4 rq P M C A' B' a6 a7 a8 a9 a10 a11) :
    ∃ n, wX_fillSets_14 post J (nI s) n 0 4 rq P M C A B a6 a7 a8 a9 a10 a11 := by
  refine pk_loop (σ := (Nat → Int32) × (Nat → Int32)) (fun n i u => wX_fillSets_14 post J (nI s) n (nI i) 4 rq P M C u.1 u.2 a6 a7 a8 a9 a10 a11) (fun i u => (∀ k, k < 7 * s → u.1 k = A k ∧ u.2 k = B k) ∧ ∀ t, t < i → u.1 (7 * s + t) = nI (tb_R c b s t).1 ∧ u.2 (7 * s + t) = nI (tb_R c b s t).2) 4 0 (A, B) (by omega) ⟨fun k _ => ⟨rfl, rfl⟩, fun t ht => absurd ht (by omega)⟩ ?_ ?_
  · intro n u hu
    obtain ⟨h1, h2⟩ := hu
    refine pk_le 4 4 (fun _ => nm_r (nI_1 s) (H u.1 u.2 (fun s' hs' t ht => ?_))) (fun z => absurd z (by omega))
    by_cases e : s' = s
    · subst e
      exact h2 t ht
    · rw [(h1 (7 * s' + t) (by omega)).1, (h1 (7 * s' + t) (by omega)).2]
      exact hT s' (by omega) t ht
  · intro n i u hi hu hw
    obtain ⟨h1, h2⟩ := hu
    have in3 : vp_in (nI (7 * s + i)) 896 := pk_in (7 * s + i) 896 (by omega)
    have k3 : (nI (7 * s + i)).toNatClampNeg = 7 * s + i := nI_clamp (by omega)
    refine pk_le 4 i (fun z => absurd z (by omega)) (fun _ => ?_)
    intro x3 e3
    rw [tb_ix] at e3
    subst e3
    refine ⟨in3, fun A1 eA => ⟨in3, fun B1 eB => ?_⟩⟩
    rw [k3] at eA eB
    have fr : ∀ k, k ≠ 7 * s + i → A1 k = u.1 k ∧ B1 k = u.2 k := by
      intro k hk
      rw [eA, eB, pk_un hk, pk_un hk]
      exact ⟨rfl, rfl⟩
    have zA : A1 (7 * s + i) = nI 1000000 := by
      rw [eA]
      exact pk_us
    have zB : B1 (7 * s + i) = nI 0 := by
      rw [eB]
      exact pk_us
    refine pk_eq (s / 2 ^ i % 2) 0 (fun hz => ?_) (fun hz => ?_) (tb_bit s hs i hi) rfl (tb_m2 _) (by omega)
    · refine tb_entry (R := tb_R c b) hs hi hC ?_ zA zB ?_
      · intro m hm hm1
        obtain ⟨hd1, hd2⟩ := tb_down s hs m hm hm1
        rw [(fr _ (by omega)).1, (fr _ (by omega)).2, (h1 _ hd2).1, (h1 _ hd2).2]
        exact ⟨(hT _ hd1 m hm).1, (hT _ hd1 m hm).2, tb_R_le hb (by omega) hm⟩
      · intro A2 B2 f1 f2 f3
        have g : ∀ k, k < 7 * s + i → A2 k = u.1 k ∧ B2 k = u.2 k := by
          intro k hk
          rw [(f1 k (by omega)).1, (f1 k (by omega)).2]
          exact fr k (by omega)
        have e : tb_R c b s i = tb_f c (tb_R c b) s i 4 := by
          rw [tb_R_eq hs h0, if_neg (by omega)]
        refine nm_r (nI_1 i) (hw (A2, B2) ⟨fun k hk => ?_, fun t ht => ?_⟩)
        · rw [show (A2, B2).1 k = u.1 k from (g k (by omega)).1, show (A2, B2).2 k = u.2 k from (g k (by omega)).2]
          exact h1 k hk
        · by_cases et : t = i
          · subst et
            rw [e]
            exact ⟨f2, f3⟩
          · rw [show (A2, B2).1 (7 * s + t) = u.1 (7 * s + t) from (g _ (by omega)).1, show (A2, B2).2 (7 * s + t) = u.2 (7 * s + t) from (g _ (by omega)).2]
            exact h2 t (by omega)
    · have hz1 : s / 2 ^ i % 2 = 1 := by omega
      have e : tb_R c b s i = (1000000, 0) := by
        rw [tb_R_eq hs h0, if_pos hz1]
      refine nm_r (nI_1 i) (hw (A1, B1) ⟨fun k hk => ?_, fun t ht => ?_⟩)
      · rw [show (A1, B1).1 k = u.1 k from (fr k (by omega)).1, show (A1, B1).2 k = u.2 k from (fr k (by omega)).2]
        exact h1 k hk
      · by_cases et : t = i
        · subst et
          rw [e]
          exact ⟨zA, zB⟩
        · rw [show (A1, B1).1 (7 * s + t) = u.1 (7 * s + t) from (fr _ (by omega)).1, show (A1, B1).2 (7 * s + t) = u.2 (7 * s + t) from (fr _ (by omega)).2]
          exact h2 t (by omega)
theorem tb_sets {post : St2 → Prop} {rq : Int32} {P M C A B a6 a7 a8 a9 a10 a11 : Nat → Int32} {c : Nat → Nat} {b : Nat → Nat × Nat} (hC : tb_Co c C) (hb : ∀ t, t < 4 → (b t).1 ≤ 1000000)
    (h0 : ∀ t, t < 4 → A t = nI (b t).1 ∧ B t = nI (b t).2)
    (H : ∀ A' B', tb_Tab c b A' B' → post (4, rq, P, M, C, A', B', a6, a7, a8, a9, a10, a11)) :
    wpX_fillSets post (4, rq, P, M, C, A, B, a6, a7, a8, a9, a10, a11) := by
  unfold wpX_fillSets
  refine pk_loop (σ := (Nat → Int32) × (Nat → Int32)) (fun n i u => wX_fillSets_2 post n (nI i) 4 rq P M C u.1 u.2 a6 a7 a8 a9 a10 a11) (fun i u => 1 ≤ i ∧ ∀ s', s' < i → ∀ t, t < 4 → u.1 (7 * s' + t) = nI (tb_R c b s' t).1 ∧ u.2 (7 * s' + t) = nI (tb_R c b s' t).2) 16 1 (A, B) (by omega) ⟨Nat.le_refl 1, ?_⟩ ?_ ?_
  · intro s' hs' t ht
    rw [show s' = 0 by omega, show 7 * 0 + t = t by omega]
    exact h0 t ht
  · intro n u hu
    exact pk_le 16 16 (fun _ => H u.1 u.2 hu.2) (fun z => absurd z (by omega)) tb_n4 rfl
  · intro n i u hi hu hw
    exact pk_le 16 i (fun z => absurd z (by omega)) (fun _ => tb_inner hi hu.1 hC hb hu.2 (fun A' B' h' => hw (A', B') ⟨by omega, h'⟩)) tb_n4 rfl
theorem tb_44 {post : St2 → Prop} {J : Int32 → (Nat → Int32) → (Nat → Int32) → (Nat → Int32) → (Nat → Int32) → (Nat → Int32) → (Nat → Int32) → (Nat → Int32) → (Nat → Int32) → (Nat → Int32) → (Nat → Int32) → (Nat → Int32) → Prop} {rq : Int32} {P M C A B a6 a7 a8 a9 a10 a11 : Nat → Int32} {x : Int32} {i v : Nat} (hi : i < 7) (hv : v ≤ 1000000) (hx : x = nI v)
    (H : J (nI (i + 1)) P M C (upd A i (nI v)) (upd B i (nI (if v < 1000000 then 1 else 0))) a6 a7 a8 a9 a10 a11) :
    wX_fill_44 post J (nI i) x (nI i) 4 rq P M C A B a6 a7 a8 a9 a10 a11 := by
  have hcl : (nI i).toNatClampNeg = i := nI_clamp (by omega)
  have hin : vp_in (nI i) 896 := pk_in i 896 (by omega)
  refine And.intro hin (fun A1 eA => ⟨hin, ?_⟩)
  rw [hcl, hx] at eA
  subst eA
  refine pk_le 1000000 v (fun hz => ⟨hin, fun B1 eB => ?_⟩) (fun hz => ⟨hin, fun B1 eB => ?_⟩) rfl (by rw [hcl, pk_us]) (by omega) (by omega)
  · rw [hcl] at eB
    subst eB
    rw [if_neg (by omega)] at H
    exact nm_r (nI_1 i) H
  · rw [hcl] at eB
    subst eB
    rw [if_pos hz] at H
    exact nm_r (nI_1 i) H
theorem tb_c_le {p m : Nat → Nat} {P M : Nat → Int32} (hp : tb_Pic p m P M) {k : Nat} (hk : k < 49) : tb_c p m k ≤ 1000000 := by
  have h4 := (hp k hk).2.1
  unfold tb_c
  split
  · exact Nat.le_refl _
  · omega
theorem tb_b_le {c : Nat → Nat} {C : Nat → Int32} (hC : tb_Co c C) (t : Nat) (ht : t < 4) : (tb_b c t).1 ≤ 1000000 := by
  unfold tb_b
  split
  · exact Nat.le_refl _
  · exact (hC (7 * t) (by omega)).2
theorem tb_row {b : Nat → Nat × Nat} {A B A' B' : Nat → Int32} {i : Nat} (h : ∀ t, t < i → t < 4 → A t = nI (b t).1 ∧ B t = nI (b t).2) (hA : ∀ k, k ≠ i → A' k = A k) (hB : ∀ k, k ≠ i → B' k = B k) (hi : i < 4 → A' i = nI (b i).1 ∧ B' i = nI (b i).2) : ∀ t, t < i + 1 → t < 4 → A' t = nI (b t).1 ∧ B' t = nI (b t).2 := by
  intro t ht h4
  by_cases e : t = i
  · subst e
    exact hi h4
  · rw [hA t e, hB t e]
    exact h t (by omega) h4
theorem tb_fill {post : St2 → Prop} {rq : Int32} {P M C A B a6 a7 a8 a9 a10 a11 : Nat → Int32} {p m : Nat → Nat} (hp : tb_Pic p m P M)
    (H : ∀ C' A' B', tb_Co (tb_c p m) C' → tb_Tab (tb_c p m) (tb_b (tb_c p m)) A' B' → post (4, 0, P, M, C', A', B', a6, a7, a8, a9, a10, a11)) :
    wpX_fill post (4, rq, P, M, C, A, B, a6, a7, a8, a9, a10, a11) := by
  unfold wpX_fill
  refine tb_take hp (fun C' hC => ?_)
  generalize hcc : tb_c p m = c at hC H
  refine pk_loop (σ := (Nat → Int32) × (Nat → Int32)) (fun n i u => wX_fill_7 post 4 0 n (nI i) P M C' u.1 u.2 a6 a7 a8 a9 a10 a11) (fun i u => ∀ t, t < i → t < 4 → u.1 t = nI (tb_b c t).1 ∧ u.2 t = nI (tb_b c t).2) 7 0 (A, B) (by omega) (fun t ht => absurd ht (by omega)) ?_ ?_
  · intro n u hu
    exact pk_le 7 7 (fun _ => tb_sets hC (tb_b_le hC) (fun t ht => hu t (by omega) ht) (fun A' B' hT => H C' A' B' hC hT)) (fun z => absurd z (by omega))
  · intro n i u hi hu hw
    have far : (i < 4 → tb_b c i = (1000000, 0)) → wX_fill_44 post (wX_fill_7 post 4 0 n) (nI i) 1000000 (nI i) 4 0 P M C' u.1 u.2 a6 a7 a8 a9 a10 a11 := by
      intro hz
      refine tb_44 (v := 1000000) hi (by omega) rfl (hw (_, _) (tb_row hu (fun k hk => pk_un hk) (fun k hk => pk_un hk) (fun h4 => ?_)))
      rw [hz h4]
      exact ⟨pk_us, pk_us⟩
    refine pk_le 7 i (fun z => absurd z (by omega)) (fun _ => ?_)
    refine pk_eq i 0 (fun hz => far (fun _ => by rw [hz]; rfl)) (fun hz => ?_)
    refine pk_lt i 4 (fun h4 => ⟨pk_in (7 * i) 49 (by omega) (by rw [show (7 : Int32) = nI 7 from rfl, pk_mul]), ?_⟩) (fun h4 => far (fun h => absurd h (by omega)))
    have hc := hC (7 * i) (by omega)
    refine tb_44 hi hc.2 ?_ (hw (_, _) (tb_row hu (fun k hk => pk_un hk) (fun k hk => pk_un hk) (fun _ => ?_)))
    · rw [show (7 : Int32) = nI 7 from rfl, pk_mul, nI_clamp (by omega)]
      exact hc.1
    · unfold tb_b
      rw [if_neg hz]
      exact ⟨pk_us, pk_us⟩
theorem tb_pp {post : Int32 → St2 → Prop} {rq : Int32} {P M C A B a6 a7 a8 a9 a10 a11 : Nat → Int32} {p m : Nat → Nat} {x y v : Nat} (hx : x < 4) (hy : y < 4) (hv : (tb_R (tb_c p m) (tb_p y) (15 - 2 ^ x) x).1 = v) (hv2 : v < 1000000) (hp : tb_Pic p m P M)
    (H : tb_Post p m (post (nI v))) :
    wpX_pathPrice post (4, rq, P, M, C, A, B, a6, a7, a8, a9, a10, a11) (nI x) (nI y) := by
  unfold wpX_pathPrice
  refine tb_take hp (fun C' hC => ?_)
  generalize hcc : tb_c p m = c at hC hv
  have hb : ∀ t, t < 4 → (tb_p y t).1 ≤ 1000000 := by
    intro t _
    unfold tb_p
    split
    · exact Nat.zero_le _
    · exact Nat.le_refl _
  refine pk_loop (σ := (Nat → Int32) × (Nat → Int32)) (fun n i u => wX_pathPrice_7 post (nI x) (nI y) 4 0 n (nI i) P M C' u.1 u.2 a6 a7 a8 a9 a10 a11) (fun i u => ∀ t, t < i → t < 4 → u.1 t = nI (tb_p y t).1 ∧ u.2 t = nI (tb_p y t).2) 7 0 (A, B) (by omega) (fun t ht => absurd ht (by omega)) ?_ ?_
  · intro n u hu
    refine pk_le 7 7 (fun _ => tb_sets hC hb (fun t ht => hu t (by omega) ht) (fun A' B' hT => ?_)) (fun z => absurd z (by omega))
    have e : ∀ x, x < 4 → ((((1 : Int32) <<< ((4 : Int32) &&& 31)) - 1) &&& (((1 : Int32) <<< (nI x &&& 31)) ^^^ (-1))) = nI (15 - 2 ^ x) ∧ 15 - 2 ^ x < 16 := by decide +kernel
    have e2 : (7 * ((((1 : Int32) <<< ((4 : Int32) &&& 31)) - 1) &&& (((1 : Int32) <<< (nI x &&& 31)) ^^^ (-1)))) + nI x = nI (7 * (15 - 2 ^ x) + x) := by
      rw [(e x hx).1, tb_ix]
    have hl := (e x hx).2
    refine And.intro (pk_in (7 * (15 - 2 ^ x) + x) 896 (by omega) e2) ?_
    intro x3 e3
    rw [e2, nI_clamp (by omega), (hT _ hl x hx).1, hv] at e3
    subst e3
    exact pk_lt v 1000000 (fun _ => H _ _ _ _ _ _ _ _ _ _ _ _ hp) (fun z => absurd z (by omega))
  · intro n i u hi hu hw
    have hcl : (nI i).toNatClampNeg = i := nI_clamp (by omega)
    have hin : vp_in (nI i) 896 := pk_in i 896 (by omega)
    refine pk_le 7 i (fun z => absurd z (by omega)) (fun _ => ?_)
    refine pk_eq i y (fun hz => ?_) (fun hz => ?_)
    · refine And.intro hin (fun A1 eA => pk_eq i y (fun _ => ⟨hin, fun B1 eB => nm_r (nI_1 i) (hw (A1, B1) (tb_row hu ?_ ?_ ?_))⟩) (fun z => absurd hz z))
      · intro k hk
        show A1 k = u.1 k
        rw [eA, hcl, pk_un hk]
      · intro k hk
        show B1 k = u.2 k
        rw [eB, hcl, pk_un hk]
      · intro _
        unfold tb_p
        rw [if_pos hz, eA, eB, hcl]
        exact ⟨pk_us, pk_us⟩
    · refine And.intro hin (fun A1 eA => pk_eq i y (fun z => absurd z hz) (fun _ => ⟨hin, fun B1 eB => nm_r (nI_1 i) (hw (A1, B1) (tb_row hu ?_ ?_ ?_))⟩))
      · intro k hk
        show A1 k = u.1 k
        rw [eA, hcl, pk_un hk]
      · intro k hk
        show B1 k = u.2 k
        rw [eB, hcl, pk_un hk]
      · intro _
        unfold tb_p
        rw [if_neg hz, eA, eB, hcl]
        exact ⟨pk_us, pk_us⟩
end
section
/-! ===== part 03: the small methods ===== -/
theorem tb_town {post : Int32 → Prop} {rq : Int32} {P M C A B a6 a7 a8 a9 a10 a11 : Nat → Int32} {t : Nat} (ht : t < 4) (H : post 1) :
    wpX_isTown post (4, rq, P, M, C, A, B, a6, a7, a8, a9, a10, a11) (nI t) := by
  unfold wpX_isTown
  exact pk_lt t 0 (fun z => absurd z (by omega)) (fun _ => pk_le 4 t (fun z => absurd z (by omega)) (fun _ => H))
def tb_u (f : Nat → Nat) (k v : Nat) : Nat → Nat := fun j => if j = k then v else f j
theorem tb_u_nI {f : Nat → Nat} {F : Nat → Int32} {k v j : Nat} (h : F j = nI (f j)) : upd F k (nI v) j = nI (tb_u f k v j) := by
  unfold upd tb_u
  split
  · rfl
  · exact h
theorem tb_u_le {f : Nat → Nat} {k v j N : Nat} (h : f j ≤ N) (hv : v ≤ N) : tb_u f k v j ≤ N := by
  unfold tb_u
  split
  · exact hv
  · exact h
theorem tb_u_or {f : Nat → Nat} {k v j : Nat} (h : f j = 0 ∨ f j = 2) (hv : v = 0 ∨ v = 2) : tb_u f k v j = 0 ∨ tb_u f k v j = 2 := by
  unfold tb_u
  split
  · exact hv
  · exact h
theorem tb_setP {post : St2 → Prop} {rq : Int32} {P M C A B a6 a7 a8 a9 a10 a11 : Nat → Int32} {p m : Nat → Nat} {x y v : Nat} (hx : x < 4) (hy : y < 4) (hv : v ≤ 40) (hp : tb_Pic p m P M)
    (H : tb_Post (tb_u (tb_u p (7 * x + y) v) (7 * y + x) v) m post) :
    wpX_setPrice post (4, rq, P, M, C, A, B, a6, a7, a8, a9, a10, a11) (nI x) (nI y) (nI v) := by
  unfold wpX_setPrice
  refine And.intro (pk_in (7 * x + y) 49 (by omega) (tb_ix x y)) (fun P1 e1 => And.intro (pk_in (7 * y + x) 49 (by omega) (tb_ix y x)) (fun P2 e2 => H _ _ _ _ _ _ _ _ _ _ _ _ (fun k hk => ?_)))
  rw [tb_ix, nI_clamp (by omega)] at e1 e2
  obtain ⟨h1, h2, h3⟩ := hp k hk
  rw [e2, e1]
  exact ⟨tb_u_nI (tb_u_nI h1), tb_u_le (tb_u_le h2 hv) hv, h3⟩
theorem tb_setM {post : St2 → Prop} {rq : Int32} {P M C A B a6 a7 a8 a9 a10 a11 : Nat → Int32} {p m : Nat → Nat} {x y v : Nat} (hx : x < 4) (hy : y < 4) (hv : v = 0 ∨ v = 2) (hp : tb_Pic p m P M)
    (H : tb_Post p (tb_u (tb_u m (7 * x + y) v) (7 * y + x) v) post) :
    wpX_setMark post (4, rq, P, M, C, A, B, a6, a7, a8, a9, a10, a11) (nI x) (nI y) (nI v) := by
  unfold wpX_setMark
  refine And.intro (pk_in (7 * x + y) 49 (by omega) (tb_ix x y)) (fun P1 e1 => And.intro (pk_in (7 * y + x) 49 (by omega) (tb_ix y x)) (fun P2 e2 => H _ _ _ _ _ _ _ _ _ _ _ _ (fun k hk => ?_)))
  rw [tb_ix, nI_clamp (by omega)] at e1 e2
  obtain ⟨h1, h2, h3, h4⟩ := hp k hk
  rw [e2, e1]
  exact ⟨h1, h2, tb_u_nI (tb_u_nI h3), tb_u_or (tb_u_or h4 hv) hv⟩
theorem tb_price {post : Int32 → St2 → Prop} {p m : Nat → Nat} {x y v : Nat} (hx : x < 4) (hy : y < 4) (hxy : x ≠ y) (hv : v ≤ 40)
    (H : ∀ r, tb_Post (tb_u (tb_u p (7 * x + y) v) (7 * y + x) v) m (post r)) :
    tb_Post p m (fun u => wpX_price post u (nI x) (nI y) (nI v)) := by
  intro rq P M C A B a6 a7 a8 a9 a10 a11 hp
  show wpX_price post _ _ _ _
  unfold wpX_price
  refine tb_town hx (br_f (by decide) (tb_town hy (br_f (by decide) ?_)))
  refine pk_eq x y (fun z => absurd z hxy) (fun _ => ?_)
  refine pk_lt v 0 (fun z => absurd z (by omega)) (fun _ => ?_)
  refine pk_le v 40 (fun _ => And.intro (pk_in (7 * x + y) 49 (by omega) (tb_ix x y)) (fun x4 e4 => ?_)) (fun z => absurd z (by omega))
  exact tb_setP hx hy hv hp (H x4)
theorem tb_mark {post : Int32 → St2 → Prop} {p m : Nat → Nat} {x y v : Nat} (hx : x < 4) (hy : y < 4) (hxy : x ≠ y) (hv : v = 0 ∨ v = 2)
    (H : ∀ r, tb_Post p (tb_u (tb_u m (7 * x + y) v) (7 * y + x) v) (post r)) :
    tb_Post p m (fun u => wpX_mark post u (nI x) (nI y) (nI v)) := by
  intro rq P M C A B a6 a7 a8 a9 a10 a11 hp
  show wpX_mark post _ _ _ _
  unfold wpX_mark
  refine tb_town hx (br_f (by decide) (tb_town hy (br_f (by decide) ?_)))
  refine pk_eq x y (fun z => absurd z hxy) (fun _ => ?_)
  refine pk_lt v 0 (fun z => absurd z (by omega)) (fun _ => ?_)
  refine pk_le v 2 (fun _ => And.intro (pk_in (7 * x + y) 49 (by omega) (tb_ix x y)) (fun x4 e4 => ?_)) (fun z => absurd z (by omega))
  exact tb_setM hx hy hv hp (H x4)
/-- the prices of a new object -/
def tb_p0 (k : Nat) : Nat := if k / 7 = k % 7 then 0 else 10
theorem tb_init {post : St2 → Prop} {mc ms : Nat} {f1 f2 : Int32} (hmc : 11 ≤ mc) (hms : 1985 ≤ ms) (H : tb_Post tb_p0 (fun _ => 0) post) : wpX_init post mc ms (f1, f2) 4 := by
  unfold wpX_init
  refine ⟨by omega, by omega, by omega, by omega, by omega, by omega, by omega, by omega, by omega, by omega, by omega, by omega, by omega, by omega, by omega, by omega, by omega, by omega, by omega, by omega, by omega, by omega, ?_⟩
  refine pk_le 2 4 (fun _ => ?_) (fun z => absurd z (by omega))
  refine pk_le 4 7 (fun _ => ?_) (fun z => absurd z (by omega))
  refine pk_loop (fun n i s => wX_init_125 post mc ms 11 1985 4 f2 n (nI i) s (fun _ => 0) (fun _ => 0) (fun _ => 0) (fun _ => 0) (fun _ => 0) (fun _ => 0) (fun _ => 0) (fun _ => 0) (fun _ => 0) (fun _ => 0)) (fun i s => ∀ k, k < i → s k = nI (tb_p0 k)) 49 0 (fun _ => 0) (by omega) (fun k hk => absurd hk (by omega)) ?_ ?_
  · intro n s h
    refine pk_le 49 49 (fun _ => H _ _ _ _ _ _ _ _ _ _ _ _ (fun k hk => ⟨h k hk, ?_, rfl, Or.inl rfl⟩)) (fun z => absurd z (by omega))
    unfold tb_p0
    split <;> omega
  · intro n i s hi h hw
    have hcl : (nI i).toNatClampNeg = i := nI_clamp (by omega)
    refine pk_le 49 i (fun z => absurd z (by omega)) (fun _ => ⟨by decide, by decide, ?_⟩)
    refine pk_eq (i / 7) (i % 7) (fun hz => ⟨pk_in i 49 hi, fun s1 e1 => nm_r (nI_1 i) (hw s1 (tb_put h ?_ ?_))⟩) (fun hz => ⟨pk_in i 49 hi, fun s1 e1 => nm_r (nI_1 i) (hw s1 (tb_put h ?_ ?_))⟩) (pk_div (by omega) (by decide) (by decide)) (pk_rem (by omega) (by decide) (by decide))
    · intro k hk
      rw [e1, hcl, pk_un hk]
    · rw [e1, hcl, pk_us]
      unfold tb_p0
      rw [if_pos hz]
      rfl
    · intro k hk
      rw [e1, hcl, pk_un hk]
    · rw [e1, hcl, pk_us]
      unfold tb_p0
      rw [if_neg hz]
      rfl
/-! the answers of best, bestTours, worth -/
theorem tb_98 : 7 * (((1 : Int32) <<< ((4 : Int32) &&& 31)) - 2) = nI (7 * 14 + 0) := by decide
/-- what best is, by the table -/
def tb_best (p m : Nat → Nat) : Nat × Nat := tb_R (tb_c p m) (tb_b (tb_c p m)) 14 0
theorem tb_uses {post : Int32 → Prop} {P M C A B a6 a7 a8 a9 a10 a11 : Nat → Int32} {v : Nat} (hv : v < 2 ^ 31) (h1 : v ≤ 280 → post 1) (h0 : 280 < v → post 0) :
    wpX_usesAll post (4, 0, P, M, C, A, B, a6, a7, a8, a9, a10, a11) (nI v) := by
  unfold wpX_usesAll
  exact pk_lt 280 v h0 h1 (by decide) rfl (by omega) hv
theorem tb_now {post : Int32 → Prop} {P M C A B a6 a7 a8 a9 a10 a11 : Nat → Int32} {c : Nat → Nat} {b : Nat → Nat × Nat} {v : Nat} (hT : tb_Tab c b A B) (hv : (tb_R c b 14 0).1 = v) (hv2 : v ≤ 280) (H : post (nI v)) :
    wpX_bestNow post (4, 0, P, M, C, A, B, a6, a7, a8, a9, a10, a11) := by
  unfold wpX_bestNow
  refine And.intro (pk_in (7 * 14 + 0) 896 (by omega) tb_98) (fun x1 e1 => ?_)
  rw [tb_98, nI_clamp (by omega), (hT 14 (by omega) 0 (by omega)).1, hv] at e1
  subst e1
  refine pk_le 1000000 v (fun z => absurd z (by omega)) (fun _ => tb_uses (by omega) (fun _ => br_f (by decide) ?_) (fun z => absurd z (by omega)))
  rw [show (1000 : Int32) * 0 = 0 by decide, Int32.add_zero]
  exact H
theorem tb_bestW {post : Int32 → St2 → Prop} {p m : Nat → Nat} {v : Nat} (hv : (tb_best p m).1 = v) (hv2 : v ≤ 280) (H : tb_Post p m (post (nI v))) : tb_Post p m (fun u => wpX_best post u) := by
  intro rq P M C A B a6 a7 a8 a9 a10 a11 hp
  show wpX_best post _
  unfold wpX_best
  exact tb_fill hp (fun C' A' B' _ hT => tb_now hT hv hv2 (H _ _ _ _ _ _ _ _ _ _ _ _ hp))
theorem tb_toursW {post : Int32 → St2 → Prop} {p m : Nat → Nat} {v w : Nat} (hv : (tb_best p m).1 = v) (hw : (tb_best p m).2 = w) (hv2 : v ≤ 280) (H : tb_Post p m (post (nI w))) : tb_Post p m (fun u => wpX_bestTours post u) := by
  intro rq P M C A B a6 a7 a8 a9 a10 a11 hp
  show wpX_bestTours post _
  unfold wpX_bestTours
  refine tb_fill hp (fun C' A' B' _ hT => tb_now hT hv hv2 (pk_le 0 v (fun _ => And.intro (pk_in (7 * 14 + 0) 896 (by omega) tb_98) ?_) (fun z => absurd z (by omega))))
  rw [tb_98, nI_clamp (by omega), (hT 14 (by omega) 0 (by omega)).2]
  have hw' : (tb_R (tb_c p m) (tb_b (tb_c p m)) 14 0).2 = w := hw
  rw [hw']
  exact H _ _ _ _ _ _ _ _ _ _ _ _ hp
theorem tb_pic_m {p m m' : Nat → Nat} {P M : Nat → Int32} (h : ∀ k, k < 49 → m' k = m k) (hp : tb_Pic p m' P M) : tb_Pic p m P M := by
  intro k hk
  rw [← h k hk]
  exact hp k hk
theorem tb_worthW {post : Int32 → St2 → Prop} {p m : Nat → Nat} {x y v w : Nat} (hx : x < 4) (hy : y < 4) (hxy : x ≠ y) (hm : m (7 * x + y) = 0) (hm2 : m (7 * y + x) = 0)
    (hv : (tb_best p m).1 = v) (hv2 : v ≤ 280) (hw : (tb_best p (tb_u (tb_u m (7 * x + y) 2) (7 * y + x) 2)).1 = w) (hw2 : w ≤ 280) (H : tb_Post p m (post (nI w - nI v))) : tb_Post p m (fun u => wpX_worth post u (nI x) (nI y)) := by
  intro rq P M C A B a6 a7 a8 a9 a10 a11 hp
  show wpX_worth post _ _ _
  unfold wpX_worth
  refine tb_town hx (br_f (by decide) (tb_town hy (br_f (by decide) ?_)))
  refine pk_eq x y (fun z => absurd z hxy) (fun _ => ?_)
  refine tb_fill hp (fun C' A' B' _ hT => tb_now hT hv hv2 (pk_le 0 v (fun _ => And.intro (pk_in (7 * x + y) 49 (by omega) (tb_ix x y)) (fun x4 e4 => ?_)) (fun z => absurd z (by omega))))
  rw [tb_ix, nI_clamp (by omega), (hp (7 * x + y) (by omega)).2.2.1, hm] at e4
  subst e4
  refine pk_eq 0 1 (fun z => absurd z (by decide)) (fun _ => ?_)
  refine tb_setM (v := 2) hx hy (Or.inr rfl) hp (fun rq1 P1 M1 C1 A1 B1 b6 b7 b8 b9 b10 b11 hp1 => ?_)
  refine tb_fill hp1 (fun C2 A2 B2 _ hT2 => tb_now hT2 hw hw2 ?_)
  refine tb_setM (v := 0) hx hy (Or.inl rfl) hp1 (fun rq3 P3 M3 C3 A3 B3 d6 d7 d8 d9 d10 d11 hp3 => ?_)
  refine pk_le 0 w (fun _ => H _ _ _ _ _ _ _ _ _ _ _ _ (tb_pic_m (fun k hk => ?_) hp3)) (fun z => absurd z (by omega))
  unfold tb_u
  by_cases e1 : k = 7 * y + x
  · rw [if_pos e1, e1, hm2]
  · by_cases e2 : k = 7 * x + y
    · rw [if_neg e1, if_pos e2, e2, hm]
    · rw [if_neg e1, if_neg e2, if_neg e1, if_neg e2]
end
section
/-! ===== part 04: the table's values, with every road free, and with the road 0-1 closed ===== -/
def tb_w (p : Nat → Nat) (x y v : Nat) : Nat → Nat := tb_u (tb_u p (7 * x + y) v) (7 * y + x) v
/-- the law's prices -/
def tb_pr (a b c d e f : Nat) : Nat → Nat := tb_w (tb_w (tb_w (tb_w (tb_w (tb_w tb_p0 0 1 a) 0 2 b) 0 3 c) 1 2 d) 1 3 e) 2 3 f
/-- six roads, both ways -/
def tb_Cs (k : Nat → Nat) (a b c d e f : Nat) : Prop := (k 1 = a ∧ k 7 = a) ∧ (k 2 = b ∧ k 14 = b) ∧ (k 3 = c ∧ k 21 = c) ∧ (k 9 = d ∧ k 15 = d) ∧ (k 10 = e ∧ k 22 = e) ∧ (k 17 = f ∧ k 23 = f)
theorem tb_Cs_pr (a b c d e f : Nat) : tb_Cs (tb_pr a b c d e f) a b c d e f := ⟨⟨rfl, rfl⟩, ⟨rfl, rfl⟩, ⟨rfl, rfl⟩, ⟨rfl, rfl⟩, ⟨rfl, rfl⟩, ⟨rfl, rfl⟩⟩
theorem tb_Cs_open (a b c d e f : Nat) : tb_Cs (tb_c (tb_pr a b c d e f) (fun _ => 0)) a b c d e f := ⟨⟨rfl, rfl⟩, ⟨rfl, rfl⟩, ⟨rfl, rfl⟩, ⟨rfl, rfl⟩, ⟨rfl, rfl⟩, ⟨rfl, rfl⟩⟩
theorem tb_Cs_shut (a b c d e f : Nat) : tb_Cs (tb_c (tb_pr a b c d e f) (tb_w (fun _ => 0) 0 1 2)) 1000000 b c d e f := ⟨⟨rfl, rfl⟩, ⟨rfl, rfl⟩, ⟨rfl, rfl⟩, ⟨rfl, rfl⟩, ⟨rfl, rfl⟩, ⟨rfl, rfl⟩⟩
theorem tb_a1 {c l w : Nat} (h : c + l < 1000000) : tb_s c l w (1000000, 0) = (c + l, w) := tb_s1 (by omega) (by omega) h
def tb_g (p q : Nat) : Nat × Nat := (min p q, if p = q then 2 else 1)
theorem tb_a2 {c l p : Nat} (h : c + l < 1000000) : tb_s c l 1 (p, 1) = tb_g p (c + l) := by
  unfold tb_g
  rcases Nat.lt_trichotomy (c + l) p with z | z | z
  · rw [tb_s1 (by omega) (by omega) z, if_neg (by omega), Nat.min_eq_right (by omega)]
  · rw [tb_s2 (by omega) (by omega) z, if_pos (by omega), Nat.min_eq_left (by omega)]
  · rw [tb_s3 (by omega) (by omega) z, if_neg (by omega), Nat.min_eq_left (by omega)]
/-- the rows of the table that the law reaches, over any costs and base -/
theorem tb_r22 (k : Nat → Nat) (B : Nat → Nat × Nat) : tb_R k B 2 2 = tb_s (k 15) (B 1).1 (B 1).2 (1000000, 0) := rfl
theorem tb_r23 (k : Nat → Nat) (B : Nat → Nat × Nat) : tb_R k B 2 3 = tb_s (k 22) (B 1).1 (B 1).2 (1000000, 0) := rfl
theorem tb_r41 (k : Nat → Nat) (B : Nat → Nat × Nat) : tb_R k B 4 1 = tb_s (k 9) (B 2).1 (B 2).2 (1000000, 0) := rfl
theorem tb_r43 (k : Nat → Nat) (B : Nat → Nat × Nat) : tb_R k B 4 3 = tb_s (k 23) (B 2).1 (B 2).2 (1000000, 0) := rfl
theorem tb_r81 (k : Nat → Nat) (B : Nat → Nat × Nat) : tb_R k B 8 1 = tb_s (k 10) (B 3).1 (B 3).2 (1000000, 0) := rfl
theorem tb_r82 (k : Nat → Nat) (B : Nat → Nat × Nat) : tb_R k B 8 2 = tb_s (k 17) (B 3).1 (B 3).2 (1000000, 0) := rfl
theorem tb_rC1 (k : Nat → Nat) (B : Nat → Nat × Nat) : tb_R k B 12 1 = tb_s (k 10) (tb_R k B 4 3).1 (tb_R k B 4 3).2 (tb_s (k 9) (tb_R k B 8 2).1 (tb_R k B 8 2).2 (1000000, 0)) := rfl
theorem tb_rA2 (k : Nat → Nat) (B : Nat → Nat × Nat) : tb_R k B 10 2 = tb_s (k 17) (tb_R k B 2 3).1 (tb_R k B 2 3).2 (tb_s (k 15) (tb_R k B 8 1).1 (tb_R k B 8 1).2 (1000000, 0)) := rfl
theorem tb_r63 (k : Nat → Nat) (B : Nat → Nat × Nat) : tb_R k B 6 3 = tb_s (k 23) (tb_R k B 2 2).1 (tb_R k B 2 2).2 (tb_s (k 22) (tb_R k B 4 1).1 (tb_R k B 4 1).2 (1000000, 0)) := rfl
theorem tb_rE0 (k : Nat → Nat) (B : Nat → Nat × Nat) : tb_R k B 14 0 = tb_s (k 3) (tb_R k B 6 3).1 (tb_R k B 6 3).2 (tb_s (k 2) (tb_R k B 10 2).1 (tb_R k B 10 2).2 (tb_s (k 1) (tb_R k B 12 1).1 (tb_R k B 12 1).2 (1000000, 0))) := rfl
/-- the values that the tour methods read -/
def tb_Vs (k : Nat → Nat) (R : Nat → Nat → Nat × Nat) (a b c d e f : Nat) : Prop :=
  (R 0 1 = (a, 1) ∧ R 0 2 = (b, 1) ∧ R 0 3 = (c, 1)) ∧
  (R 2 2 = (d + a, 1) ∧ R 2 3 = (e + a, 1) ∧ R 4 1 = (d + b, 1) ∧ R 4 3 = (f + b, 1) ∧ R 8 1 = (e + c, 1) ∧ R 8 2 = (f + c, 1)) ∧
  (R 12 1 = tb_g (d + (f + c)) (e + (f + b)) ∧ R 10 2 = tb_g (d + (e + c)) (f + (e + a)) ∧ R 6 3 = tb_g (e + (d + b)) (f + (d + a)))
theorem tb_b1 {k : Nat → Nat} {v : Nat} (h : k 7 = v) (hv : v < 1000000) : tb_b k 1 = (v, 1) := by
  show (k 7, if k 7 < 1000000 then 1 else 0) = (v, 1)
  rw [h, if_pos hv]
theorem tb_b2 {k : Nat → Nat} {v : Nat} (h : k 14 = v) (hv : v < 1000000) : tb_b k 2 = (v, 1) := by
  show (k 14, if k 14 < 1000000 then 1 else 0) = (v, 1)
  rw [h, if_pos hv]
theorem tb_b3 {k : Nat → Nat} {v : Nat} (h : k 21 = v) (hv : v < 1000000) : tb_b k 3 = (v, 1) := by
  show (k 21, if k 21 < 1000000 then 1 else 0) = (v, 1)
  rw [h, if_pos hv]
theorem tb_vals {k : Nat → Nat} {a b c d e f : Nat} (h : tb_Cs k a b c d e f) (ha : a ≤ 31) (hb : b ≤ 31) (hc : c ≤ 31) (hd : d ≤ 31) (he : e ≤ 31) (hf : f ≤ 31) : tb_Vs k (tb_R k (tb_b k)) a b c d e f := by
  obtain ⟨⟨k1, k7⟩, ⟨k2, k14⟩, ⟨k3, k21⟩, ⟨k9, k15⟩, ⟨k10, k22⟩, ⟨k17, k23⟩⟩ := h
  have b1 := tb_b1 k7 (by omega)
  have b2 := tb_b2 k14 (by omega)
  have b3 := tb_b3 k21 (by omega)
  have r22 : tb_R k (tb_b k) 2 2 = (d + a, 1) := by rw [tb_r22, k15, b1, tb_a1 (by omega)]
  have r23 : tb_R k (tb_b k) 2 3 = (e + a, 1) := by rw [tb_r23, k22, b1, tb_a1 (by omega)]
  have r41 : tb_R k (tb_b k) 4 1 = (d + b, 1) := by rw [tb_r41, k9, b2, tb_a1 (by omega)]
  have r43 : tb_R k (tb_b k) 4 3 = (f + b, 1) := by rw [tb_r43, k23, b2, tb_a1 (by omega)]
  have r81 : tb_R k (tb_b k) 8 1 = (e + c, 1) := by rw [tb_r81, k10, b3, tb_a1 (by omega)]
  have r82 : tb_R k (tb_b k) 8 2 = (f + c, 1) := by rw [tb_r82, k17, b3, tb_a1 (by omega)]
  refine ⟨⟨b1, b2, b3⟩, ⟨r22, r23, r41, r43, r81, r82⟩, ?_, ?_, ?_⟩
  · rw [tb_rC1, r43, r82, k10, k9, tb_a1 (by omega), tb_a2 (by omega)]
  · rw [tb_rA2, r23, r81, k17, k15, tb_a1 (by omega), tb_a2 (by omega)]
  · rw [tb_r63, r22, r41, k23, k22, tb_a1 (by omega), tb_a2 (by omega)]
theorem tb_g1 (p q : Nat) : (tb_g p q).1 = min p q := rfl
theorem tb_g2 (p q : Nat) : (tb_g p q).2 = if p = q then 2 else 1 := rfl
/-- a candidate from two ways -/
theorem tb_o (v w r1 r2 : Nat) : (if v < r1 then (v, w) else if v = r1 then (r1, r2 + w) else (r1, r2)) = (min r1 v, if v < r1 then w else if v = r1 then r2 + w else r2) := by
  by_cases h : v < r1
  · rw [if_pos h, if_pos h, Nat.min_eq_right (by omega)]
  · by_cases h2 : v = r1
    · rw [if_neg h, if_neg h, if_pos h2, if_pos h2, Nat.min_eq_left (by omega)]
    · rw [if_neg h, if_neg h, if_neg h2, if_neg h2, Nat.min_eq_left (by omega)]
theorem tb_a3 {c p q w v r1 r2 : Nat} (hv : c + min p q = v) (h : v < 1000000) (hw : (if p = q then 2 else 1) = w) : tb_s c (tb_g p q).1 (tb_g p q).2 (r1, r2) = (min r1 v, if v < r1 then w else if v = r1 then r2 + w else r2) := by
  unfold tb_s
  rw [tb_g1, tb_g2, hw, hv, if_pos ⟨by omega, by omega⟩]
  exact tb_o v w r1 r2
theorem tb_if {p q : Prop} [Decidable p] [Decidable q] (h : p ↔ q) : (if p then 2 else 1) = if q then 2 else 1 := by
  by_cases hp : p
  · rw [if_pos hp, if_pos (h.mp hp)]
  · rw [if_neg hp, if_neg (fun z => hp (h.mpr z))]
/-- three tours x, y, z: each is met from two sides -/
theorem tb_three (x y z : Nat) :
    (if min z x < min (min x y) (min z y) then (if z = x then 2 else 1) else if min z x = min (min x y) (min z y) then (if min z y < min x y then (if z = y then 2 else 1) else if min z y = min x y then (if x = y then 2 else 1) + (if z = y then 2 else 1) else (if x = y then 2 else 1)) + (if z = x then 2 else 1) else (if min z y < min x y then (if z = y then 2 else 1) else if min z y = min x y then (if x = y then 2 else 1) + (if z = y then 2 else 1) else (if x = y then 2 else 1))) = (if x = min x (min y z) then 2 else 0) + (if y = min x (min y z) then 2 else 0) + (if z = min x (min y z) then 2 else 0) := by
  rcases Nat.lt_trichotomy x y with h1 | h1 | h1 <;> rcases Nat.lt_trichotomy y z with h2 | h2 | h2 <;> rcases Nat.lt_trichotomy x z with h3 | h3 | h3 <;> first
    | (exfalso; omega)
    | (repeat (first | rw [if_pos (by omega)] | rw [if_neg (by omega)]))
theorem tb_fold {a b c d e f x y z : Nat} (ha : a ≤ 31) (hb : b ≤ 31) (hc : c ≤ 31) (hd : d ≤ 31) (he : e ≤ 31) (hf : f ≤ 31) (hx : x = a + d + f + c) (hy : y = a + e + f + b) (hz : z = b + d + e + c) :
    tb_s c (tb_g (e + (d + b)) (f + (d + a))).1 (tb_g (e + (d + b)) (f + (d + a))).2 (tb_s b (tb_g (d + (e + c)) (f + (e + a))).1 (tb_g (d + (e + c)) (f + (e + a))).2 (tb_s a (tb_g (d + (f + c)) (e + (f + b))).1 (tb_g (d + (f + c)) (e + (f + b))).2 (1000000, 0))) = (min x (min y z), (if x = min x (min y z) then 2 else 0) + (if y = min x (min y z) then 2 else 0) + (if z = min x (min y z) then 2 else 0)) := by
  have l : min x y < 1000000 := by omega
  have l2 : min 1000000 (min x y) = min x y := Nat.min_eq_right (Nat.le_of_lt l)
  have l3 : min (min (min x y) (min z y)) (min z x) = min x (min y z) := by omega
  rw [tb_a3 (c := a) (v := min x y) (w := if x = y then 2 else 1) (by omega) (by omega) (tb_if (by omega)), if_pos l, l2]
  rw [tb_a3 (c := b) (v := min z y) (w := if z = y then 2 else 1) (by omega) (by omega) (tb_if (by omega))]
  rw [tb_a3 (c := c) (v := min z x) (w := if z = x then 2 else 1) (by omega) (by omega) (tb_if (by omega))]
  rw [tb_three x y z, l3]
theorem tb_openBest {k : Nat → Nat} {a b c d e f x y z : Nat} (h : tb_Cs k a b c d e f) (ha : a ≤ 31) (hb : b ≤ 31) (hc : c ≤ 31) (hd : d ≤ 31) (he : e ≤ 31) (hf : f ≤ 31) (hx : x = a + d + f + c) (hy : y = a + e + f + b) (hz : z = b + d + e + c) :
    tb_R k (tb_b k) 14 0 = (min x (min y z), (if x = min x (min y z) then 2 else 0) + (if y = min x (min y z) then 2 else 0) + (if z = min x (min y z) then 2 else 0)) := by
  obtain ⟨_, _, rC, rA, r6⟩ := tb_vals h ha hb hc hd he hf
  obtain ⟨⟨k1, k7⟩, ⟨k2, k14⟩, ⟨k3, k21⟩, ⟨k9, k15⟩, ⟨k10, k22⟩, ⟨k17, k23⟩⟩ := h
  rw [tb_rE0, rC, rA, r6, k1, k2, k3]
  exact tb_fold ha hb hc hd he hf hx hy hz
theorem tb_shutVals {k : Nat → Nat} {b c d e f : Nat} (h : tb_Cs k 1000000 b c d e f) (hb : b ≤ 31) (hc : c ≤ 31) (hd : d ≤ 31) (he : e ≤ 31) (hf : f ≤ 31) :
    tb_R k (tb_b k) 0 1 = (1000000, 0) ∧ tb_R k (tb_b k) 0 2 = (b, 1) ∧ tb_R k (tb_b k) 0 3 = (c, 1) ∧ tb_R k (tb_b k) 2 2 = (1000000, 0) ∧ tb_R k (tb_b k) 2 3 = (1000000, 0) ∧ tb_R k (tb_b k) 4 1 = (d + b, 1) ∧ tb_R k (tb_b k) 4 3 = (f + b, 1) ∧ tb_R k (tb_b k) 8 1 = (e + c, 1) ∧ tb_R k (tb_b k) 8 2 = (f + c, 1) ∧ tb_R k (tb_b k) 10 2 = (d + (e + c), 1) ∧ tb_R k (tb_b k) 6 3 = (e + (d + b), 1) ∧ tb_R k (tb_b k) 14 0 = (b + d + e + c, 2) := by
  obtain ⟨⟨k1, k7⟩, ⟨k2, k14⟩, ⟨k3, k21⟩, ⟨k9, k15⟩, ⟨k10, k22⟩, ⟨k17, k23⟩⟩ := h
  have b1 : tb_b k 1 = (1000000, 0) := by
    show (k 7, if k 7 < 1000000 then 1 else 0) = (1000000, 0)
    rw [k7]
    rfl
  have b2 := tb_b2 k14 (by omega)
  have b3 := tb_b3 k21 (by omega)
  have r22 : tb_R k (tb_b k) 2 2 = (1000000, 0) := by rw [tb_r22, k15, b1, tb_s4 (by omega)]
  have r23 : tb_R k (tb_b k) 2 3 = (1000000, 0) := by rw [tb_r23, k22, b1, tb_s4 (by omega)]
  have r41 : tb_R k (tb_b k) 4 1 = (d + b, 1) := by rw [tb_r41, k9, b2, tb_a1 (by omega)]
  have r43 : tb_R k (tb_b k) 4 3 = (f + b, 1) := by rw [tb_r43, k23, b2, tb_a1 (by omega)]
  have r81 : tb_R k (tb_b k) 8 1 = (e + c, 1) := by rw [tb_r81, k10, b3, tb_a1 (by omega)]
  have r82 : tb_R k (tb_b k) 8 2 = (f + c, 1) := by rw [tb_r82, k17, b3, tb_a1 (by omega)]
  have rA : tb_R k (tb_b k) 10 2 = (d + (e + c), 1) := by rw [tb_rA2, r23, r81, k17, k15, tb_a1 (by omega), tb_s4 (by omega)]
  have r6 : tb_R k (tb_b k) 6 3 = (e + (d + b), 1) := by rw [tb_r63, r22, r41, k23, k22, tb_a1 (by omega), tb_s4 (by omega)]
  refine ⟨b1, b2, b3, r22, r23, r41, r43, r81, r82, rA, r6, ?_⟩
  rw [tb_rE0, rA, r6, k1, k2, k3, tb_s4 (c := 1000000) (by omega), tb_a1 (by omega), tb_s2 (by omega) (by omega) (by show c + (e + (d + b)) = b + (d + (e + c)); omega)]
  show (b + (d + (e + c)), 1 + 1) = (b + d + e + c, 2)
  rw [show b + (d + (e + c)) = b + d + e + c by omega]
end
section
/-! ===== part 05: bestCode ===== -/
def tb_lead (k : Nat → Nat) (R : Nat → Nat → Nat × Nat) (s t n : Nat) : Bool := decide (s / 2 ^ n % 2 = 1 ∧ k (7 * t + n) < 1000000 ∧ k (7 * t + n) + (R (s - 2 ^ n) n).1 = (R s t).1)
def tb_nx (k : Nat → Nat) (R : Nat → Nat → Nat × Nat) (s t : Nat) : Nat := if tb_lead k R s t 1 = true then 1 else if tb_lead k R s t 2 = true then 2 else 3
def tb_rm (s n : Nat) : Nat := if s / 2 ^ n % 2 = 1 then s - 2 ^ n else s
theorem tb_rm_lt : ∀ s, s < 16 → ∀ n, n < 4 → tb_rm s n < 16 := by decide +kernel
theorem tb_nx_lt (k : Nat → Nat) (R : Nat → Nat → Nat × Nat) (s t : Nat) : tb_nx k R s t < 4 := by
  unfold tb_nx
  split
  · omega
  · split <;> omega
theorem tb_leads {post : Int32 → Prop} {rq : Int32} {P M C A B a6 a7 a8 a9 a10 a11 : Nat → Int32} {k : Nat → Nat} {b : Nat → Nat × Nat} {s t n : Nat} (hs : s < 16) (ht : t < 4) (hn : n < 4) (hC : tb_Co k C) (hT : tb_Tab k b A B) (hb : ∀ t, t < 4 → (b t).1 ≤ 1000000)
    (h1 : tb_lead k (tb_R k b) s t n = true → post 1) (h0 : ¬ tb_lead k (tb_R k b) s t n = true → post 0) :
    wpX_leadsOn post (4, rq, P, M, C, A, B, a6, a7, a8, a9, a10, a11) (nI s) (nI t) (nI n) := by
  have hc := hC (7 * t + n) (by omega)
  have hc2 := hc.2
  have kc : (nI (7 * t + n)).toNatClampNeg = 7 * t + n := nI_clamp (by omega)
  have inc : vp_in ((7 * nI t) + nI n) 49 := pk_in (7 * t + n) 49 (by omega) (tb_ix t n)
  have vc : C ((7 * nI t) + nI n).toNatClampNeg = nI (k (7 * t + n)) := by
    rw [tb_ix, kc]
    exact hc.1
  unfold wpX_leadsOn
  refine pk_eq (s / 2 ^ n % 2) 0 (fun hz => h0 ?_) (fun hz => And.intro inc ?_) (tb_bit s hs n hn) rfl (tb_m2 _) (by omega)
  · unfold tb_lead
    rw [decide_eq_true_eq]
    omega
  · have hz1 : s / 2 ^ n % 2 = 1 := by omega
    obtain ⟨hd1, hd2⟩ := tb_down s hs n hn hz1
    refine pk_lt (k (7 * t + n)) 1000000 (fun hl => ?_) (fun hl => h0 ?_) vc rfl (by omega) (by omega)
    · intro x4 e4
      rw [tb_clr s hs n hn, if_pos hz1, tb_ix] at e4
      subst e4
      have l1 := tb_R_le (c := k) (s := s - 2 ^ n) hb (by omega) hn
      have l2 := tb_R_le (c := k) (s := s) hb hs ht
      refine ⟨inc, pk_in (7 * (s - 2 ^ n) + n) 896 (by omega), pk_in (7 * s + t) 896 (by omega) (tb_ix s t), ?_⟩
      refine pk_eq (k (7 * t + n) + (tb_R k b (s - 2 ^ n) n).1) (tb_R k b s t).1 (fun he => h1 ?_) (fun he => h0 ?_) ?_ ?_ (by omega) (by omega)
      · unfold tb_lead
        rw [decide_eq_true_eq]
        exact ⟨hz1, hl, he⟩
      · unfold tb_lead
        rw [decide_eq_true_eq]
        exact fun h => he h.2.2
      · rw [vc, nI_clamp (by omega), (hT (s - 2 ^ n) (by omega) n hn).1, nI_add]
      · rw [tb_ix, nI_clamp (by omega), (hT s hs t ht).1]
    · unfold tb_lead
      rw [decide_eq_true_eq]
      omega
theorem tb_code_in {post : Int32 → St2 → Prop} {J : Int32 → Int32 → Int32 → Int32 → Prop} {P M C A B a6 a7 a8 a9 a10 a11 : Nat → Int32} {k : Nat → Nat} {b : Nat → Nat × Nat} {s t q i : Nat} (hs : s < 16) (ht : t < 4) (hC : tb_Co k C) (hT : tb_Tab k b A B) (hb : ∀ t, t < 4 → (b t).1 ≤ 1000000)
    (H : J (nI (tb_rm s (tb_nx k (tb_R k b) s t))) (nI (tb_nx k (tb_R k b) s t)) (nI (7 * q + tb_nx k (tb_R k b) s t)) (nI (i + 1))) :
    ∃ n, wX_bestCode_41 post J (nI s) (nI t) (nI q) (nI i) 4 0 P M C A B a6 a7 a8 a9 a10 a11 n 1 := by
  have fin : ∀ v, v < 4 → tb_nx k (tb_R k b) s t = v → wX_bestCode_69 post J (nI s) (nI q) (nI i) (nI v) 4 0 P M C A B a6 a7 a8 a9 a10 a11 := by
    intro v hv e
    subst e
    unfold wX_bestCode_69
    intro x3 e3 x1 e1 x4 e4
    rw [tb_ix] at e3
    rw [tb_clr s hs _ hv] at e1
    rw [nI_1] at e4
    subst e3
    subst e1
    subst e4
    exact H
  have s3 : ∀ n, ¬ tb_lead k (tb_R k b) s t 1 = true → ¬ tb_lead k (tb_R k b) s t 2 = true → wX_bestCode_41 post J (nI s) (nI t) (nI q) (nI i) 4 0 P M C A B a6 a7 a8 a9 a10 a11 (n + 1) (nI 3) := by
    intro n g1 g2
    refine pk_le 3 3 (fun _ => fin 3 (by omega) ?_) (fun z => absurd z (by omega)) rfl rfl
    unfold tb_nx
    rw [if_neg g1, if_neg g2]
  have s2 : ∀ n, ¬ tb_lead k (tb_R k b) s t 1 = true → wX_bestCode_41 post J (nI s) (nI t) (nI q) (nI i) 4 0 P M C A B a6 a7 a8 a9 a10 a11 (n + 1 + 1) (nI 2) := by
    intro n g1
    refine pk_le 3 2 (fun z => absurd z (by omega)) (fun _ => tb_leads (n := 2) hs ht (by omega) hC hT hb (fun g2 => br_f (by decide) (fin 2 (by omega) ?_)) (fun g2 => br_t rfl (nm_r (nI_1 2) (s3 n g1 g2)))) rfl rfl
    unfold tb_nx
    rw [if_neg g1, if_pos g2]
  refine ⟨0 + 1 + 1 + 1, ?_⟩
  refine pk_le 3 1 (fun z => absurd z (by omega)) (fun _ => tb_leads (n := 1) hs ht (by omega) hC hT hb (fun g1 => br_f (by decide) (fin 1 (by omega) ?_)) (fun g1 => br_t rfl (nm_r (nI_1 1) (s2 0 g1)))) rfl rfl
  unfold tb_nx
  rw [if_pos g1]
def tb_n1 (k : Nat → Nat) (R : Nat → Nat → Nat × Nat) : Nat := tb_nx k R 14 0
def tb_s1' (k : Nat → Nat) (R : Nat → Nat → Nat × Nat) : Nat := tb_rm 14 (tb_n1 k R)
def tb_n2 (k : Nat → Nat) (R : Nat → Nat → Nat × Nat) : Nat := tb_nx k R (tb_s1' k R) (tb_n1 k R)
def tb_s2' (k : Nat → Nat) (R : Nat → Nat → Nat × Nat) : Nat := tb_rm (tb_s1' k R) (tb_n2 k R)
def tb_n3 (k : Nat → Nat) (R : Nat → Nat → Nat × Nat) : Nat := tb_nx k R (tb_s2' k R) (tb_n2 k R)
def tb_code (k : Nat → Nat) (R : Nat → Nat → Nat × Nat) : Nat := 7 * (7 * (7 * 0 + tb_n1 k R) + tb_n2 k R) + tb_n3 k R
theorem tb_codeW {post : Int32 → St2 → Prop} {p m : Nat → Nat} {v q : Nat} (hv : (tb_best p m).1 = v) (hv2 : v ≤ 280) (hq : tb_code (tb_c p m) (tb_R (tb_c p m) (tb_b (tb_c p m))) = q) (H : tb_Post p m (post (nI q))) : tb_Post p m (fun u => wpX_bestCode post u) := by
  intro rq P M C A B a6 a7 a8 a9 a10 a11 hp
  show wpX_bestCode post _
  unfold wpX_bestCode
  refine tb_fill hp (fun C' A' B' hC hT => tb_now hT hv hv2 (pk_le 0 v (fun _ => ?_) (fun z => absurd z (by omega))))
  have hb := tb_b_le hC
  generalize hk : tb_c p m = k at hC hT hb hq
  intro x1 e1
  rw [show (1 : Int32) <<< ((4 : Int32) &&& 31) - 2 = nI 14 by decide] at e1
  subst e1
  have l1 : tb_n1 k (tb_R k (tb_b k)) < 4 := tb_nx_lt _ _ _ _
  have l2 : tb_n2 k (tb_R k (tb_b k)) < 4 := tb_nx_lt _ _ _ _
  have r1 : tb_s1' k (tb_R k (tb_b k)) < 16 := tb_rm_lt _ (by omega) _ l1
  have r2 : tb_s2' k (tb_R k (tb_b k)) < 16 := tb_rm_lt _ r1 _ l2
  refine ⟨0 + 1 + 1 + 1 + 1, ?_⟩
  refine pk_le 4 1 (fun z => absurd z (by omega)) (fun _ => tb_code_in (s := 14) (t := 0) (q := 0) (i := 1) (by omega) (by omega) hC hT hb ?_)
  refine pk_le 4 2 (fun z => absurd z (by omega)) (fun _ => tb_code_in (s := tb_s1' k (tb_R k (tb_b k))) (t := tb_n1 k (tb_R k (tb_b k))) (q := 7 * 0 + tb_n1 k (tb_R k (tb_b k))) (i := 2) r1 l1 hC hT hb ?_)
  refine pk_le 4 3 (fun z => absurd z (by omega)) (fun _ => tb_code_in (s := tb_s2' k (tb_R k (tb_b k))) (t := tb_n2 k (tb_R k (tb_b k))) (q := 7 * (7 * 0 + tb_n1 k (tb_R k (tb_b k))) + tb_n2 k (tb_R k (tb_b k))) (i := 3) r2 l2 hC hT hb ?_)
  refine pk_le 4 4 (fun _ => ?_) (fun z => absurd z (by omega))
  have hq' : 7 * (7 * (7 * 0 + tb_n1 k (tb_R k (tb_b k))) + tb_n2 k (tb_R k (tb_b k))) + tb_nx k (tb_R k (tb_b k)) (tb_s2' k (tb_R k (tb_b k))) (tb_n2 k (tb_R k (tb_b k))) = q := hq
  rw [hq']
  exact H _ _ _ _ _ _ _ _ _ _ _ _ hp
/-! the plain law of bestCode -/
theorem tb_nx_of1 {k : Nat → Nat} {R : Nat → Nat → Nat × Nat} {s t : Nat} (h : s / 2 ^ 1 % 2 = 1 ∧ k (7 * t + 1) < 1000000 ∧ k (7 * t + 1) + (R (s - 2 ^ 1) 1).1 = (R s t).1) : tb_nx k R s t = 1 := by
  unfold tb_nx tb_lead
  rw [if_pos (decide_eq_true h)]
theorem tb_nx_of2 {k : Nat → Nat} {R : Nat → Nat → Nat × Nat} {s t : Nat} (h1 : ¬ (s / 2 ^ 1 % 2 = 1 ∧ k (7 * t + 1) < 1000000 ∧ k (7 * t + 1) + (R (s - 2 ^ 1) 1).1 = (R s t).1)) (h : s / 2 ^ 2 % 2 = 1 ∧ k (7 * t + 2) < 1000000 ∧ k (7 * t + 2) + (R (s - 2 ^ 2) 2).1 = (R s t).1) : tb_nx k R s t = 2 := by
  unfold tb_nx tb_lead
  rw [if_neg (by rw [decide_eq_true_eq]; exact h1), if_pos (decide_eq_true h)]
theorem tb_nx_of3 {k : Nat → Nat} {R : Nat → Nat → Nat × Nat} {s t : Nat} (h1 : ¬ (s / 2 ^ 1 % 2 = 1 ∧ k (7 * t + 1) < 1000000 ∧ k (7 * t + 1) + (R (s - 2 ^ 1) 1).1 = (R s t).1)) (h2 : ¬ (s / 2 ^ 2 % 2 = 1 ∧ k (7 * t + 2) < 1000000 ∧ k (7 * t + 2) + (R (s - 2 ^ 2) 2).1 = (R s t).1)) : tb_nx k R s t = 3 := by
  unfold tb_nx tb_lead
  rw [if_neg (by rw [decide_eq_true_eq]; exact h1), if_neg (by rw [decide_eq_true_eq]; exact h2)]
theorem tb_lt31 {v : Nat} (h : v ≤ 31) : v < 1000000 := by omega
section
variable {a b c d e f x y z : Nat}
theorem tb_ar1 (hx : x = a + d + f + c) (hy : y = a + e + f + b) (hm : min x y ≤ z) : a + min (d + (f + c)) (e + (f + b)) = min x (min y z) := by omega
theorem tb_ar2 (hx : x = a + d + f + c) (hy : y = a + e + f + b) (hm : z < min x y) : ¬ a + min (d + (f + c)) (e + (f + b)) = min x (min y z) := by omega
theorem tb_ar3 (hy : y = a + e + f + b) (hz : z = b + d + e + c) (hm : z < min x y) : b + min (d + (e + c)) (f + (e + a)) = min x (min y z) := by omega
theorem tb_ar4 (hx : x = a + d + f + c) (hy : y = a + e + f + b) (hm : x ≤ y) : d + (f + c) = min (d + (f + c)) (e + (f + b)) := by omega
theorem tb_ar5 (hx : x = a + d + f + c) (hy : y = a + e + f + b) (hm : y < x) : ¬ d + (f + c) = min (d + (f + c)) (e + (f + b)) := by omega
theorem tb_ar6 (hy : y = a + e + f + b) (hz : z = b + d + e + c) (hm : z ≤ y) : d + (e + c) = min (d + (e + c)) (f + (e + a)) := by omega
theorem tb_ar7 (h1 : min x y ≤ z) (h2 : x ≤ y) : x = min x (min y z) := by omega
theorem tb_ar8 (h1 : min x y ≤ z) (h2 : ¬ x ≤ y) : ¬ x = min x (min y z) ∧ y = min x (min y z) := by omega
theorem tb_ar9 (h1 : ¬ min x y ≤ z) : ¬ x = min x (min y z) ∧ ¬ y = min x (min y z) ∧ z < min x y ∧ z ≤ y := by omega
end
theorem tb_codeLaw {k : Nat → Nat} {a b c d e f x y z : Nat} (h : tb_Cs k a b c d e f) (ha : a ≤ 31) (hb : b ≤ 31) (hc : c ≤ 31) (hd : d ≤ 31) (he : e ≤ 31) (hf : f ≤ 31) (hx : x = a + d + f + c) (hy : y = a + e + f + b) (hz : z = b + d + e + c) :
    tb_code k (tb_R k (tb_b k)) = if x = min x (min y z) then 66 else if y = min x (min y z) then 72 else 108 := by
  have hE := congrArg Prod.fst (tb_openBest h ha hb hc hd he hf hx hy hz)
  have hV := tb_vals h ha hb hc hd he hf
  obtain ⟨⟨k1, k7⟩, ⟨k2, k14⟩, ⟨k3, k21⟩, ⟨k9, k15⟩, ⟨k10, k22⟩, ⟨k17, k23⟩⟩ := h
  generalize tb_R k (tb_b k) = R at hE hV
  obtain ⟨⟨v1, v2, v3⟩, ⟨r22, r23, r41, r43, r81, r82⟩, rC, rA, r6⟩ := hV
  have w2 : (R 0 2).1 = b := congrArg Prod.fst v2
  have w43 : (R 4 3).1 = f + b := congrArg Prod.fst r43
  have w81 : (R 8 1).1 = e + c := congrArg Prod.fst r81
  have w82 : (R 8 2).1 = f + c := congrArg Prod.fst r82
  have wC : (R 12 1).1 = min (d + (f + c)) (e + (f + b)) := congrArg Prod.fst rC
  have wA : (R 10 2).1 = min (d + (e + c)) (f + (e + a)) := congrArg Prod.fst rA
  have wE : (R 14 0).1 = min x (min y z) := hE
  clear hE v1 v2 v3 r22 r23 r41 r43 r81 r82 rC rA r6
  have q1 : min x y ≤ z → tb_nx k R 14 0 = 1 := by
    intro hm
    refine tb_nx_of1 ⟨by decide, ?_, ?_⟩
    · show k 1 < 1000000
      rw [k1]
      exact tb_lt31 ha
    · show k 1 + (R 12 1).1 = (R 14 0).1
      rw [k1, wC, wE]
      exact tb_ar1 hx hy hm
  have q2 : z < min x y → tb_nx k R 14 0 = 2 := by
    intro hm
    refine tb_nx_of2 (fun g => ?_) ⟨by decide, ?_, ?_⟩
    · have g2 : k 1 + (R 12 1).1 = (R 14 0).1 := g.2.2
      rw [k1, wC, wE] at g2
      exact tb_ar2 hx hy hm g2
    · show k 2 < 1000000
      rw [k2]
      exact tb_lt31 hb
    · show k 2 + (R 10 2).1 = (R 14 0).1
      rw [k2, wA, wE]
      exact tb_ar3 hy hz hm
  have q3 : x ≤ y → tb_nx k R 12 1 = 2 := by
    intro hm
    refine tb_nx_of2 (fun g => absurd g.1 (by decide)) ⟨by decide, ?_, ?_⟩
    · show k 9 < 1000000
      rw [k9]
      exact tb_lt31 hd
    · show k 9 + (R 8 2).1 = (R 12 1).1
      rw [k9, w82, wC]
      exact tb_ar4 hx hy hm
  have q4 : y < x → tb_nx k R 12 1 = 3 := by
    intro hm
    refine tb_nx_of3 (fun g => absurd g.1 (by decide)) (fun g => ?_)
    have g2 : k 9 + (R 8 2).1 = (R 12 1).1 := g.2.2
    rw [k9, w82, wC] at g2
    exact tb_ar5 hx hy hm g2
  have q5 : tb_nx k R 8 2 = 3 := tb_nx_of3 (fun g => absurd g.1 (by decide)) (fun g => absurd g.1 (by decide))
  have q6 : tb_nx k R 8 1 = 3 := tb_nx_of3 (fun g => absurd g.1 (by decide)) (fun g => absurd g.1 (by decide))
  have q7 : tb_nx k R 4 3 = 2 := by
    refine tb_nx_of2 (fun g => absurd g.1 (by decide)) ⟨by decide, ?_, ?_⟩
    · show k 23 < 1000000
      rw [k23]
      exact tb_lt31 hf
    · show k 23 + (R 0 2).1 = (R 4 3).1
      rw [k23, w2, w43]
  have q8 : z ≤ y → tb_nx k R 10 2 = 1 := by
    intro hm
    refine tb_nx_of1 ⟨by decide, ?_, ?_⟩
    · show k 15 < 1000000
      rw [k15]
      exact tb_lt31 hd
    · show k 15 + (R 8 1).1 = (R 10 2).1
      rw [k15, w81, wA]
      exact tb_ar6 hy hz hm
  by_cases c1 : min x y ≤ z
  · have n1 : tb_n1 k R = 1 := q1 c1
    have s1 : tb_s1' k R = 12 := by
      unfold tb_s1'
      rw [n1]
      rfl
    by_cases c2 : x ≤ y
    · have n2 : tb_n2 k R = 2 := by
        unfold tb_n2
        rw [s1, n1]
        exact q3 c2
      have s2 : tb_s2' k R = 8 := by
        unfold tb_s2'
        rw [s1, n2]
        rfl
      have n3 : tb_n3 k R = 3 := by
        unfold tb_n3
        rw [s2, n2]
        exact q5
      unfold tb_code
      rw [n1, n2, n3, if_pos (tb_ar7 c1 c2)]
    · have n2 : tb_n2 k R = 3 := by
        unfold tb_n2
        rw [s1, n1]
        exact q4 (Nat.lt_of_not_le c2)
      have s2 : tb_s2' k R = 4 := by
        unfold tb_s2'
        rw [s1, n2]
        rfl
      have n3 : tb_n3 k R = 2 := by
        unfold tb_n3
        rw [s2, n2]
        exact q7
      unfold tb_code
      rw [n1, n2, n3, if_neg (tb_ar8 c1 c2).1, if_pos (tb_ar8 c1 c2).2]
  · obtain ⟨i1, i2, i3, i4⟩ := tb_ar9 c1
    have n1 : tb_n1 k R = 2 := q2 i3
    have s1 : tb_s1' k R = 10 := by
      unfold tb_s1'
      rw [n1]
      rfl
    have n2 : tb_n2 k R = 1 := by
      unfold tb_n2
      rw [s1, n1]
      exact q8 i4
    have s2 : tb_s2' k R = 8 := by
      unfold tb_s2'
      rw [s1, n2]
      rfl
    have n3 : tb_n3 k R = 3 := by
      unfold tb_n3
      rw [s2, n2]
      exact q6
    unfold tb_code
    rw [n1, n2, n3, if_neg i1, if_neg i2]
end
section
/-! ===== part 06: within ===== -/
/-- the loop of within, whatever its fuel -/
def tb_W (post : Int32 → St2 → Prop) (g : Nat) (P M C A B a10 a11 : Nat → Int32) (fd : Nat) (x4 : Int32) (st : Nat) (a6 a7 a8 a9 : Nat → Int32) : Prop := ∃ n, wX_within_75 post (nI g) 4 0 n (nI fd) x4 (nI st) P M C A B a6 a7 a8 a9 a10 a11
/-- whether the search goes on from town t, rest r, to the town tn -/
abbrev tb_go (k : Nat → Nat) (R : Nat → Nat → Nat × Nat) (g t r sp tn : Nat) : Prop := r / 2 ^ tn % 2 = 1 ∧ k (7 * t + tn) < 1000000 ∧ sp + k (7 * t + tn) + (R (r - 2 ^ tn) tn).1 ≤ g
def tb_tm (k : Nat → Nat) (R : Nat → Nat → Nat × Nat) (g : Nat) (cn : Nat → Nat → Nat → Nat) (t r sp tn : Nat) : Nat := if tb_go k R g t r sp tn then cn tn (r - 2 ^ tn) (sp + k (7 * t + tn)) else 0
def tb_cnt (k : Nat → Nat) (R : Nat → Nat → Nat × Nat) (g : Nat) : Nat → Nat → Nat → Nat → Nat
  | 0 => fun t _ sp => if sp + (R 0 t).1 < 1000000 ∧ sp + (R 0 t).1 ≤ g ∧ sp + (R 0 t).1 ≤ 280 then 1 else 0
  | n + 1 => fun t r sp => tb_tm k R g (tb_cnt k R g n) t r sp 1 + tb_tm k R g (tb_cnt k R g n) t r sp 2 + tb_tm k R g (tb_cnt k R g n) t r sp 3
section
variable {post : Int32 → St2 → Prop} {g : Nat} {P M C A B a6 a7 a8 a9 a10 a11 : Nat → Int32} {fd st d t r sp tn : Nat}
theorem tb_leaf {l : Nat} (hg : g ≤ 1000000) (hd : d < 8) (hst : st < 20000) (h6 : a6 d = nI t) (ht : t < 4) (h7 : a7 d = nI 0) (h8 : a8 d = nI sp) (hsp : sp ≤ 1000000000) (hA : A t = nI l) (hl : l ≤ 1000000)
    (H : tb_W post g P M C A B a10 a11 (fd + if sp + l < 1000000 ∧ sp + l ≤ g ∧ sp + l ≤ 280 then 1 else 0) (nI d + (-1)) (st + 1) a6 a7 a8 a9) :
    tb_W post g P M C A B a10 a11 fd (nI d) st a6 a7 a8 a9 := by
  obtain ⟨n, hn⟩ := H
  have kd : (nI d).toNatClampNeg = d := nI_clamp (by omega)
  have ind : vp_in (nI d) 8 := pk_in d 8 hd
  refine ⟨n + 1, ?_⟩
  refine pk_le 20000 st (fun z => absurd z (by omega)) (fun _ => pk_lt d 0 (fun z => absurd z (by omega)) (fun _ => And.intro ind (fun x6 e6 => And.intro ind (br_t (by rw [kd]; exact h7) ?_))))
  refine ⟨ind, ind, pk_in t 896 (by omega) (by rw [kd]; exact h6), ?_⟩
  intro x7 e7
  rw [kd, h6, h8, nI_clamp (by omega), hA, nI_add] at e7
  subst e7
  have skip : ¬ (sp + l < 1000000 ∧ sp + l ≤ g ∧ sp + l ≤ 280) → ∀ x3, x3 = nI fd + 0 → ∀ x4, x4 = nI d + (-1) → ∀ x5, x5 = nI st + 1 → wX_within_75 post (nI g) 4 0 n x3 x4 x5 P M C A B a6 a7 a8 a9 a10 a11 := by
    intro hz x3 e3 x4 e4 x5 e5
    rw [if_neg hz] at hn
    rw [e3, e4, e5, Int32.add_zero, nI_1]
    exact hn
  refine pk_le 1000000 (sp + l) (fun z => skip (by omega)) (fun z1 => ?_)
  refine pk_lt g (sp + l) (fun z => skip (by omega)) (fun z2 => ?_)
  refine tb_uses (by omega) (fun z3 => br_f (by decide) ?_) (fun z3 => br_t rfl (skip (by omega)))
  intro x3 e3 x4 e4 x5 e5
  rw [if_pos ⟨z1, z2, z3⟩] at hn
  rw [e3, e4, e5, nI_1, nI_1]
  exact hn
theorem tb_exh (hd : d < 8) (hst : st < 20000) (h7 : a7 d = nI r) (hr : 0 < r) (hr2 : r < 16) (h9 : a9 d = nI 4)
    (H : tb_W post g P M C A B a10 a11 fd (nI d + (-1)) (st + 1) a6 a7 a8 a9) :
    tb_W post g P M C A B a10 a11 fd (nI d) st a6 a7 a8 a9 := by
  obtain ⟨n, hn⟩ := H
  have kd : (nI d).toNatClampNeg = d := nI_clamp (by omega)
  have ind : vp_in (nI d) 8 := pk_in d 8 hd
  refine ⟨n + 1, ?_⟩
  refine pk_le 20000 st (fun z => absurd z (by omega)) (fun _ => pk_lt d 0 (fun z => absurd z (by omega)) (fun _ => And.intro ind (fun x6 e6 => And.intro ind ?_)))
  rw [kd, h9] at e6
  subst e6
  refine pk_eq r 0 (fun z => absurd z (by omega)) (fun _ => ?_) (by rw [kd]; exact h7) rfl (by omega) (by omega)
  refine br_t rfl ?_
  intro x4 e4 x5 e5
  rw [e4, e5, nI_1]
  exact hn
theorem tb_try {k : Nat → Nat} {b : Nat → Nat × Nat} (hC : tb_Co k C) (hT : tb_Tab k b A B) (hb : ∀ t, t < 4 → (b t).1 ≤ 1000000) (hg : g ≤ 1000000) (hd : d + 1 < 8) (hst : st < 20000)
    (h6 : a6 d = nI t) (ht : t < 4) (h7 : a7 d = nI r) (hr0 : 0 < r) (hr : r < 16) (h8 : a8 d = nI sp) (hsp : sp ≤ 1000000000) (h9 : a9 d = nI tn) (htn : tn < 4)
    (H1 : tb_go k (tb_R k b) g t r sp tn → tb_W post g P M C A B a10 a11 fd (nI (d + 1)) (st + 1) (upd a6 (d + 1) (nI tn)) (upd a7 (d + 1) (nI (r - 2 ^ tn))) (upd a8 (d + 1) (nI (sp + k (7 * t + tn)))) (upd (upd a9 d (nI (tn + 1))) (d + 1) (nI 1)))
    (H0 : ¬ tb_go k (tb_R k b) g t r sp tn → tb_W post g P M C A B a10 a11 fd (nI d) (st + 1) a6 a7 a8 (upd a9 d (nI (tn + 1)))) :
    tb_W post g P M C A B a10 a11 fd (nI d) st a6 a7 a8 a9 := by
  have kd : (nI d).toNatClampNeg = d := nI_clamp (by omega)
  have kd1 : (nI d + 1).toNatClampNeg = d + 1 := by
    rw [nI_1]
    exact nI_clamp (by omega)
  have ind : vp_in (nI d) 8 := pk_in d 8 (by omega)
  have ind1 : vp_in (nI d + 1) 8 := pk_in (d + 1) 8 hd (nI_1 d)
  have hc := hC (7 * t + tn) (by omega)
  have hc2 := hc.2
  have key : ∀ n, (tb_go k (tb_R k b) g t r sp tn → wX_within_75 post (nI g) 4 0 n (nI fd) (nI (d + 1)) (nI (st + 1)) P M C A B (upd a6 (d + 1) (nI tn)) (upd a7 (d + 1) (nI (r - 2 ^ tn))) (upd a8 (d + 1) (nI (sp + k (7 * t + tn)))) (upd (upd a9 d (nI (tn + 1))) (d + 1) (nI 1)) a10 a11) →
      (¬ tb_go k (tb_R k b) g t r sp tn → wX_within_75 post (nI g) 4 0 n (nI fd) (nI d) (nI (st + 1)) P M C A B a6 a7 a8 (upd a9 d (nI (tn + 1))) a10 a11) →
      wX_within_75 post (nI g) 4 0 (n + 1) (nI fd) (nI d) (nI st) P M C A B a6 a7 a8 a9 a10 a11 := by
    intro n K1 K0
    refine pk_le 20000 st (fun z => absurd z (by omega)) (fun _ => pk_lt d 0 (fun z => absurd z (by omega)) (fun _ => And.intro ind (fun x6 e6 => And.intro ind ?_)))
    rw [kd, h9] at e6
    subst e6
    refine pk_eq r 0 (fun z => absurd z (by omega)) (fun _ => ?_) (by rw [kd]; exact h7) rfl (by omega) (by omega)
    refine pk_eq tn 4 (fun z => absurd z (by omega)) (fun _ => And.intro ind (And.intro ind (fun b9 e9 => And.intro ind (And.intro ?_ (fun x7 e7 => And.intro ind (fun x8 e8 => And.intro ind ?_))))))
    · exact pk_in (7 * t + tn) 49 (by omega) (by rw [kd, h6, tb_ix])
    rw [kd, h9, nI_1] at e9
    subst e9
    rw [kd, h6, tb_ix, nI_clamp (by omega), hc.1] at e7
    subst e7
    rw [kd, h7, tb_clr r hr tn htn] at e8
    have skip : ¬ tb_go k (tb_R k b) g t r sp tn → wX_within_250 post (wX_within_75 post (nI g) 4 0 n) (nI g) (nI fd) (nI d) (nI st) (nI tn) (nI (k (7 * t + tn))) x8 4 0 P M C A B a6 a7 a8 (upd a9 d (nI (tn + 1))) a10 a11 := by
      intro hz
      exact br_t rfl (nm_r (nI_1 st) (K0 hz))
    by_cases hbit : r / 2 ^ tn % 2 = 1
    · rw [if_pos hbit] at e8
      subst e8
      obtain ⟨hd1, hd2⟩ := tb_down r hr tn htn hbit
      have lR := tb_R_le (c := k) (s := r - 2 ^ tn) hb (by omega) htn
      refine pk_eq (r - 2 ^ tn) r (fun z => absurd z (by omega)) (fun _ => ?_) rfl (by rw [kd]; exact h7) (by omega) (by omega)
      refine pk_le 1000000 (k (7 * t + tn)) (fun z => skip (by omega)) (fun hk => br_f (by decide) (And.intro ind (And.intro (pk_in (7 * (r - 2 ^ tn) + tn) 896 (by omega) (tb_ix _ _)) ?_))) rfl rfl (by omega) (by omega)
      refine pk_lt g (sp + k (7 * t + tn) + (tb_R k b (r - 2 ^ tn) tn).1) (fun z => nm_r (nI_1 st) (K0 (by omega))) (fun hz => ?_) rfl ?_ (by omega) (by omega)
      · refine ⟨ind1, fun b6 e6 => ⟨ind1, fun b7 e7 => ⟨ind, ind1, fun b8 e8 => ⟨ind1, fun b9 e9 => nm_r (nI_1 d) (nm_r (nI_1 st) ?_)⟩⟩⟩⟩
        rw [kd1] at e6 e7 e8 e9
        rw [kd, h8, nI_add] at e8
        subst e6
        subst e7
        subst e8
        subst e9
        exact K1 ⟨hbit, hk, hz⟩
      · rw [kd, h8, tb_ix, nI_clamp (by omega), (hT _ (by omega) tn htn).1, nI_add, nI_add]
    · rw [if_neg hbit] at e8
      subst e8
      exact pk_eq r r (fun _ => skip (fun z => hbit z.1)) (fun z => absurd rfl z) rfl (by rw [kd]; exact h7) (by omega) (by omega)
  by_cases hgo : tb_go k (tb_R k b) g t r sp tn
  · obtain ⟨n, hn⟩ := H1 hgo
    exact ⟨n + 1, key n (fun _ => hn) (fun z => absurd hgo z)⟩
  · obtain ⟨n, hn⟩ := H0 hgo
    exact ⟨n + 1, key n (fun z => absurd z hgo) (fun _ => hn)⟩
end
/-- the number of steps is at most this -/
def tb_bd : Nat → Nat
  | 0 => 1
  | n + 1 => 4 + 3 * tb_bd n
def tb_ag (d : Nat) (a6 a7 a8 a9 b6 b7 b8 b9 : Nat → Int32) : Prop := ∀ j, j < d → b6 j = a6 j ∧ b7 j = a7 j ∧ b8 j = a8 j ∧ b9 j = a9 j
def tb_nd (d t r sp tn : Nat) (a6 a7 a8 a9 : Nat → Int32) : Prop := a6 d = nI t ∧ a7 d = nI r ∧ a8 d = nI sp ∧ a9 d = nI tn
def tb_Node (post : Int32 → St2 → Prop) (g : Nat) (P M C A B a10 a11 : Nat → Int32) (k : Nat → Nat) (R : Nat → Nat → Nat × Nat) (n : Nat) : Prop :=
  ∀ (d t r sp fd st : Nat) (a6 a7 a8 a9 : Nat → Int32), d + n ≤ 3 → tb_pc r = n → r < 16 → t < 4 → sp ≤ d * 1000000 → st + tb_bd n ≤ 20000 → tb_nd d t r sp 1 a6 a7 a8 a9 →
    (∀ (st' : Nat) (b6 b7 b8 b9 : Nat → Int32), st' ≤ st + tb_bd n → tb_ag d a6 a7 a8 a9 b6 b7 b8 b9 → tb_W post g P M C A B a10 a11 (fd + tb_cnt k R g n t r sp) (nI d + (-1)) st' b6 b7 b8 b9) →
    tb_W post g P M C A B a10 a11 fd (nI d) st a6 a7 a8 a9
theorem tb_pc0 : ∀ r, r < 16 → tb_pc r = 0 → r = 0 := by decide +kernel
section
variable {post : Int32 → St2 → Prop} {g : Nat} {P M C A B a10 a11 : Nat → Int32} {k : Nat → Nat} {b : Nat → Nat × Nat}
theorem tb_node0 (hT : tb_Tab k b A B) (hb : ∀ t, t < 4 → (b t).1 ≤ 1000000) (hg : g ≤ 1000000) : tb_Node post g P M C A B a10 a11 k (tb_R k b) 0 := by
  intro d t r sp fd st a6 a7 a8 a9 hd hpc hr ht hsp hst hn H
  obtain ⟨h6, h7, h8, h9⟩ := hn
  rw [tb_pc0 r hr hpc] at h7
  have hst2 : st + 1 ≤ 20000 := hst
  have hA := (hT 0 (by omega) t ht).1
  rw [show 7 * 0 + t = t by omega] at hA
  refine tb_leaf hg (by omega) (by omega) h6 ht h7 h8 (by omega) hA (tb_R_le hb (by omega) ht) (H (st + 1) a6 a7 a8 a9 (Nat.le_refl _) (fun j _ => ⟨rfl, rfl, rfl, rfl⟩))
theorem tb_turn {n : Nat} (IH : tb_Node post g P M C A B a10 a11 k (tb_R k b) n) (hC : tb_Co k C) (hT : tb_Tab k b A B) (hb : ∀ t, t < 4 → (b t).1 ≤ 1000000) (hg : g ≤ 1000000)
    {d t r sp fd st tn : Nat} {a6 a7 a8 a9 : Nat → Int32} (hd : d + (n + 1) ≤ 3) (hpc : tb_pc r = n + 1) (hr : r < 16) (ht : t < 4) (hsp : sp ≤ d * 1000000) (hst : st + 1 + tb_bd n ≤ 20000) (htn : tn < 4) (hn : tb_nd d t r sp tn a6 a7 a8 a9)
    (H : ∀ (st' : Nat) (b6 b7 b8 b9 : Nat → Int32), st' ≤ st + 1 + tb_bd n → tb_ag d a6 a7 a8 a9 b6 b7 b8 b9 → tb_nd d t r sp (tn + 1) b6 b7 b8 b9 → tb_W post g P M C A B a10 a11 (fd + tb_tm k (tb_R k b) g (tb_cnt k (tb_R k b) g n) t r sp tn) (nI d) st' b6 b7 b8 b9) :
    tb_W post g P M C A B a10 a11 fd (nI d) st a6 a7 a8 a9 := by
  obtain ⟨h6, h7, h8, h9⟩ := hn
  have hr0 : 0 < r := by
    rcases Nat.eq_zero_or_pos r with z | z
    · rw [z] at hpc
      exact absurd hpc (by rw [show tb_pc 0 = 0 from rfl]; omega)
    · exact z
  have hc2 := (hC (7 * t + tn) (by omega)).2
  refine tb_try hC hT hb hg (by omega) (by omega) h6 ht h7 hr0 hr h8 (by omega) h9 htn (fun hgo => ?_) (fun hgo => ?_)
  · have hbit := hgo.1
    have hpc2 := tb_pc_s r hr tn htn hbit
    obtain ⟨hd1, _⟩ := tb_down r hr tn htn hbit
    refine IH (d + 1) tn (r - 2 ^ tn) (sp + k (7 * t + tn)) fd (st + 1) _ _ _ _ (by omega) (by omega) (by omega) htn (by omega) hst ⟨pk_us, pk_us, pk_us, pk_us⟩ ?_
    intro st' b6 b7 b8 b9 hst' hag
    have hag2 : ∀ j, j < d → b6 j = a6 j ∧ b7 j = a7 j ∧ b8 j = a8 j ∧ b9 j = a9 j := by
      intro j hj
      obtain ⟨g6, g7, g8, g9⟩ := hag j (by omega)
      rw [g6, g7, g8, g9, pk_un (by omega), pk_un (by omega), pk_un (by omega), pk_un (by omega), pk_un (by omega)]
      exact ⟨rfl, rfl, rfl, rfl⟩
    have hnd : tb_nd d t r sp (tn + 1) b6 b7 b8 b9 := by
      obtain ⟨g6, g7, g8, g9⟩ := hag d (by omega)
      unfold tb_nd
      rw [g6, g7, g8, g9, pk_un (by omega), pk_un (by omega), pk_un (by omega), pk_un (by omega), pk_us]
      exact ⟨h6, h7, h8, rfl⟩
    have h := H st' b6 b7 b8 b9 (by omega) hag2 hnd
    unfold tb_tm at h
    rw [if_pos hgo] at h
    rw [pk_m1]
    exact h
  · have h := H (st + 1) a6 a7 a8 (upd a9 d (nI (tn + 1))) (by omega) (fun j hj => ⟨rfl, rfl, rfl, pk_un (by omega)⟩) ⟨h6, h7, h8, pk_us⟩
    unfold tb_tm at h
    rw [if_neg hgo] at h
    exact h
theorem tb_ag_t {d : Nat} {a6 a7 a8 a9 b6 b7 b8 b9 c6 c7 c8 c9 : Nat → Int32} (h : tb_ag d a6 a7 a8 a9 b6 b7 b8 b9) (h2 : tb_ag d b6 b7 b8 b9 c6 c7 c8 c9) : tb_ag d a6 a7 a8 a9 c6 c7 c8 c9 := by
  intro j hj
  obtain ⟨e6, e7, e8, e9⟩ := h j hj
  obtain ⟨g6, g7, g8, g9⟩ := h2 j hj
  rw [g6, g7, g8, g9]
  exact ⟨e6, e7, e8, e9⟩
theorem tb_nodeS {n : Nat} (IH : tb_Node post g P M C A B a10 a11 k (tb_R k b) n) (hC : tb_Co k C) (hT : tb_Tab k b A B) (hb : ∀ t, t < 4 → (b t).1 ≤ 1000000) (hg : g ≤ 1000000) : tb_Node post g P M C A B a10 a11 k (tb_R k b) (n + 1) := by
  intro d t r sp fd st a6 a7 a8 a9 hd hpc hr ht hsp hst hn H
  have hst2 : st + (4 + 3 * tb_bd n) ≤ 20000 := hst
  have hr0 : 0 < r := by
    rcases Nat.eq_zero_or_pos r with z | z
    · rw [z] at hpc
      exact absurd hpc (by rw [show tb_pc 0 = 0 from rfl]; omega)
    · exact z
  refine tb_turn IH hC hT hb hg hd hpc hr ht hsp (by omega) (by omega) hn (fun s1 b6 b7 b8 b9 q1 g1 n1 => ?_)
  refine tb_turn IH hC hT hb hg hd hpc hr ht hsp (by omega) (by omega) n1 (fun s2 c6 c7 c8 c9 q2 g2 n2 => ?_)
  refine tb_turn IH hC hT hb hg hd hpc hr ht hsp (by omega) (by omega) n2 (fun s3 d6 d7 d8 d9 q3 g3 n3 => ?_)
  obtain ⟨h6, h7, h8, h9⟩ := n3
  refine tb_exh (by omega) (by omega) h7 hr0 hr h9 ?_
  have h := H (s3 + 1) d6 d7 d8 d9 (by show s3 + 1 ≤ st + (4 + 3 * tb_bd n); omega) (tb_ag_t (tb_ag_t g1 g2) g3)
  have e : tb_cnt k (tb_R k b) g (n + 1) t r sp = tb_tm k (tb_R k b) g (tb_cnt k (tb_R k b) g n) t r sp 1 + tb_tm k (tb_R k b) g (tb_cnt k (tb_R k b) g n) t r sp 2 + tb_tm k (tb_R k b) g (tb_cnt k (tb_R k b) g n) t r sp 3 := rfl
  rw [e, ← Nat.add_assoc, ← Nat.add_assoc] at h
  exact h
theorem tb_node3 (hC : tb_Co k C) (hT : tb_Tab k b A B) (hb : ∀ t, t < 4 → (b t).1 ≤ 1000000) (hg : g ≤ 1000000) : tb_Node post g P M C A B a10 a11 k (tb_R k b) 3 :=
  tb_nodeS (tb_nodeS (tb_nodeS (tb_node0 hT hb hg) hC hT hb hg) hC hT hb hg) hC hT hb hg
end
theorem tb_31 {post : Int32 → St2 → Prop} {p m : Nat → Nat} {P M C A B a6 a7 a8 a9 a10 a11 : Nat → Int32} {g q : Nat} (hp : tb_Pic p m P M) (hC : tb_Co (tb_c p m) C) (hT : tb_Tab (tb_c p m) (tb_b (tb_c p m)) A B) (hg : g ≤ 1000000)
    (hq : tb_cnt (tb_c p m) (tb_R (tb_c p m) (tb_b (tb_c p m))) g 3 0 14 0 = q) (H : tb_Post p m (post (nI q))) : wX_within_31 post (nI g) 4 0 P M C A B a6 a7 a8 a9 a10 a11 := by
  have hb := tb_b_le hC
  unfold wX_within_31
  intro b6 e6 b7 e7 b8 e8 b9 e9
  have hN := tb_node3 (post := post) (g := g) (P := P) (M := M) (a10 := a10) (a11 := a11) hC hT hb hg
  refine hN 0 0 14 0 0 0 b6 b7 b8 b9 (by omega) rfl (by omega) (by omega) (by omega) (by decide) ⟨?_, ?_, ?_, ?_⟩ ?_
  · rw [e6]
    exact pk_us
  · rw [e7, pk_us]
    decide
  · rw [e8]
    exact pk_us
  · rw [e9]
    exact pk_us
  · intro st' c6 c7 c8 c9 hst _
    rw [hq, Nat.zero_add]
    refine ⟨0 + 1, ?_⟩
    have hst2 : st' ≤ 0 + 79 := hst
    refine pk_le 20000 st' (fun z => absurd z (by omega)) (fun _ => br_t (by decide) (H _ _ _ _ _ _ _ _ _ _ _ _ hp))
theorem tb_withinW {post : Int32 → St2 → Prop} {p m : Nat → Nat} {x g q : Nat} (hx : x < 1000000 ∧ g = x ∨ x = 1000000 ∧ g = 1000000)
    (hq : tb_cnt (tb_c p m) (tb_R (tb_c p m) (tb_b (tb_c p m))) g 3 0 14 0 = q) (H : tb_Post p m (post (nI q))) : tb_Post p m (fun u => wpX_within post u (nI x)) := by
  intro rq P M C A B a6 a7 a8 a9 a10 a11 hp
  show wpX_within post _ _
  unfold wpX_within
  refine pk_le 0 x (fun _ => tb_fill hp (fun C' A' B' hC hT => ?_)) (fun z => absurd z (by omega))
  refine pk_lt x 1000000 (fun hz => ?_) (fun hz => ?_)
  · rw [show (1000 : Int32) * 0 = 0 by decide, Int32.sub_zero, show x = g by omega]
    exact tb_31 hp hC hT (by omega) hq H
  · have h := tb_31 (g := g) hp hC hT (by omega) hq H (a6 := a6) (a7 := a7) (a8 := a8) (a9 := a9) (a10 := a10) (a11 := a11)
    rw [show g = 1000000 by omega] at h
    exact h
theorem tb_allowedW {post : Int32 → St2 → Prop} {p m : Nat → Nat} {q : Nat} (hq : tb_cnt (tb_c p m) (tb_R (tb_c p m) (tb_b (tb_c p m))) 1000000 3 0 14 0 = q) (H : tb_Post p m (post (nI q))) : tb_Post p m (fun u => wpX_allowed post u) := by
  intro rq P M C A B a6 a7 a8 a9 a10 a11 hp
  show wpX_allowed post _
  unfold wpX_allowed
  exact tb_withinW (x := 1000000) (Or.inr ⟨rfl, rfl⟩) hq (fun rq1 P1 M1 C1 A1 B1 b6 b7 b8 b9 b10 b11 hp1 => H _ _ _ _ _ _ _ _ _ _ _ _ hp1) rq P M C A B a6 a7 a8 a9 a10 a11 hp
end
section
/-! ===== part 07: what within counts ===== -/
def tb_i (v g : Nat) : Nat := if v ≤ g then 1 else 0
section
variable {k : Nat → Nat} {R : Nat → Nat → Nat × Nat} {g t r sp tn : Nat} {cn : Nat → Nat → Nat → Nat}
theorem tb_tz (h : ¬ r / 2 ^ tn % 2 = 1) : tb_tm k R g cn t r sp tn = 0 := if_neg (fun z => h z.1)
theorem tb_tk (h : 1000000 ≤ k (7 * t + tn)) : tb_tm k R g cn t r sp tn = 0 := if_neg (fun z => absurd z.2.1 (Nat.not_lt_of_le h))
theorem tb_t0 (h : cn tn (r - 2 ^ tn) (sp + k (7 * t + tn)) = 0) : tb_tm k R g cn t r sp tn = 0 := by
  unfold tb_tm
  split
  · exact h
  · rfl
theorem tb_t1 {kv l s0 : Nat} (hb : r / 2 ^ tn % 2 = 1) (hk : k (7 * t + tn) = kv) (hkv : kv ≤ 31) (hs : r - 2 ^ tn = s0) (hR : (R s0 tn).1 = l) (hc : cn tn s0 (sp + kv) = tb_i (sp + kv + l) g) : tb_tm k R g cn t r sp tn = tb_i (sp + kv + l) g := by
  unfold tb_tm tb_go
  rw [hs, hk, hR]
  by_cases h : sp + kv + l ≤ g
  · rw [if_pos ⟨hb, by omega, h⟩, hc]
  · rw [if_neg (fun z => h z.2.2)]
    unfold tb_i
    rw [if_neg h]
theorem tb_t2 {kv p q s0 : Nat} (hb : r / 2 ^ tn % 2 = 1) (hk : k (7 * t + tn) = kv) (hkv : kv ≤ 31) (hs : r - 2 ^ tn = s0) (hR : (R s0 tn).1 = min p q) (hc : cn tn s0 (sp + kv) = tb_i (sp + kv + p) g + tb_i (sp + kv + q) g) : tb_tm k R g cn t r sp tn = tb_i (sp + kv + p) g + tb_i (sp + kv + q) g := by
  unfold tb_tm tb_go
  rw [hs, hk, hR]
  by_cases h : sp + kv + min p q ≤ g
  · rw [if_pos ⟨hb, by omega, h⟩, hc]
  · rw [if_neg (fun z => h z.2.2)]
    unfold tb_i
    rw [if_neg (by omega), if_neg (by omega)]
theorem tb_c0 {l : Nat} (hR : (R 0 t).1 = l) (h : sp + l ≤ 280) : tb_cnt k R g 0 t r sp = tb_i (sp + l) g := by
  show (if sp + (R 0 t).1 < 1000000 ∧ sp + (R 0 t).1 ≤ g ∧ sp + (R 0 t).1 ≤ 280 then 1 else 0) = _
  rw [hR]
  unfold tb_i
  by_cases hg : sp + l ≤ g
  · rw [if_pos hg, if_pos ⟨by omega, hg, h⟩]
  · rw [if_neg hg, if_neg (fun z => hg z.2.1)]
theorem tb_c0F (hR : (R 0 t).1 = 1000000) : tb_cnt k R g 0 t r sp = 0 := by
  show (if sp + (R 0 t).1 < 1000000 ∧ sp + (R 0 t).1 ≤ g ∧ sp + (R 0 t).1 ≤ 280 then 1 else 0) = _
  rw [hR, if_neg (by omega)]
theorem tb_cS {n : Nat} (x y z : Nat) (h1 : tb_tm k R g (tb_cnt k R g n) t r sp 1 = x) (h2 : tb_tm k R g (tb_cnt k R g n) t r sp 2 = y) (h3 : tb_tm k R g (tb_cnt k R g n) t r sp 3 = z) : tb_cnt k R g (n + 1) t r sp = x + y + z := by
  show tb_tm k R g (tb_cnt k R g n) t r sp 1 + tb_tm k R g (tb_cnt k R g n) t r sp 2 + tb_tm k R g (tb_cnt k R g n) t r sp 3 = x + y + z
  rw [h1, h2, h3]
/-- one town left -/
theorem tb_one1 {kv l : Nat} (hk : k (7 * t + 1) = kv) (hkv : kv ≤ 31) (hR : (R 0 1).1 = l) (h : sp + kv + l ≤ 280) : tb_cnt k R g 1 t 2 sp = tb_i (sp + kv + l) g := by
  rw [tb_cS (tb_i (sp + kv + l) g) 0 0 (tb_t1 (s0 := 0) (by decide) hk hkv rfl hR (tb_c0 hR h)) (tb_tz (by decide)) (tb_tz (by decide))]
  rfl
theorem tb_one2 {kv l : Nat} (hk : k (7 * t + 2) = kv) (hkv : kv ≤ 31) (hR : (R 0 2).1 = l) (h : sp + kv + l ≤ 280) : tb_cnt k R g 1 t 4 sp = tb_i (sp + kv + l) g := by
  rw [tb_cS 0 (tb_i (sp + kv + l) g) 0 (tb_tz (by decide)) (tb_t1 (s0 := 0) (by decide) hk hkv rfl hR (tb_c0 hR h)) (tb_tz (by decide)), Nat.zero_add, Nat.add_zero]
theorem tb_one3 {kv l : Nat} (hk : k (7 * t + 3) = kv) (hkv : kv ≤ 31) (hR : (R 0 3).1 = l) (h : sp + kv + l ≤ 280) : tb_cnt k R g 1 t 8 sp = tb_i (sp + kv + l) g := by
  rw [tb_cS 0 0 (tb_i (sp + kv + l) g) (tb_tz (by decide)) (tb_tz (by decide)) (tb_t1 (s0 := 0) (by decide) hk hkv rfl hR (tb_c0 hR h)), Nat.zero_add]
theorem tb_oneF (hR : (R 0 1).1 = 1000000) : tb_cnt k R g 1 t 2 sp = 0 := by
  rw [tb_cS 0 0 0 (tb_t0 (tb_c0F hR)) (tb_tz (by decide)) (tb_tz (by decide))]
end
theorem tb_i_eq {v w g : Nat} (h : v = w) : tb_i v g = tb_i w g := by rw [h]
theorem tb_openCnt {k : Nat → Nat} {R : Nat → Nat → Nat × Nat} {a b c d e f g x y z : Nat} (h : tb_Cs k a b c d e f) (hV : tb_Vs k R a b c d e f) (ha : a ≤ 31) (hb : b ≤ 31) (hc : c ≤ 31) (hd : d ≤ 31) (he : e ≤ 31) (hf : f ≤ 31) (hx : x = a + d + f + c) (hy : y = a + e + f + b) (hz : z = b + d + e + c) :
    tb_cnt k R g 3 0 14 0 = tb_i x g + tb_i y g + (tb_i z g + tb_i y g) + (tb_i z g + tb_i x g) := by
  obtain ⟨⟨k1, k7⟩, ⟨k2, k14⟩, ⟨k3, k21⟩, ⟨k9, k15⟩, ⟨k10, k22⟩, ⟨k17, k23⟩⟩ := h
  obtain ⟨⟨v1, v2, v3⟩, ⟨r22, r23, r41, r43, r81, r82⟩, rC, rA, r6⟩ := hV
  have w1 : (R 0 1).1 = a := congrArg Prod.fst v1
  have w2 : (R 0 2).1 = b := congrArg Prod.fst v2
  have w3 : (R 0 3).1 = c := congrArg Prod.fst v3
  have w22 : (R 2 2).1 = d + a := congrArg Prod.fst r22
  have w23 : (R 2 3).1 = e + a := congrArg Prod.fst r23
  have w41 : (R 4 1).1 = d + b := congrArg Prod.fst r41
  have w43 : (R 4 3).1 = f + b := congrArg Prod.fst r43
  have w81 : (R 8 1).1 = e + c := congrArg Prod.fst r81
  have w82 : (R 8 2).1 = f + c := congrArg Prod.fst r82
  have wC : (R 12 1).1 = min (d + (f + c)) (e + (f + b)) := congrArg Prod.fst rC
  have wA : (R 10 2).1 = min (d + (e + c)) (f + (e + a)) := congrArg Prod.fst rA
  have w6 : (R 6 3).1 = min (e + (d + b)) (f + (d + a)) := congrArg Prod.fst r6
  clear v1 v2 v3 r22 r23 r41 r43 r81 r82 rC rA r6
  have A : ∀ {p q s v : Nat}, p ≤ 31 → q ≤ 31 → s ≤ 62 → v ≤ 31 → s + p + q ≤ 280 := by
    intro p q s v h1 h2 h3 _
    omega
  have m1 : tb_tm k R g (tb_cnt k R g 2) 0 14 0 1 = tb_i (0 + a + (d + (f + c))) g + tb_i (0 + a + (e + (f + b))) g := by
    refine tb_t2 (s0 := 12) (by decide) k1 ha rfl wC ?_
    rw [tb_cS 0 (tb_i (0 + a + (d + (f + c))) g) (tb_i (0 + a + (e + (f + b))) g) (tb_tz (by decide)) ?_ ?_, Nat.zero_add]
    · refine Eq.trans (tb_t1 (s0 := 8) (by decide) k9 hd rfl w82 (Eq.trans (tb_one3 k17 hf w3 ?_) ?_)) ?_
      · clear k1 k2 k3 k7 k9 k10 k14 k15 k17 k21 k22 k23 w1 w2 w3 w22 w23 w41 w43 w81 w82 wC wA w6
        omega
      · exact tb_i_eq (by rw [Nat.add_assoc])
      · exact tb_i_eq (by rw [Nat.add_assoc])
    · refine Eq.trans (tb_t1 (s0 := 4) (by decide) k10 he rfl w43 (Eq.trans (tb_one2 k23 hf w2 ?_) ?_)) ?_
      · clear k1 k2 k3 k7 k9 k10 k14 k15 k17 k21 k22 k23 w1 w2 w3 w22 w23 w41 w43 w81 w82 wC wA w6
        omega
      · exact tb_i_eq (by rw [Nat.add_assoc])
      · exact tb_i_eq (by rw [Nat.add_assoc])
  have m2 : tb_tm k R g (tb_cnt k R g 2) 0 14 0 2 = tb_i (0 + b + (d + (e + c))) g + tb_i (0 + b + (f + (e + a))) g := by
    refine tb_t2 (s0 := 10) (by decide) k2 hb rfl wA ?_
    rw [tb_cS (tb_i (0 + b + (d + (e + c))) g) 0 (tb_i (0 + b + (f + (e + a))) g) ?_ (tb_tz (by decide)) ?_, Nat.add_zero]
    · refine Eq.trans (tb_t1 (s0 := 8) (by decide) k15 hd rfl w81 (Eq.trans (tb_one3 k10 he w3 ?_) ?_)) ?_
      · clear k1 k2 k3 k7 k9 k10 k14 k15 k17 k21 k22 k23 w1 w2 w3 w22 w23 w41 w43 w81 w82 wC wA w6
        omega
      · exact tb_i_eq (by rw [Nat.add_assoc])
      · exact tb_i_eq (by rw [Nat.add_assoc])
    · refine Eq.trans (tb_t1 (s0 := 2) (by decide) k17 hf rfl w23 (Eq.trans (tb_one1 k22 he w1 ?_) ?_)) ?_
      · clear k1 k2 k3 k7 k9 k10 k14 k15 k17 k21 k22 k23 w1 w2 w3 w22 w23 w41 w43 w81 w82 wC wA w6
        omega
      · exact tb_i_eq (by rw [Nat.add_assoc])
      · exact tb_i_eq (by rw [Nat.add_assoc])
  have m3 : tb_tm k R g (tb_cnt k R g 2) 0 14 0 3 = tb_i (0 + c + (e + (d + b))) g + tb_i (0 + c + (f + (d + a))) g := by
    refine tb_t2 (s0 := 6) (by decide) k3 hc rfl w6 ?_
    rw [tb_cS (tb_i (0 + c + (e + (d + b))) g) (tb_i (0 + c + (f + (d + a))) g) 0 ?_ ?_ (tb_tz (by decide)), Nat.add_zero]
    · refine Eq.trans (tb_t1 (s0 := 4) (by decide) k22 he rfl w41 (Eq.trans (tb_one2 k9 hd w2 ?_) ?_)) ?_
      · clear k1 k2 k3 k7 k9 k10 k14 k15 k17 k21 k22 k23 w1 w2 w3 w22 w23 w41 w43 w81 w82 wC wA w6
        omega
      · exact tb_i_eq (by rw [Nat.add_assoc])
      · exact tb_i_eq (by rw [Nat.add_assoc])
    · refine Eq.trans (tb_t1 (s0 := 2) (by decide) k23 hf rfl w22 (Eq.trans (tb_one1 k15 hd w1 ?_) ?_)) ?_
      · clear k1 k2 k3 k7 k9 k10 k14 k15 k17 k21 k22 k23 w1 w2 w3 w22 w23 w41 w43 w81 w82 wC wA w6
        omega
      · exact tb_i_eq (by rw [Nat.add_assoc])
      · exact tb_i_eq (by rw [Nat.add_assoc])
  rw [tb_cS _ _ _ m1 m2 m3]
  clear k1 k2 k3 k7 k9 k10 k14 k15 k17 k21 k22 k23 w1 w2 w3 w22 w23 w41 w43 w81 w82 wC wA w6 m1 m2 m3
  rw [show 0 + a + (d + (f + c)) = x by omega, show 0 + a + (e + (f + b)) = y by omega, show 0 + b + (d + (e + c)) = z by omega, show 0 + b + (f + (e + a)) = y by omega, show 0 + c + (e + (d + b)) = z by omega, show 0 + c + (f + (d + a)) = x by omega]
theorem tb_openUpto (x y z : Nat) : tb_i x x + tb_i y x + (tb_i z x + tb_i y x) + (tb_i z x + tb_i x x) = 2 + (if y ≤ x then 2 else 0) + (if z ≤ x then 2 else 0) := by
  unfold tb_i
  rw [if_pos (Nat.le_refl x)]
  by_cases h1 : y ≤ x
  · by_cases h2 : z ≤ x
    · rw [if_pos h1, if_pos h2, if_pos h1, if_pos h2]
    · rw [if_pos h1, if_neg h2, if_pos h1, if_neg h2]
  · by_cases h2 : z ≤ x
    · rw [if_neg h1, if_pos h2, if_neg h1, if_pos h2]
    · rw [if_neg h1, if_neg h2, if_neg h1, if_neg h2]
theorem tb_shutCnt {k : Nat → Nat} {b c d e f : Nat} (h : tb_Cs k 1000000 b c d e f) (hb : b ≤ 31) (hc : c ≤ 31) (hd : d ≤ 31) (he : e ≤ 31) (hf : f ≤ 31) :
    tb_cnt k (tb_R k (tb_b k)) 1000000 3 0 14 0 = 2 := by
  obtain ⟨v1, v2, v3, r22, r23, r41, r43, r81, r82, rA, r6, rE⟩ := tb_shutVals h hb hc hd he hf
  obtain ⟨⟨k1, k7⟩, ⟨k2, k14⟩, ⟨k3, k21⟩, ⟨k9, k15⟩, ⟨k10, k22⟩, ⟨k17, k23⟩⟩ := h
  generalize tb_R k (tb_b k) = R at *
  have w1 : (R 0 1).1 = 1000000 := congrArg Prod.fst v1
  have w2 : (R 0 2).1 = b := congrArg Prod.fst v2
  have w3 : (R 0 3).1 = c := congrArg Prod.fst v3
  have w41 : (R 4 1).1 = d + b := congrArg Prod.fst r41
  have w81 : (R 8 1).1 = e + c := congrArg Prod.fst r81
  have wA : (R 10 2).1 = d + (e + c) := congrArg Prod.fst rA
  have w6 : (R 6 3).1 = e + (d + b) := congrArg Prod.fst r6
  clear v1 v2 v3 r22 r23 r41 r43 r81 r82 rA r6 rE
  have one : ∀ {v : Nat}, v ≤ 280 → tb_i v 1000000 = 1 := by
    intro v hv
    unfold tb_i
    rw [if_pos (by omega)]
  have m1 : tb_tm k R 1000000 (tb_cnt k R 1000000 2) 0 14 0 1 = 0 := tb_tk (by show 1000000 ≤ k 1; rw [k1]; exact Nat.le_refl _)
  have m2 : tb_tm k R 1000000 (tb_cnt k R 1000000 2) 0 14 0 2 = tb_i (0 + b + (d + (e + c))) 1000000 := by
    refine tb_t1 (s0 := 10) (by decide) k2 hb rfl wA ?_
    rw [tb_cS (tb_i (0 + b + (d + (e + c))) 1000000) 0 0 ?_ (tb_tz (by decide)) (tb_t0 (tb_oneF w1)), Nat.add_zero]
    refine Eq.trans (tb_t1 (s0 := 8) (by decide) k15 hd rfl w81 (Eq.trans (tb_one3 k10 he w3 ?_) ?_)) ?_
    · clear k1 k2 k3 k7 k9 k10 k14 k15 k17 k21 k22 k23 w1 w2 w3 w41 w81 wA w6
      omega
    · exact tb_i_eq (by rw [Nat.add_assoc])
    · exact tb_i_eq (by rw [Nat.add_assoc])
  have m3 : tb_tm k R 1000000 (tb_cnt k R 1000000 2) 0 14 0 3 = tb_i (0 + c + (e + (d + b))) 1000000 := by
    refine tb_t1 (s0 := 6) (by decide) k3 hc rfl w6 ?_
    rw [tb_cS (tb_i (0 + c + (e + (d + b))) 1000000) 0 0 ?_ (tb_t0 (tb_oneF w1)) (tb_tz (by decide)), Nat.add_zero]
    refine Eq.trans (tb_t1 (s0 := 4) (by decide) k22 he rfl w41 (Eq.trans (tb_one2 k9 hd w2 ?_) ?_)) ?_
    · clear k1 k2 k3 k7 k9 k10 k14 k15 k17 k21 k22 k23 w1 w2 w3 w41 w81 wA w6
      omega
    · exact tb_i_eq (by rw [Nat.add_assoc])
    · exact tb_i_eq (by rw [Nat.add_assoc])
  clear k1 k2 k3 k7 k9 k10 k14 k15 k17 k21 k22 k23 w1 w2 w3 w41 w81 wA w6
  rw [tb_cS _ _ _ m1 m2 m3, one (by omega), one (by omega)]
end
section
/-! ===== part 08: the table's values for paths (printed by gen_paths.py) ===== -/
theorem tb_sF (c w : Nat) (q : Nat × Nat) : tb_s c 1000000 w q = q := tb_s4 (by omega)
theorem tb_v01 {k : Nat → Nat} {a b c d e f : Nat} (h : tb_Cs k a b c d e f) (ha : a ≤ 31) (hb : b ≤ 31) (hc : c ≤ 31) (hd : d ≤ 31) (he : e ≤ 31) (hf : f ≤ 31) : (tb_R k (tb_p 1) (15 - 2 ^ 0) 0).1 = min (b + (f + (e + 0))) (c + (f + (d + 0))) := by
  obtain ⟨⟨k1, k7⟩, ⟨k2, k14⟩, ⟨k3, k21⟩, ⟨k9, k15⟩, ⟨k10, k22⟩, ⟨k17, k23⟩⟩ := h
  have r0_0 : tb_R k (tb_p 1) 0 0 = (1000000, 0) := rfl
  have r0_1 : tb_R k (tb_p 1) 0 1 = (0, 1) := rfl
  have r0_2 : tb_R k (tb_p 1) 0 2 = (1000000, 0) := rfl
  have r0_3 : tb_R k (tb_p 1) 0 3 = (1000000, 0) := rfl
  have r8_2 : tb_R k (tb_p 1) 8 2 = (1000000, 0) := by rw [show tb_R k (tb_p 1) 8 2 = tb_s (k 17) (tb_R k (tb_p 1) 0 3).1 (tb_R k (tb_p 1) 0 3).2 (1000000, 0) from rfl, r0_3, k17, tb_sF]
  have r4_3 : tb_R k (tb_p 1) 4 3 = (1000000, 0) := by rw [show tb_R k (tb_p 1) 4 3 = tb_s (k 23) (tb_R k (tb_p 1) 0 2).1 (tb_R k (tb_p 1) 0 2).2 (1000000, 0) from rfl, r0_2, k23, tb_sF]
  have r12_1 : tb_R k (tb_p 1) 12 1 = (1000000, 0) := by rw [show tb_R k (tb_p 1) 12 1 = tb_s (k 10) (tb_R k (tb_p 1) 4 3).1 (tb_R k (tb_p 1) 4 3).2 (tb_s (k 9) (tb_R k (tb_p 1) 8 2).1 (tb_R k (tb_p 1) 8 2).2 (1000000, 0)) from rfl, r8_2, r4_3, k9, k10, tb_sF, tb_sF]
  have r8_1 : tb_R k (tb_p 1) 8 1 = (1000000, 0) := by rw [show tb_R k (tb_p 1) 8 1 = tb_s (k 10) (tb_R k (tb_p 1) 0 3).1 (tb_R k (tb_p 1) 0 3).2 (1000000, 0) from rfl, r0_3, k10, tb_sF]
  have r2_3 : tb_R k (tb_p 1) 2 3 = (e + 0, 1) := by rw [show tb_R k (tb_p 1) 2 3 = tb_s (k 22) (tb_R k (tb_p 1) 0 1).1 (tb_R k (tb_p 1) 0 1).2 (1000000, 0) from rfl, r0_1, k22, tb_a1 (by omega)]
  have r10_2 : tb_R k (tb_p 1) 10 2 = (f + (e + 0), 1) := by rw [show tb_R k (tb_p 1) 10 2 = tb_s (k 17) (tb_R k (tb_p 1) 2 3).1 (tb_R k (tb_p 1) 2 3).2 (tb_s (k 15) (tb_R k (tb_p 1) 8 1).1 (tb_R k (tb_p 1) 8 1).2 (1000000, 0)) from rfl, r8_1, r2_3, k15, k17, tb_sF, tb_a1 (by omega)]
  have r4_1 : tb_R k (tb_p 1) 4 1 = (1000000, 0) := by rw [show tb_R k (tb_p 1) 4 1 = tb_s (k 9) (tb_R k (tb_p 1) 0 2).1 (tb_R k (tb_p 1) 0 2).2 (1000000, 0) from rfl, r0_2, k9, tb_sF]
  have r2_2 : tb_R k (tb_p 1) 2 2 = (d + 0, 1) := by rw [show tb_R k (tb_p 1) 2 2 = tb_s (k 15) (tb_R k (tb_p 1) 0 1).1 (tb_R k (tb_p 1) 0 1).2 (1000000, 0) from rfl, r0_1, k15, tb_a1 (by omega)]
  have r6_3 : tb_R k (tb_p 1) 6 3 = (f + (d + 0), 1) := by rw [show tb_R k (tb_p 1) 6 3 = tb_s (k 23) (tb_R k (tb_p 1) 2 2).1 (tb_R k (tb_p 1) 2 2).2 (tb_s (k 22) (tb_R k (tb_p 1) 4 1).1 (tb_R k (tb_p 1) 4 1).2 (1000000, 0)) from rfl, r4_1, r2_2, k22, k23, tb_sF, tb_a1 (by omega)]
  have r14_0 : tb_R k (tb_p 1) 14 0 = tb_g (b + (f + (e + 0))) (c + (f + (d + 0))) := by rw [show tb_R k (tb_p 1) 14 0 = tb_s (k 3) (tb_R k (tb_p 1) 6 3).1 (tb_R k (tb_p 1) 6 3).2 (tb_s (k 2) (tb_R k (tb_p 1) 10 2).1 (tb_R k (tb_p 1) 10 2).2 (tb_s (k 1) (tb_R k (tb_p 1) 12 1).1 (tb_R k (tb_p 1) 12 1).2 (1000000, 0))) from rfl, r12_1, r10_2, r6_3, k1, k2, k3, tb_sF, tb_a1 (by omega), tb_a2 (by omega)]
  rw [show 15 - 2 ^ 0 = 14 from rfl, r14_0]
  rfl
theorem tb_v10 {k : Nat → Nat} {a b c d e f : Nat} (h : tb_Cs k a b c d e f) (ha : a ≤ 31) (hb : b ≤ 31) (hc : c ≤ 31) (hd : d ≤ 31) (he : e ≤ 31) (hf : f ≤ 31) : (tb_R k (tb_p 0) (15 - 2 ^ 1) 1).1 = min (d + (f + (c + 0))) (e + (f + (b + 0))) := by
  obtain ⟨⟨k1, k7⟩, ⟨k2, k14⟩, ⟨k3, k21⟩, ⟨k9, k15⟩, ⟨k10, k22⟩, ⟨k17, k23⟩⟩ := h
  have r0_0 : tb_R k (tb_p 0) 0 0 = (0, 1) := rfl
  have r0_1 : tb_R k (tb_p 0) 0 1 = (1000000, 0) := rfl
  have r0_2 : tb_R k (tb_p 0) 0 2 = (1000000, 0) := rfl
  have r0_3 : tb_R k (tb_p 0) 0 3 = (1000000, 0) := rfl
  have r8_2 : tb_R k (tb_p 0) 8 2 = (1000000, 0) := by rw [show tb_R k (tb_p 0) 8 2 = tb_s (k 17) (tb_R k (tb_p 0) 0 3).1 (tb_R k (tb_p 0) 0 3).2 (1000000, 0) from rfl, r0_3, k17, tb_sF]
  have r4_3 : tb_R k (tb_p 0) 4 3 = (1000000, 0) := by rw [show tb_R k (tb_p 0) 4 3 = tb_s (k 23) (tb_R k (tb_p 0) 0 2).1 (tb_R k (tb_p 0) 0 2).2 (1000000, 0) from rfl, r0_2, k23, tb_sF]
  have r12_0 : tb_R k (tb_p 0) 12 0 = (1000000, 0) := by rw [show tb_R k (tb_p 0) 12 0 = tb_s (k 3) (tb_R k (tb_p 0) 4 3).1 (tb_R k (tb_p 0) 4 3).2 (tb_s (k 2) (tb_R k (tb_p 0) 8 2).1 (tb_R k (tb_p 0) 8 2).2 (1000000, 0)) from rfl, r8_2, r4_3, k2, k3, tb_sF, tb_sF]
  have r8_0 : tb_R k (tb_p 0) 8 0 = (1000000, 0) := by rw [show tb_R k (tb_p 0) 8 0 = tb_s (k 3) (tb_R k (tb_p 0) 0 3).1 (tb_R k (tb_p 0) 0 3).2 (1000000, 0) from rfl, r0_3, k3, tb_sF]
  have r1_3 : tb_R k (tb_p 0) 1 3 = (c + 0, 1) := by rw [show tb_R k (tb_p 0) 1 3 = tb_s (k 21) (tb_R k (tb_p 0) 0 0).1 (tb_R k (tb_p 0) 0 0).2 (1000000, 0) from rfl, r0_0, k21, tb_a1 (by omega)]
  have r9_2 : tb_R k (tb_p 0) 9 2 = (f + (c + 0), 1) := by rw [show tb_R k (tb_p 0) 9 2 = tb_s (k 17) (tb_R k (tb_p 0) 1 3).1 (tb_R k (tb_p 0) 1 3).2 (tb_s (k 14) (tb_R k (tb_p 0) 8 0).1 (tb_R k (tb_p 0) 8 0).2 (1000000, 0)) from rfl, r8_0, r1_3, k14, k17, tb_sF, tb_a1 (by omega)]
  have r4_0 : tb_R k (tb_p 0) 4 0 = (1000000, 0) := by rw [show tb_R k (tb_p 0) 4 0 = tb_s (k 2) (tb_R k (tb_p 0) 0 2).1 (tb_R k (tb_p 0) 0 2).2 (1000000, 0) from rfl, r0_2, k2, tb_sF]
  have r1_2 : tb_R k (tb_p 0) 1 2 = (b + 0, 1) := by rw [show tb_R k (tb_p 0) 1 2 = tb_s (k 14) (tb_R k (tb_p 0) 0 0).1 (tb_R k (tb_p 0) 0 0).2 (1000000, 0) from rfl, r0_0, k14, tb_a1 (by omega)]
  have r5_3 : tb_R k (tb_p 0) 5 3 = (f + (b + 0), 1) := by rw [show tb_R k (tb_p 0) 5 3 = tb_s (k 23) (tb_R k (tb_p 0) 1 2).1 (tb_R k (tb_p 0) 1 2).2 (tb_s (k 21) (tb_R k (tb_p 0) 4 0).1 (tb_R k (tb_p 0) 4 0).2 (1000000, 0)) from rfl, r4_0, r1_2, k21, k23, tb_sF, tb_a1 (by omega)]
  have r13_1 : tb_R k (tb_p 0) 13 1 = tb_g (d + (f + (c + 0))) (e + (f + (b + 0))) := by rw [show tb_R k (tb_p 0) 13 1 = tb_s (k 10) (tb_R k (tb_p 0) 5 3).1 (tb_R k (tb_p 0) 5 3).2 (tb_s (k 9) (tb_R k (tb_p 0) 9 2).1 (tb_R k (tb_p 0) 9 2).2 (tb_s (k 7) (tb_R k (tb_p 0) 12 0).1 (tb_R k (tb_p 0) 12 0).2 (1000000, 0))) from rfl, r12_0, r9_2, r5_3, k7, k9, k10, tb_sF, tb_a1 (by omega), tb_a2 (by omega)]
  rw [show 15 - 2 ^ 1 = 13 from rfl, r13_1]
  rfl
theorem tb_v20 {k : Nat → Nat} {a b c d e f : Nat} (h : tb_Cs k a b c d e f) (ha : a ≤ 31) (hb : b ≤ 31) (hc : c ≤ 31) (hd : d ≤ 31) (he : e ≤ 31) (hf : f ≤ 31) : (tb_R k (tb_p 0) (15 - 2 ^ 2) 2).1 = min (d + (e + (c + 0))) (f + (e + (a + 0))) := by
  obtain ⟨⟨k1, k7⟩, ⟨k2, k14⟩, ⟨k3, k21⟩, ⟨k9, k15⟩, ⟨k10, k22⟩, ⟨k17, k23⟩⟩ := h
  have r0_0 : tb_R k (tb_p 0) 0 0 = (0, 1) := rfl
  have r0_1 : tb_R k (tb_p 0) 0 1 = (1000000, 0) := rfl
  have r0_2 : tb_R k (tb_p 0) 0 2 = (1000000, 0) := rfl
  have r0_3 : tb_R k (tb_p 0) 0 3 = (1000000, 0) := rfl
  have r8_1 : tb_R k (tb_p 0) 8 1 = (1000000, 0) := by rw [show tb_R k (tb_p 0) 8 1 = tb_s (k 10) (tb_R k (tb_p 0) 0 3).1 (tb_R k (tb_p 0) 0 3).2 (1000000, 0) from rfl, r0_3, k10, tb_sF]
  have r2_3 : tb_R k (tb_p 0) 2 3 = (1000000, 0) := by rw [show tb_R k (tb_p 0) 2 3 = tb_s (k 22) (tb_R k (tb_p 0) 0 1).1 (tb_R k (tb_p 0) 0 1).2 (1000000, 0) from rfl, r0_1, k22, tb_sF]
  have r10_0 : tb_R k (tb_p 0) 10 0 = (1000000, 0) := by rw [show tb_R k (tb_p 0) 10 0 = tb_s (k 3) (tb_R k (tb_p 0) 2 3).1 (tb_R k (tb_p 0) 2 3).2 (tb_s (k 1) (tb_R k (tb_p 0) 8 1).1 (tb_R k (tb_p 0) 8 1).2 (1000000, 0)) from rfl, r8_1, r2_3, k1, k3, tb_sF, tb_sF]
  have r8_0 : tb_R k (tb_p 0) 8 0 = (1000000, 0) := by rw [show tb_R k (tb_p 0) 8 0 = tb_s (k 3) (tb_R k (tb_p 0) 0 3).1 (tb_R k (tb_p 0) 0 3).2 (1000000, 0) from rfl, r0_3, k3, tb_sF]
  have r1_3 : tb_R k (tb_p 0) 1 3 = (c + 0, 1) := by rw [show tb_R k (tb_p 0) 1 3 = tb_s (k 21) (tb_R k (tb_p 0) 0 0).1 (tb_R k (tb_p 0) 0 0).2 (1000000, 0) from rfl, r0_0, k21, tb_a1 (by omega)]
  have r9_1 : tb_R k (tb_p 0) 9 1 = (e + (c + 0), 1) := by rw [show tb_R k (tb_p 0) 9 1 = tb_s (k 10) (tb_R k (tb_p 0) 1 3).1 (tb_R k (tb_p 0) 1 3).2 (tb_s (k 7) (tb_R k (tb_p 0) 8 0).1 (tb_R k (tb_p 0) 8 0).2 (1000000, 0)) from rfl, r8_0, r1_3, k7, k10, tb_sF, tb_a1 (by omega)]
  have r2_0 : tb_R k (tb_p 0) 2 0 = (1000000, 0) := by rw [show tb_R k (tb_p 0) 2 0 = tb_s (k 1) (tb_R k (tb_p 0) 0 1).1 (tb_R k (tb_p 0) 0 1).2 (1000000, 0) from rfl, r0_1, k1, tb_sF]
  have r1_1 : tb_R k (tb_p 0) 1 1 = (a + 0, 1) := by rw [show tb_R k (tb_p 0) 1 1 = tb_s (k 7) (tb_R k (tb_p 0) 0 0).1 (tb_R k (tb_p 0) 0 0).2 (1000000, 0) from rfl, r0_0, k7, tb_a1 (by omega)]
  have r3_3 : tb_R k (tb_p 0) 3 3 = (e + (a + 0), 1) := by rw [show tb_R k (tb_p 0) 3 3 = tb_s (k 22) (tb_R k (tb_p 0) 1 1).1 (tb_R k (tb_p 0) 1 1).2 (tb_s (k 21) (tb_R k (tb_p 0) 2 0).1 (tb_R k (tb_p 0) 2 0).2 (1000000, 0)) from rfl, r2_0, r1_1, k21, k22, tb_sF, tb_a1 (by omega)]
  have r11_2 : tb_R k (tb_p 0) 11 2 = tb_g (d + (e + (c + 0))) (f + (e + (a + 0))) := by rw [show tb_R k (tb_p 0) 11 2 = tb_s (k 17) (tb_R k (tb_p 0) 3 3).1 (tb_R k (tb_p 0) 3 3).2 (tb_s (k 15) (tb_R k (tb_p 0) 9 1).1 (tb_R k (tb_p 0) 9 1).2 (tb_s (k 14) (tb_R k (tb_p 0) 10 0).1 (tb_R k (tb_p 0) 10 0).2 (1000000, 0))) from rfl, r10_0, r9_1, r3_3, k14, k15, k17, tb_sF, tb_a1 (by omega), tb_a2 (by omega)]
  rw [show 15 - 2 ^ 2 = 11 from rfl, r11_2]
  rfl
theorem tb_v21 {k : Nat → Nat} {a b c d e f : Nat} (h : tb_Cs k a b c d e f) (ha : a ≤ 31) (hb : b ≤ 31) (hc : c ≤ 31) (hd : d ≤ 31) (he : e ≤ 31) (hf : f ≤ 31) : (tb_R k (tb_p 1) (15 - 2 ^ 2) 2).1 = min (b + (c + (e + 0))) (f + (c + (a + 0))) := by
  obtain ⟨⟨k1, k7⟩, ⟨k2, k14⟩, ⟨k3, k21⟩, ⟨k9, k15⟩, ⟨k10, k22⟩, ⟨k17, k23⟩⟩ := h
  have r0_0 : tb_R k (tb_p 1) 0 0 = (1000000, 0) := rfl
  have r0_1 : tb_R k (tb_p 1) 0 1 = (0, 1) := rfl
  have r0_2 : tb_R k (tb_p 1) 0 2 = (1000000, 0) := rfl
  have r0_3 : tb_R k (tb_p 1) 0 3 = (1000000, 0) := rfl
  have r8_1 : tb_R k (tb_p 1) 8 1 = (1000000, 0) := by rw [show tb_R k (tb_p 1) 8 1 = tb_s (k 10) (tb_R k (tb_p 1) 0 3).1 (tb_R k (tb_p 1) 0 3).2 (1000000, 0) from rfl, r0_3, k10, tb_sF]
  have r2_3 : tb_R k (tb_p 1) 2 3 = (e + 0, 1) := by rw [show tb_R k (tb_p 1) 2 3 = tb_s (k 22) (tb_R k (tb_p 1) 0 1).1 (tb_R k (tb_p 1) 0 1).2 (1000000, 0) from rfl, r0_1, k22, tb_a1 (by omega)]
  have r10_0 : tb_R k (tb_p 1) 10 0 = (c + (e + 0), 1) := by rw [show tb_R k (tb_p 1) 10 0 = tb_s (k 3) (tb_R k (tb_p 1) 2 3).1 (tb_R k (tb_p 1) 2 3).2 (tb_s (k 1) (tb_R k (tb_p 1) 8 1).1 (tb_R k (tb_p 1) 8 1).2 (1000000, 0)) from rfl, r8_1, r2_3, k1, k3, tb_sF, tb_a1 (by omega)]
  have r8_0 : tb_R k (tb_p 1) 8 0 = (1000000, 0) := by rw [show tb_R k (tb_p 1) 8 0 = tb_s (k 3) (tb_R k (tb_p 1) 0 3).1 (tb_R k (tb_p 1) 0 3).2 (1000000, 0) from rfl, r0_3, k3, tb_sF]
  have r1_3 : tb_R k (tb_p 1) 1 3 = (1000000, 0) := by rw [show tb_R k (tb_p 1) 1 3 = tb_s (k 21) (tb_R k (tb_p 1) 0 0).1 (tb_R k (tb_p 1) 0 0).2 (1000000, 0) from rfl, r0_0, k21, tb_sF]
  have r9_1 : tb_R k (tb_p 1) 9 1 = (1000000, 0) := by rw [show tb_R k (tb_p 1) 9 1 = tb_s (k 10) (tb_R k (tb_p 1) 1 3).1 (tb_R k (tb_p 1) 1 3).2 (tb_s (k 7) (tb_R k (tb_p 1) 8 0).1 (tb_R k (tb_p 1) 8 0).2 (1000000, 0)) from rfl, r8_0, r1_3, k7, k10, tb_sF, tb_sF]
  have r2_0 : tb_R k (tb_p 1) 2 0 = (a + 0, 1) := by rw [show tb_R k (tb_p 1) 2 0 = tb_s (k 1) (tb_R k (tb_p 1) 0 1).1 (tb_R k (tb_p 1) 0 1).2 (1000000, 0) from rfl, r0_1, k1, tb_a1 (by omega)]
  have r1_1 : tb_R k (tb_p 1) 1 1 = (1000000, 0) := by rw [show tb_R k (tb_p 1) 1 1 = tb_s (k 7) (tb_R k (tb_p 1) 0 0).1 (tb_R k (tb_p 1) 0 0).2 (1000000, 0) from rfl, r0_0, k7, tb_sF]
  have r3_3 : tb_R k (tb_p 1) 3 3 = (c + (a + 0), 1) := by rw [show tb_R k (tb_p 1) 3 3 = tb_s (k 22) (tb_R k (tb_p 1) 1 1).1 (tb_R k (tb_p 1) 1 1).2 (tb_s (k 21) (tb_R k (tb_p 1) 2 0).1 (tb_R k (tb_p 1) 2 0).2 (1000000, 0)) from rfl, r2_0, r1_1, k21, k22, tb_a1 (by omega), tb_sF]
  have r11_2 : tb_R k (tb_p 1) 11 2 = tb_g (b + (c + (e + 0))) (f + (c + (a + 0))) := by rw [show tb_R k (tb_p 1) 11 2 = tb_s (k 17) (tb_R k (tb_p 1) 3 3).1 (tb_R k (tb_p 1) 3 3).2 (tb_s (k 15) (tb_R k (tb_p 1) 9 1).1 (tb_R k (tb_p 1) 9 1).2 (tb_s (k 14) (tb_R k (tb_p 1) 10 0).1 (tb_R k (tb_p 1) 10 0).2 (1000000, 0))) from rfl, r10_0, r9_1, r3_3, k14, k15, k17, tb_a1 (by omega), tb_sF, tb_a2 (by omega)]
  rw [show 15 - 2 ^ 2 = 11 from rfl, r11_2]
  rfl
theorem tb_v30 {k : Nat → Nat} {a b c d e f : Nat} (h : tb_Cs k a b c d e f) (ha : a ≤ 31) (hb : b ≤ 31) (hc : c ≤ 31) (hd : d ≤ 31) (he : e ≤ 31) (hf : f ≤ 31) : (tb_R k (tb_p 0) (15 - 2 ^ 3) 3).1 = min (e + (d + (b + 0))) (f + (d + (a + 0))) := by
  obtain ⟨⟨k1, k7⟩, ⟨k2, k14⟩, ⟨k3, k21⟩, ⟨k9, k15⟩, ⟨k10, k22⟩, ⟨k17, k23⟩⟩ := h
  have r0_0 : tb_R k (tb_p 0) 0 0 = (0, 1) := rfl
  have r0_1 : tb_R k (tb_p 0) 0 1 = (1000000, 0) := rfl
  have r0_2 : tb_R k (tb_p 0) 0 2 = (1000000, 0) := rfl
  have r0_3 : tb_R k (tb_p 0) 0 3 = (1000000, 0) := rfl
  have r4_1 : tb_R k (tb_p 0) 4 1 = (1000000, 0) := by rw [show tb_R k (tb_p 0) 4 1 = tb_s (k 9) (tb_R k (tb_p 0) 0 2).1 (tb_R k (tb_p 0) 0 2).2 (1000000, 0) from rfl, r0_2, k9, tb_sF]
  have r2_2 : tb_R k (tb_p 0) 2 2 = (1000000, 0) := by rw [show tb_R k (tb_p 0) 2 2 = tb_s (k 15) (tb_R k (tb_p 0) 0 1).1 (tb_R k (tb_p 0) 0 1).2 (1000000, 0) from rfl, r0_1, k15, tb_sF]
  have r6_0 : tb_R k (tb_p 0) 6 0 = (1000000, 0) := by rw [show tb_R k (tb_p 0) 6 0 = tb_s (k 2) (tb_R k (tb_p 0) 2 2).1 (tb_R k (tb_p 0) 2 2).2 (tb_s (k 1) (tb_R k (tb_p 0) 4 1).1 (tb_R k (tb_p 0) 4 1).2 (1000000, 0)) from rfl, r4_1, r2_2, k1, k2, tb_sF, tb_sF]
  have r4_0 : tb_R k (tb_p 0) 4 0 = (1000000, 0) := by rw [show tb_R k (tb_p 0) 4 0 = tb_s (k 2) (tb_R k (tb_p 0) 0 2).1 (tb_R k (tb_p 0) 0 2).2 (1000000, 0) from rfl, r0_2, k2, tb_sF]
  have r1_2 : tb_R k (tb_p 0) 1 2 = (b + 0, 1) := by rw [show tb_R k (tb_p 0) 1 2 = tb_s (k 14) (tb_R k (tb_p 0) 0 0).1 (tb_R k (tb_p 0) 0 0).2 (1000000, 0) from rfl, r0_0, k14, tb_a1 (by omega)]
  have r5_1 : tb_R k (tb_p 0) 5 1 = (d + (b + 0), 1) := by rw [show tb_R k (tb_p 0) 5 1 = tb_s (k 9) (tb_R k (tb_p 0) 1 2).1 (tb_R k (tb_p 0) 1 2).2 (tb_s (k 7) (tb_R k (tb_p 0) 4 0).1 (tb_R k (tb_p 0) 4 0).2 (1000000, 0)) from rfl, r4_0, r1_2, k7, k9, tb_sF, tb_a1 (by omega)]
  have r2_0 : tb_R k (tb_p 0) 2 0 = (1000000, 0) := by rw [show tb_R k (tb_p 0) 2 0 = tb_s (k 1) (tb_R k (tb_p 0) 0 1).1 (tb_R k (tb_p 0) 0 1).2 (1000000, 0) from rfl, r0_1, k1, tb_sF]
  have r1_1 : tb_R k (tb_p 0) 1 1 = (a + 0, 1) := by rw [show tb_R k (tb_p 0) 1 1 = tb_s (k 7) (tb_R k (tb_p 0) 0 0).1 (tb_R k (tb_p 0) 0 0).2 (1000000, 0) from rfl, r0_0, k7, tb_a1 (by omega)]
  have r3_2 : tb_R k (tb_p 0) 3 2 = (d + (a + 0), 1) := by rw [show tb_R k (tb_p 0) 3 2 = tb_s (k 15) (tb_R k (tb_p 0) 1 1).1 (tb_R k (tb_p 0) 1 1).2 (tb_s (k 14) (tb_R k (tb_p 0) 2 0).1 (tb_R k (tb_p 0) 2 0).2 (1000000, 0)) from rfl, r2_0, r1_1, k14, k15, tb_sF, tb_a1 (by omega)]
  have r7_3 : tb_R k (tb_p 0) 7 3 = tb_g (e + (d + (b + 0))) (f + (d + (a + 0))) := by rw [show tb_R k (tb_p 0) 7 3 = tb_s (k 23) (tb_R k (tb_p 0) 3 2).1 (tb_R k (tb_p 0) 3 2).2 (tb_s (k 22) (tb_R k (tb_p 0) 5 1).1 (tb_R k (tb_p 0) 5 1).2 (tb_s (k 21) (tb_R k (tb_p 0) 6 0).1 (tb_R k (tb_p 0) 6 0).2 (1000000, 0))) from rfl, r6_0, r5_1, r3_2, k21, k22, k23, tb_sF, tb_a1 (by omega), tb_a2 (by omega)]
  rw [show 15 - 2 ^ 3 = 7 from rfl, r7_3]
  rfl
theorem tb_v31 {k : Nat → Nat} {a b c d e f : Nat} (h : tb_Cs k a b c d e f) (ha : a ≤ 31) (hb : b ≤ 31) (hc : c ≤ 31) (hd : d ≤ 31) (he : e ≤ 31) (hf : f ≤ 31) : (tb_R k (tb_p 1) (15 - 2 ^ 3) 3).1 = min (c + (b + (d + 0))) (f + (b + (a + 0))) := by
  obtain ⟨⟨k1, k7⟩, ⟨k2, k14⟩, ⟨k3, k21⟩, ⟨k9, k15⟩, ⟨k10, k22⟩, ⟨k17, k23⟩⟩ := h
  have r0_0 : tb_R k (tb_p 1) 0 0 = (1000000, 0) := rfl
  have r0_1 : tb_R k (tb_p 1) 0 1 = (0, 1) := rfl
  have r0_2 : tb_R k (tb_p 1) 0 2 = (1000000, 0) := rfl
  have r0_3 : tb_R k (tb_p 1) 0 3 = (1000000, 0) := rfl
  have r4_1 : tb_R k (tb_p 1) 4 1 = (1000000, 0) := by rw [show tb_R k (tb_p 1) 4 1 = tb_s (k 9) (tb_R k (tb_p 1) 0 2).1 (tb_R k (tb_p 1) 0 2).2 (1000000, 0) from rfl, r0_2, k9, tb_sF]
  have r2_2 : tb_R k (tb_p 1) 2 2 = (d + 0, 1) := by rw [show tb_R k (tb_p 1) 2 2 = tb_s (k 15) (tb_R k (tb_p 1) 0 1).1 (tb_R k (tb_p 1) 0 1).2 (1000000, 0) from rfl, r0_1, k15, tb_a1 (by omega)]
  have r6_0 : tb_R k (tb_p 1) 6 0 = (b + (d + 0), 1) := by rw [show tb_R k (tb_p 1) 6 0 = tb_s (k 2) (tb_R k (tb_p 1) 2 2).1 (tb_R k (tb_p 1) 2 2).2 (tb_s (k 1) (tb_R k (tb_p 1) 4 1).1 (tb_R k (tb_p 1) 4 1).2 (1000000, 0)) from rfl, r4_1, r2_2, k1, k2, tb_sF, tb_a1 (by omega)]
  have r4_0 : tb_R k (tb_p 1) 4 0 = (1000000, 0) := by rw [show tb_R k (tb_p 1) 4 0 = tb_s (k 2) (tb_R k (tb_p 1) 0 2).1 (tb_R k (tb_p 1) 0 2).2 (1000000, 0) from rfl, r0_2, k2, tb_sF]
  have r1_2 : tb_R k (tb_p 1) 1 2 = (1000000, 0) := by rw [show tb_R k (tb_p 1) 1 2 = tb_s (k 14) (tb_R k (tb_p 1) 0 0).1 (tb_R k (tb_p 1) 0 0).2 (1000000, 0) from rfl, r0_0, k14, tb_sF]
  have r5_1 : tb_R k (tb_p 1) 5 1 = (1000000, 0) := by rw [show tb_R k (tb_p 1) 5 1 = tb_s (k 9) (tb_R k (tb_p 1) 1 2).1 (tb_R k (tb_p 1) 1 2).2 (tb_s (k 7) (tb_R k (tb_p 1) 4 0).1 (tb_R k (tb_p 1) 4 0).2 (1000000, 0)) from rfl, r4_0, r1_2, k7, k9, tb_sF, tb_sF]
  have r2_0 : tb_R k (tb_p 1) 2 0 = (a + 0, 1) := by rw [show tb_R k (tb_p 1) 2 0 = tb_s (k 1) (tb_R k (tb_p 1) 0 1).1 (tb_R k (tb_p 1) 0 1).2 (1000000, 0) from rfl, r0_1, k1, tb_a1 (by omega)]
  have r1_1 : tb_R k (tb_p 1) 1 1 = (1000000, 0) := by rw [show tb_R k (tb_p 1) 1 1 = tb_s (k 7) (tb_R k (tb_p 1) 0 0).1 (tb_R k (tb_p 1) 0 0).2 (1000000, 0) from rfl, r0_0, k7, tb_sF]
  have r3_2 : tb_R k (tb_p 1) 3 2 = (b + (a + 0), 1) := by rw [show tb_R k (tb_p 1) 3 2 = tb_s (k 15) (tb_R k (tb_p 1) 1 1).1 (tb_R k (tb_p 1) 1 1).2 (tb_s (k 14) (tb_R k (tb_p 1) 2 0).1 (tb_R k (tb_p 1) 2 0).2 (1000000, 0)) from rfl, r2_0, r1_1, k14, k15, tb_a1 (by omega), tb_sF]
  have r7_3 : tb_R k (tb_p 1) 7 3 = tb_g (c + (b + (d + 0))) (f + (b + (a + 0))) := by rw [show tb_R k (tb_p 1) 7 3 = tb_s (k 23) (tb_R k (tb_p 1) 3 2).1 (tb_R k (tb_p 1) 3 2).2 (tb_s (k 22) (tb_R k (tb_p 1) 5 1).1 (tb_R k (tb_p 1) 5 1).2 (tb_s (k 21) (tb_R k (tb_p 1) 6 0).1 (tb_R k (tb_p 1) 6 0).2 (1000000, 0))) from rfl, r6_0, r5_1, r3_2, k21, k22, k23, tb_a1 (by omega), tb_sF, tb_a2 (by omega)]
  rw [show 15 - 2 ^ 3 = 7 from rfl, r7_3]
  rfl
theorem tb_v32 {k : Nat → Nat} {a b c d e f : Nat} (h : tb_Cs k a b c d e f) (ha : a ≤ 31) (hb : b ≤ 31) (hc : c ≤ 31) (hd : d ≤ 31) (he : e ≤ 31) (hf : f ≤ 31) : (tb_R k (tb_p 2) (15 - 2 ^ 3) 3).1 = min (c + (a + (d + 0))) (e + (a + (b + 0))) := by
  obtain ⟨⟨k1, k7⟩, ⟨k2, k14⟩, ⟨k3, k21⟩, ⟨k9, k15⟩, ⟨k10, k22⟩, ⟨k17, k23⟩⟩ := h
  have r0_0 : tb_R k (tb_p 2) 0 0 = (1000000, 0) := rfl
  have r0_1 : tb_R k (tb_p 2) 0 1 = (1000000, 0) := rfl
  have r0_2 : tb_R k (tb_p 2) 0 2 = (0, 1) := rfl
  have r0_3 : tb_R k (tb_p 2) 0 3 = (1000000, 0) := rfl
  have r4_1 : tb_R k (tb_p 2) 4 1 = (d + 0, 1) := by rw [show tb_R k (tb_p 2) 4 1 = tb_s (k 9) (tb_R k (tb_p 2) 0 2).1 (tb_R k (tb_p 2) 0 2).2 (1000000, 0) from rfl, r0_2, k9, tb_a1 (by omega)]
  have r2_2 : tb_R k (tb_p 2) 2 2 = (1000000, 0) := by rw [show tb_R k (tb_p 2) 2 2 = tb_s (k 15) (tb_R k (tb_p 2) 0 1).1 (tb_R k (tb_p 2) 0 1).2 (1000000, 0) from rfl, r0_1, k15, tb_sF]
  have r6_0 : tb_R k (tb_p 2) 6 0 = (a + (d + 0), 1) := by rw [show tb_R k (tb_p 2) 6 0 = tb_s (k 2) (tb_R k (tb_p 2) 2 2).1 (tb_R k (tb_p 2) 2 2).2 (tb_s (k 1) (tb_R k (tb_p 2) 4 1).1 (tb_R k (tb_p 2) 4 1).2 (1000000, 0)) from rfl, r4_1, r2_2, k1, k2, tb_a1 (by omega), tb_sF]
  have r4_0 : tb_R k (tb_p 2) 4 0 = (b + 0, 1) := by rw [show tb_R k (tb_p 2) 4 0 = tb_s (k 2) (tb_R k (tb_p 2) 0 2).1 (tb_R k (tb_p 2) 0 2).2 (1000000, 0) from rfl, r0_2, k2, tb_a1 (by omega)]
  have r1_2 : tb_R k (tb_p 2) 1 2 = (1000000, 0) := by rw [show tb_R k (tb_p 2) 1 2 = tb_s (k 14) (tb_R k (tb_p 2) 0 0).1 (tb_R k (tb_p 2) 0 0).2 (1000000, 0) from rfl, r0_0, k14, tb_sF]
  have r5_1 : tb_R k (tb_p 2) 5 1 = (a + (b + 0), 1) := by rw [show tb_R k (tb_p 2) 5 1 = tb_s (k 9) (tb_R k (tb_p 2) 1 2).1 (tb_R k (tb_p 2) 1 2).2 (tb_s (k 7) (tb_R k (tb_p 2) 4 0).1 (tb_R k (tb_p 2) 4 0).2 (1000000, 0)) from rfl, r4_0, r1_2, k7, k9, tb_a1 (by omega), tb_sF]
  have r2_0 : tb_R k (tb_p 2) 2 0 = (1000000, 0) := by rw [show tb_R k (tb_p 2) 2 0 = tb_s (k 1) (tb_R k (tb_p 2) 0 1).1 (tb_R k (tb_p 2) 0 1).2 (1000000, 0) from rfl, r0_1, k1, tb_sF]
  have r1_1 : tb_R k (tb_p 2) 1 1 = (1000000, 0) := by rw [show tb_R k (tb_p 2) 1 1 = tb_s (k 7) (tb_R k (tb_p 2) 0 0).1 (tb_R k (tb_p 2) 0 0).2 (1000000, 0) from rfl, r0_0, k7, tb_sF]
  have r3_2 : tb_R k (tb_p 2) 3 2 = (1000000, 0) := by rw [show tb_R k (tb_p 2) 3 2 = tb_s (k 15) (tb_R k (tb_p 2) 1 1).1 (tb_R k (tb_p 2) 1 1).2 (tb_s (k 14) (tb_R k (tb_p 2) 2 0).1 (tb_R k (tb_p 2) 2 0).2 (1000000, 0)) from rfl, r2_0, r1_1, k14, k15, tb_sF, tb_sF]
  have r7_3 : tb_R k (tb_p 2) 7 3 = tb_g (c + (a + (d + 0))) (e + (a + (b + 0))) := by rw [show tb_R k (tb_p 2) 7 3 = tb_s (k 23) (tb_R k (tb_p 2) 3 2).1 (tb_R k (tb_p 2) 3 2).2 (tb_s (k 22) (tb_R k (tb_p 2) 5 1).1 (tb_R k (tb_p 2) 5 1).2 (tb_s (k 21) (tb_R k (tb_p 2) 6 0).1 (tb_R k (tb_p 2) 6 0).2 (1000000, 0))) from rfl, r6_0, r5_1, r3_2, k21, k22, k23, tb_a1 (by omega), tb_a2 (by omega), tb_sF]
  rw [show 15 - 2 ^ 3 = 7 from rfl, r7_3]
  rfl
end
section
/-! ===== part 09: path, bestPath, load, priceOfTour, isAllowed ===== -/
theorem tb_pathW {post : Int32 → St2 → Prop} {p m : Nat → Nat} {x y v : Nat} (hx : x < 4) (hy : y < 4) (hxy : x ≠ y) (hv : (tb_R (tb_c p m) (tb_p y) (15 - 2 ^ x) x).1 = v) (hv2 : v < 1000000) (H : tb_Post p m (post (nI v))) : tb_Post p m (fun u => wpX_path post u (nI x) (nI y)) := by
  intro rq P M C A B a6 a7 a8 a9 a10 a11 hp
  show wpX_path post _ _ _
  unfold wpX_path
  refine tb_town hx (br_f (by decide) (tb_town hy (br_f (by decide) ?_)))
  refine pk_eq x y (fun z => absurd z hxy) (fun _ => ?_)
  exact tb_pp hx hy hv hv2 hp (fun rq1 P1 M1 C1 A1 B1 b6 b7 b8 b9 b10 b11 hp1 => H _ _ _ _ _ _ _ _ _ _ _ _ hp1)
/-- any state over these prices and marks, spread out -/
def tb_Q (p m : Nat → Nat) (K : Int32 → (Nat → Int32) → (Nat → Int32) → (Nat → Int32) → (Nat → Int32) → (Nat → Int32) → (Nat → Int32) → (Nat → Int32) → (Nat → Int32) → (Nat → Int32) → (Nat → Int32) → (Nat → Int32) → Prop) : Prop := ∀ (rq : Int32) (P M C A B a6 a7 a8 a9 a10 a11 : Nat → Int32), tb_Pic p m P M → K rq P M C A B a6 a7 a8 a9 a10 a11
section
variable {post : Int32 → St2 → Prop} {p m : Nat → Nat} {n n' x y v w : Nat}
theorem tb_bp0 {J : Int32 → Int32 → Int32 → Int32 → (Nat → Int32) → (Nat → Int32) → (Nat → Int32) → (Nat → Int32) → (Nat → Int32) → (Nat → Int32) → (Nat → Int32) → (Nat → Int32) → (Nat → Int32) → (Nat → Int32) → (Nat → Int32) → Prop} (hx : x < 4) (hyx : y < x) (hv : (tb_R (tb_c p m) (tb_p y) (15 - 2 ^ x) x).1 = v) (hv2 : v < 1000000)
    (H : tb_Q p m (wX_bestPath_15 post J (nI x) n (nI v) (nI (y + 1)) 4)) : tb_Q p m (wX_bestPath_15 post J (nI x) (n + 1) (-3) (nI y) 4) := by
  intro rq P M C A B a6 a7 a8 a9 a10 a11 hp
  refine pk_le x y (fun z => absurd z (by omega)) (fun _ => tb_pp hx (by omega) hv hv2 hp (fun rq1 P1 M1 C1 A1 B1 b6 b7 b8 b9 b10 b11 hp1 => ?_))
  refine pk_lt v 0 (fun z => absurd z (by omega)) (fun _ => br_t (by decide) (nm_r (nI_1 y) (H _ _ _ _ _ _ _ _ _ _ _ _ hp1)))
theorem tb_bp1 {J : Int32 → Int32 → Int32 → Int32 → (Nat → Int32) → (Nat → Int32) → (Nat → Int32) → (Nat → Int32) → (Nat → Int32) → (Nat → Int32) → (Nat → Int32) → (Nat → Int32) → (Nat → Int32) → (Nat → Int32) → (Nat → Int32) → Prop} (hw : w < 1000000) (hx : x < 4) (hyx : y < x) (hv : (tb_R (tb_c p m) (tb_p y) (15 - 2 ^ x) x).1 = v) (hv2 : v < 1000000)
    (H : tb_Q p m (wX_bestPath_15 post J (nI x) n (nI (min w v)) (nI (y + 1)) 4)) : tb_Q p m (wX_bestPath_15 post J (nI x) (n + 1) (nI w) (nI y) 4) := by
  intro rq P M C A B a6 a7 a8 a9 a10 a11 hp
  refine pk_le x y (fun z => absurd z (by omega)) (fun _ => tb_pp hx (by omega) hv hv2 hp (fun rq1 P1 M1 C1 A1 B1 b6 b7 b8 b9 b10 b11 hp1 => ?_))
  have h := H rq1 P1 M1 C1 A1 B1 b6 b7 b8 b9 b10 b11 hp1
  refine pk_lt v 0 (fun z => absurd z (by omega)) (fun _ => pk_lt w 0 (fun z => absurd z (by omega)) (fun _ => ?_))
  refine pk_le w v (fun z => ?_) (fun z => ?_)
  · rw [Nat.min_eq_left z] at h
    exact nm_r (nI_1 y) h
  · rw [Nat.min_eq_right (Nat.le_of_lt z)] at h
    exact nm_r (nI_1 y) h
theorem tb_bpx {x1 : Int32} (hx : x < 4) (H : tb_Q p m (wX_bestPath_5 post n x1 (nI (x + 1)) 4)) : tb_Q p m (wX_bestPath_15 post (wX_bestPath_5 post n) (nI x) (n' + 1) x1 (nI x) 4) := by
  intro rq P M C A B a6 a7 a8 a9 a10 a11 hp
  exact pk_le x x (fun _ => nm_r (nI_1 x) (H _ _ _ _ _ _ _ _ _ _ _ _ hp)) (fun z => absurd z (by omega))
theorem tb_bpo {x1 : Int32} (hx : x < 4) (H : tb_Q p m (wX_bestPath_15 post (wX_bestPath_5 post n) (nI x) n' x1 (nI 0) 4)) : tb_Q p m (wX_bestPath_5 post (n + 1) x1 (nI x) 4) := by
  intro rq P M C A B a6 a7 a8 a9 a10 a11 hp
  exact pk_le 4 x (fun z => absurd z (by omega)) (fun _ => ⟨n', H _ _ _ _ _ _ _ _ _ _ _ _ hp⟩)
theorem tb_bestPathW {v10 v20 v21 v30 v31 v32 : Nat}
    (h10 : (tb_R (tb_c p m) (tb_p 0) (15 - 2 ^ 1) 1).1 = v10) (h20 : (tb_R (tb_c p m) (tb_p 0) (15 - 2 ^ 2) 2).1 = v20) (h21 : (tb_R (tb_c p m) (tb_p 1) (15 - 2 ^ 2) 2).1 = v21)
    (h30 : (tb_R (tb_c p m) (tb_p 0) (15 - 2 ^ 3) 3).1 = v30) (h31 : (tb_R (tb_c p m) (tb_p 1) (15 - 2 ^ 3) 3).1 = v31) (h32 : (tb_R (tb_c p m) (tb_p 2) (15 - 2 ^ 3) 3).1 = v32)
    (l10 : v10 < 1000000) (l20 : v20 < 1000000) (l21 : v21 < 1000000) (l30 : v30 < 1000000) (l31 : v31 < 1000000) (l32 : v32 < 1000000)
    (H : tb_Post p m (post (nI (min (min (min (min (min v10 v20) v21) v30) v31) v32)))) : tb_Post p m (fun u => wpX_bestPath post u) := by
  have m1 : min v10 v20 < 1000000 := Nat.lt_of_le_of_lt (Nat.min_le_left _ _) l10
  have m2 : min (min v10 v20) v21 < 1000000 := Nat.lt_of_le_of_lt (Nat.min_le_left _ _) m1
  have m3 : min (min (min v10 v20) v21) v30 < 1000000 := Nat.lt_of_le_of_lt (Nat.min_le_left _ _) m2
  have m4 : min (min (min (min v10 v20) v21) v30) v31 < 1000000 := Nat.lt_of_le_of_lt (Nat.min_le_left _ _) m3
  have e4 : tb_Q p m (wX_bestPath_5 post (0 + 1) (nI (min (min (min (min (min v10 v20) v21) v30) v31) v32)) (nI (3 + 1)) 4) := by
    intro rq P M C A B a6 a7 a8 a9 a10 a11 hp
    exact pk_le 4 4 (fun _ => H _ _ _ _ _ _ _ _ _ _ _ _ hp) (fun z => absurd z (by omega))
  have e3 := tb_bpo (x := 3) (by decide) (tb_bp1 (y := 0) m2 (by decide) (by decide) h30 l30 (tb_bp1 (y := 1) m3 (by decide) (by decide) h31 l31 (tb_bp1 (y := 2) m4 (by decide) (by decide) h32 l32 (tb_bpx (n' := 0) (by decide) e4))))
  have e2 := tb_bpo (x := 2) (by decide) (tb_bp1 (y := 0) l10 (by decide) (by decide) h20 l20 (tb_bp1 (y := 1) m1 (by decide) (by decide) h21 l21 (tb_bpx (n' := 0) (by decide) e3)))
  have e1 := tb_bpo (x := 1) (by decide) (tb_bp0 (y := 0) (by decide) (by decide) h10 l10 (tb_bpx (n' := 0) (by decide) e2))
  have e0 := tb_bpo (x := 0) (by decide) (tb_bpx (n' := 0) (by decide) e1)
  intro rq P M C A B a6 a7 a8 a9 a10 a11 hp
  show wpX_bestPath post _
  unfold wpX_bestPath
  exact ⟨_, e0 _ _ _ _ _ _ _ _ _ _ _ _ hp⟩
end
/-! load -/
theorem tb_setb : ∀ s, s < 16 → ∀ t, t < 4 → s / 2 ^ t % 2 = 0 → nI s ||| ((1 : Int32) <<< (nI t &&& 31)) = nI (s + 2 ^ t) := by decide +kernel
section
variable {post : Int32 → St2 → Prop} {rq : Int32} {P M C A B a6 a7 a8 a9 a10 a11 : Nat → Int32} {n s q t i : Nat}
theorem tb_ld (hs : s < 16) (ht : t < 4) (hb : s / 2 ^ t % 2 = 0) (hq : 7 * q + t < 2 ^ 31) (hi : i < 6)
    (H : wX_load_25 post 4 rq n (nI q) (nI (s + 2 ^ t)) (nI i) P M C A B a6 a7 a8 a9 a10 (upd a11 (i + 1) (nI t))) :
    wX_load_25 post 4 rq (n + 1) (nI (7 * q + t)) (nI s) (nI (i + 1)) P M C A B a6 a7 a8 a9 a10 a11 := by
  refine pk_lt (i + 1) 1 (fun z => absurd z (by omega)) (fun _ => And.intro (by decide) (fun x5 e5 => And.intro (by decide) (fun x2 e2 => ?_)))
  have d1 : nI (7 * q + t) - nI (7 * q + t) / 7 * 7 = nI t := by
    have h := pk_rem (a := 7 * q + t) (d := 7) hq (by decide) (by decide)
    rw [show (7 * q + t) % 7 = t by omega] at h
    exact h
  have d2 : nI (7 * q + t) / 7 = nI q := by
    have h := pk_div (a := 7 * q + t) (d := 7) hq (by decide) (by decide)
    rw [show (7 * q + t) / 7 = q by omega] at h
    exact h
  rw [d1] at e5
  rw [d2] at e2
  subst e5
  subst e2
  refine pk_le 4 t (fun z => absurd z (by omega)) (fun _ => pk_eq (s / 2 ^ t % 2) 1 (fun z => absurd z (by omega)) (fun _ => ?_) (tb_bit s hs t ht) rfl (tb_m2 _) (by omega))
  intro x3 e3
  rw [tb_setb s hs t ht hb] at e3
  subst e3
  refine And.intro (pk_in (i + 1) 7 (by omega)) (fun b11 eb => ?_)
  rw [nI_clamp (by omega)] at eb
  subst eb
  exact nm_r (pk_m1 i) H
theorem tb_load {x1 x2 x3 s2 s3 : Nat} (h1 : x1 < 4) (h2 : x2 < 4) (h3 : x3 < 4) (hs2 : 1 + 2 ^ x3 = s2) (hs3 : s2 + 2 ^ x2 = s3) (l2 : s2 < 16) (l3 : s3 < 16) (b3 : 1 / 2 ^ x3 % 2 = 0) (b2 : s2 / 2 ^ x2 % 2 = 0) (b1 : s3 / 2 ^ x1 % 2 = 0)
    (H : ∀ b11 : Nat → Int32, b11 0 = nI 0 → b11 1 = nI x1 → b11 2 = nI x2 → b11 3 = nI x3 → post 1 (4, rq, P, M, C, A, B, a6, a7, a8, a9, a10, b11)) :
    wpX_load post (4, rq, P, M, C, A, B, a6, a7, a8, a9, a10, a11) (nI (7 * (7 * (7 * 0 + x1) + x2) + x3)) := by
  unfold wpX_load
  refine pk_le 0 (7 * (7 * (7 * 0 + x1) + x2) + x3) (fun _ => ?_) (fun z => absurd z (by omega))
  intro c11 ec x4 e4
  rw [show (4 : Int32) - 1 = nI (2 + 1) by decide] at e4
  subst e4
  refine ⟨0 + 1 + 1 + 1 + 1, ?_⟩
  refine tb_ld (s := 1) (by omega) h3 b3 (by omega) (by omega) ?_
  rw [hs2]
  refine tb_ld (i := 1) l2 h2 b2 (by omega) (by omega) ?_
  rw [hs3]
  refine tb_ld (i := 0) l3 h1 b1 (by omega) (by omega) ?_
  refine pk_lt 0 1 (fun _ => br_t rfl (H _ ?_ ?_ ?_ ?_)) (fun z => absurd z (by omega))
  · rw [pk_un (by omega), pk_un (by omega), pk_un (by omega), ec]
    exact pk_us
  · exact pk_us
  · rw [pk_un (by omega)]
    exact pk_us
  · rw [pk_un (by omega), pk_un (by omega)]
    exact pk_us
/-! priceOfTour -/
theorem tb_pt {u v w sm : Nat} (hi : i < 3) (hu : u < 4) (hv : v < 4) (e1 : a11 i = nI u) (e2 : a11 (i + 1) = nI v) (hw : P (7 * u + v) = nI w)
    (H : wX_priceOfTour_14 post 4 rq P M C A B a6 a7 a8 a9 a10 a11 n (nI (sm + w)) (nI (i + 1))) : wX_priceOfTour_14 post 4 rq P M C A B a6 a7 a8 a9 a10 a11 (n + 1) (nI sm) (nI i) := by
  have ki : (nI i).toNatClampNeg = i := nI_clamp (by omega)
  have kj : (nI i + 1).toNatClampNeg = i + 1 := by
    rw [nI_1]
    exact nI_clamp (by omega)
  refine pk_le 4 i (fun z => absurd z (by omega)) (fun _ => And.intro (pk_in i 7 (by omega)) (pk_le 4 (i + 1) (fun z => absurd z (by omega)) (fun _ => ?_) rfl (nI_1 i) (by omega) (by omega)))
  have ex : 7 * a11 (nI i).toNatClampNeg + a11 (nI i + 1).toNatClampNeg = nI (7 * u + v) := by
    rw [ki, kj, e1, e2, tb_ix]
  refine And.intro (pk_in (i + 1) 7 (by omega) (nI_1 i)) (And.intro (pk_in (7 * u + v) 49 (by omega) ex) (fun x2 e => ?_))
  rw [ex, nI_clamp (by omega), hw, nI_add] at e
  subst e
  exact nm_r (nI_1 i) H
theorem tb_ptl {u w sm : Nat} (hu : u < 4) (e1 : a11 3 = nI u) (e2 : a11 0 = nI 0) (hw : P (7 * u + 0) = nI w)
    (H : post (nI (sm + w)) (4, rq, P, M, C, A, B, a6, a7, a8, a9, a10, a11)) : wX_priceOfTour_14 post 4 rq P M C A B a6 a7 a8 a9 a10 a11 (0 + 1 + 1) (nI sm) (nI 3) := by
  have ki : (nI 3).toNatClampNeg = 3 := nI_clamp (by omega)
  refine pk_le 4 3 (fun z => absurd z (by omega)) (fun _ => And.intro (pk_in 3 7 (by omega)) (pk_le 4 (3 + 1) (fun _ => ?_) (fun z => absurd z (by omega)) rfl (nI_1 3) (by omega) (by omega)))
  have ex : 7 * a11 (nI 3).toNatClampNeg + a11 0 = nI (7 * u + 0) := by
    rw [ki, e1, e2, tb_ix]
  refine And.intro (pk_in (7 * u + 0) 49 (by omega) ex) (fun x2 e => ?_)
  rw [ex, nI_clamp (by omega), hw, nI_add] at e
  subst e
  exact nm_r (nI_1 3) (pk_le 4 4 (fun _ => H) (fun z => absurd z (by omega)))
end
theorem tb_tourW {post : Int32 → St2 → Prop} {p m : Nat → Nat} {v : Nat} (hv : p 3 + p 23 + p 15 + p 7 = v) (H : tb_Post p m (post (nI v))) : tb_Post p m (fun u => wpX_priceOfTour post u 162) := by
  intro rq P M C A B a6 a7 a8 a9 a10 a11 hp
  show wpX_priceOfTour post _ _
  unfold wpX_priceOfTour
  refine tb_load (x1 := 3) (x2 := 2) (x3 := 1) (s2 := 3) (s3 := 7) (by decide) (by decide) (by decide) rfl rfl (by decide) (by decide) (by decide) (by decide) (by decide) (fun b11 g0 g1 g2 g3 => ?_)
  refine br_f (by decide) ⟨0 + 1 + 1 + 1 + 1 + 1, ?_⟩
  refine tb_pt (i := 0) (u := 0) (v := 3) (sm := 0) (w := p 3) (by decide) (by decide) (by decide) g0 g1 (hp 3 (by decide)).1 ?_
  refine tb_pt (i := 1) (u := 3) (v := 2) (w := p 23) (by decide) (by decide) (by decide) g1 g2 (hp 23 (by decide)).1 ?_
  refine tb_pt (i := 2) (u := 2) (v := 1) (w := p 15) (by decide) (by decide) (by decide) g2 g3 (hp 15 (by decide)).1 ?_
  refine tb_ptl (u := 1) (w := p 7) (by decide) g3 g0 (hp 7 (by decide)).1 ?_
  rw [Nat.zero_add, hv]
  exact H _ _ _ _ _ _ _ _ _ _ _ _ hp
theorem tb_goneW {post : Int32 → St2 → Prop} {p m : Nat → Nat} (hk : tb_c p m 1 = 1000000) (H : tb_Post p m (post 0)) : tb_Post p m (fun u => wpX_isAllowed post u 66) := by
  intro rq P M C A B a6 a7 a8 a9 a10 a11 hp
  show wpX_isAllowed post _ _
  unfold wpX_isAllowed
  refine tb_load (x1 := 1) (x2 := 2) (x3 := 3) (s2 := 9) (s3 := 13) (by decide) (by decide) (by decide) rfl rfl (by decide) (by decide) (by decide) (by decide) (by decide) (fun b11 g0 g1 g2 g3 => ?_)
  refine br_f (by decide) (tb_take hp (fun C' hC => ⟨0 + 1, ?_⟩))
  have k0 : (0 : Int32).toNatClampNeg = 0 := by decide
  have k1 : ((0 : Int32) + 1).toNatClampNeg = 1 := by decide
  have ex : 7 * b11 (0 : Int32).toNatClampNeg + b11 ((0 : Int32) + 1).toNatClampNeg = nI 1 := by
    rw [k0, k1, g0, g1]
    decide
  refine pk_le 4 0 (fun z => absurd z (by omega)) (fun _ => And.intro (pk_in 0 7 (by omega)) (pk_le 4 1 (fun z => absurd z (by omega)) (fun _ => ?_)))
  refine And.intro (pk_in 1 7 (by omega)) (And.intro (pk_in 1 49 (by omega) ex) (fun x4 e4 => ?_))
  rw [ex, nI_clamp (by omega), (hC 1 (by omega)).1, hk] at e4
  subst e4
  exact pk_lt 1000000 1000000 (fun z => absurd z (by omega)) (fun _ => H _ _ _ _ _ _ _ _ _ _ _ _ hp)
end
section
/-! ===== part 10: span ===== -/
def tb_Nr (nr : Nat → Nat) (N : Nat → Int32) : Prop := ∀ t, t < 4 → N t = nI (nr t)
/-- the distances after the town v has been joined, up to t -/
def tb_rx (nr k : Nat → Nat) (v t j : Nat) : Nat := if 1 ≤ j ∧ j < t then min (nr j) (k (7 * v + j)) else nr j
/-- a nearest town that isn't joined yet -/
def tb_sel (jn : Nat) (nr : Nat → Nat) (v : Nat) : Prop := 1 ≤ v ∧ v < 4 ∧ jn / 2 ^ v % 2 = 0 ∧ ∀ j, j < 4 → 1 ≤ j → jn / 2 ^ j % 2 = 0 → nr v ≤ nr j
theorem tb_rx_le (nr k : Nat → Nat) (v t j : Nat) : tb_rx nr k v t j ≤ nr j := by
  unfold tb_rx
  split
  · exact Nat.min_le_left _ _
  · exact Nat.le_refl _
section
variable {post : Int32 → St2 → Prop} {J : Int32 → Int32 → Int32 → (Nat → Int32) → (Nat → Int32) → (Nat → Int32) → (Nat → Int32) → (Nat → Int32) → (Nat → Int32) → (Nat → Int32) → (Nat → Int32) → (Nat → Int32) → (Nat → Int32) → (Nat → Int32) → Prop} {rq : Int32} {P M C A B a6 a7 a8 a9 N a11 : Nat → Int32} {k nr : Nat → Nat} {jn tot i v : Nat}
theorem tb_relax (hC : tb_Co k C) (hN : tb_Nr nr N) (hnr : ∀ j, j < 4 → 1 ≤ j → nr j ≤ 31) (hv : v < 4) {x1 x2 : Int32}
    (H : ∀ N', tb_Nr (tb_rx nr k v 4) N' → J x1 x2 (nI (i + 1)) P M C A B a6 a7 a8 a9 N' a11) :
    ∃ n, wX_span_143 post J x1 x2 (nI i) (nI v) 4 rq n 1 P M C A B a6 a7 a8 a9 N a11 := by
  refine pk_loop (fun n t s => wX_span_143 post J x1 x2 (nI i) (nI v) 4 rq n (nI t) P M C A B a6 a7 a8 a9 s a11) (fun t s => 1 ≤ t ∧ tb_Nr (tb_rx nr k v t) s) 4 1 N (by omega) ⟨Nat.le_refl 1, ?_⟩ ?_ ?_
  · intro j hj
    unfold tb_rx
    rw [if_neg (by omega)]
    exact hN j hj
  · intro n s hs
    exact pk_le 4 4 (fun _ => nm_r (nI_1 i) (H s hs.2)) (fun z => absurd z (by omega))
  · intro n t s ht hs hw
    obtain ⟨h1, h2⟩ := hs
    have hc := hC (7 * v + t) (by omega)
    have hc2 := hc.2
    have kt : (nI t).toNatClampNeg = t := nI_clamp (by omega)
    have int : vp_in (nI t) 7 := pk_in t 7 (by omega)
    have hst : s t = nI (nr t) := by
      rw [h2 t ht]
      unfold tb_rx
      rw [if_neg (by omega)]
    have hb := hnr t ht h1
    have nxt : ∀ s', (∀ j, j ≠ t → s' j = s j) → s' t = nI (min (nr t) (k (7 * v + t))) → wX_span_143 post J x1 x2 (nI i) (nI v) 4 rq n (nI (t + 1)) P M C A B a6 a7 a8 a9 s' a11 := by
      intro s' g1 g2
      refine hw s' ⟨by omega, fun j hj => ?_⟩
      by_cases e : j = t
      · subst e
        rw [g2]
        unfold tb_rx
        rw [if_pos (by omega)]
      · rw [g1 j e, h2 j hj]
        unfold tb_rx
        by_cases q : 1 ≤ j ∧ j < t
        · rw [if_pos q, if_pos (by omega)]
        · rw [if_neg q, if_neg (by omega)]
    refine pk_le 4 t (fun z => absurd z (by omega)) (fun _ => And.intro (pk_in (7 * v + t) 49 (by omega) (tb_ix v t)) (fun x6 e6 => And.intro int ?_))
    rw [tb_ix, nI_clamp (by omega), hc.1] at e6
    subst e6
    refine pk_le (nr t) (k (7 * v + t)) (fun z => ⟨int, int, fun s1 e1 => nm_r (nI_1 t) (nxt s1 ?_ ?_)⟩) (fun z => ⟨int, fun s1 e1 => nm_r (nI_1 t) (nxt s1 ?_ ?_)⟩) (by rw [kt]; exact hst) rfl (by omega) (by omega)
    · intro j hj
      rw [e1, kt, pk_un hj]
    · rw [e1, kt, pk_us, hst, Nat.min_eq_left z]
    · intro j hj
      rw [e1, kt, pk_un hj]
    · rw [e1, kt, pk_us, Nat.min_eq_right (Nat.le_of_lt z)]
theorem tb_round (hC : tb_Co k C) (hN : tb_Nr nr N) (hnr : ∀ j, j < 4 → 1 ≤ j → nr j ≤ 31) (hjn : jn < 16) (hun : ¬ ∀ j, j < 4 → 1 ≤ j → jn / 2 ^ j % 2 = 1)
    (H : ∀ v, tb_sel jn nr v → ∀ N', tb_Nr (tb_rx nr k v 4) N' → J (nI (jn + 2 ^ v)) (nI (tot + nr v)) (nI (i + 1)) P M C A B a6 a7 a8 a9 N' a11) :
    ∃ n, wX_span_53 post J (nI jn) (nI tot) (nI i) 4 rq P M C A B a6 a7 a8 a9 N a11 n (-1) 1 := by
  refine pk_loop (fun n t x4 => wX_span_53 post J (nI jn) (nI tot) (nI i) 4 rq P M C A B a6 a7 a8 a9 N a11 n x4 (nI t)) (fun t x4 => 1 ≤ t ∧ ((x4 = -1 ∧ ∀ j, j < t → 1 ≤ j → jn / 2 ^ j % 2 = 1) ∨ ∃ v, x4 = nI v ∧ 1 ≤ v ∧ v < t ∧ jn / 2 ^ v % 2 = 0 ∧ ∀ j, j < t → 1 ≤ j → jn / 2 ^ j % 2 = 0 → nr v ≤ nr j)) 4 1 (-1) (by omega) ⟨Nat.le_refl 1, Or.inl ⟨rfl, fun j h1 h2 => absurd h1 (by omega)⟩⟩ ?_ ?_
  · intro n x4 hx
    refine pk_le 4 4 (fun _ => ?_) (fun z => absurd z (by omega))
    rcases hx.2 with ⟨_, h⟩ | ⟨v, e, h1, h2, h3, h4⟩
    · exact absurd h hun
    · subst e
      have kv : (nI v).toNatClampNeg = v := nI_clamp (by omega)
      have inv : vp_in (nI v) 7 := pk_in v 7 (by omega)
      have hb := hnr v h2 h1
      refine pk_lt v 0 (fun z => absurd z (by omega)) (fun _ => And.intro inv (pk_lt (nr v) 1000000 (fun _ => And.intro inv (fun x2 e2 x1 e1 => ?_)) (fun z => absurd z (by omega)) (by rw [kv]; exact hN v h2) rfl (by omega) (by omega)))
      rw [kv, hN v h2, nI_add] at e2
      rw [tb_setb jn hjn v h2 h3] at e1
      subst e1
      subst e2
      exact tb_relax hC hN hnr h2 (H v ⟨h1, h2, h3, h4⟩)
  · intro n t x4 ht hx hw
    obtain ⟨ht1, hx⟩ := hx
    have kt : (nI t).toNatClampNeg = t := nI_clamp (by omega)
    refine pk_le 4 t (fun z => absurd z (by omega)) (fun _ => ?_)
    refine pk_eq (jn / 2 ^ t % 2) 0 (fun hz => ?_) (fun hz => ?_) (tb_bit jn hjn t ht) rfl (tb_m2 _) (by omega)
    · rcases hx with ⟨e, h⟩ | ⟨v, e, h1, h2, h3, h4⟩
      · subst e
        refine br_t (by decide) (nm_r (nI_1 t) (hw (nI t) ⟨by omega, Or.inr ⟨t, rfl, ht1, by omega, hz, fun j hj hj1 hjb => ?_⟩⟩))
        by_cases q : j = t
        · subst q
          exact Nat.le_refl _
        · have := h j (by omega) hj1
          omega
      · subst e
        have kv : (nI v).toNatClampNeg = v := nI_clamp (by omega)
        have b1 := hnr v (by omega) h1
        have b2 := hnr t ht ht1
        refine pk_lt v 0 (fun z => absurd z (by omega)) (fun _ => And.intro (pk_in t 7 (by omega)) (And.intro (pk_in v 7 (by omega)) ?_))
        refine pk_le (nr v) (nr t) (fun z => ?_) (fun z => ?_) (by rw [kv]; exact hN v (by omega)) (by rw [kt]; exact hN t ht) (by omega) (by omega)
        · refine nm_r (nI_1 t) (hw (nI v) ⟨by omega, Or.inr ⟨v, rfl, h1, by omega, h3, fun j hj hj1 hjb => ?_⟩⟩)
          by_cases q : j = t
          · subst q
            exact z
          · exact h4 j (by omega) hj1 hjb
        · refine nm_r (nI_1 t) (hw (nI t) ⟨by omega, Or.inr ⟨t, rfl, ht1, by omega, hz, fun j hj hj1 hjb => ?_⟩⟩)
          by_cases q : j = t
          · subst q
            exact Nat.le_refl _
          · exact Nat.le_trans (Nat.le_of_lt z) (h4 j (by omega) hj1 hjb)
    · have hz1 : jn / 2 ^ t % 2 = 1 := by omega
      refine nm_r (nI_1 t) (hw x4 ⟨by omega, ?_⟩)
      rcases hx with ⟨e, h⟩ | ⟨v, e, h1, h2, h3, h4⟩
      · refine Or.inl ⟨e, fun j hj hj1 => ?_⟩
        by_cases q : j = t
        · subst q
          exact hz1
        · exact h j (by omega) hj1
      · refine Or.inr ⟨v, e, h1, by omega, h3, fun j hj hj1 hjb => ?_⟩
        by_cases q : j = t
        · subst q
          omega
        · exact h4 j (by omega) hj1 hjb
end
theorem tb_j1 : ∀ v, v < 4 → 1 ≤ v → (1 + 2 ^ v < 16 ∧ ¬ ∀ j, j < 4 → 1 ≤ j → (1 + 2 ^ v) / 2 ^ j % 2 = 1) := by decide +kernel
theorem tb_v123 {v : Nat} (hv : v < 4) (hv1 : 1 ≤ v) : v = 1 ∨ v = 2 ∨ v = 3 := by omega
theorem tb_j2 (v : Nat) (hv : v < 4) (hv1 : 1 ≤ v) (w : Nat) (hw : w < 4) (hw1 : 1 ≤ w) (hb : (1 + 2 ^ v) / 2 ^ w % 2 = 0) : 1 + 2 ^ v + 2 ^ w < 16 ∧ ¬ ∀ j, j < 4 → 1 ≤ j → (1 + 2 ^ v + 2 ^ w) / 2 ^ j % 2 = 1 := by
  rcases tb_v123 hv hv1 with rfl | rfl | rfl <;> rcases tb_v123 hw hw1 with rfl | rfl | rfl <;> first
    | (exact absurd hb (by decide))
    | decide
theorem tb_spanW {post : Int32 → St2 → Prop} {p m : Nat → Nat} {k : Nat → Nat} {S : Nat} (hkk : tb_c p m = k) (hk : ∀ j, j < 4 → 1 ≤ j → k j ≤ 31)
    (hS : ∀ v1 v2 v3, tb_sel 1 k v1 → tb_sel (1 + 2 ^ v1) (tb_rx k k v1 4) v2 → tb_sel (1 + 2 ^ v1 + 2 ^ v2) (tb_rx (tb_rx k k v1 4) k v2 4) v3 → 0 + k v1 + tb_rx k k v1 4 v2 + tb_rx (tb_rx k k v1 4) k v2 4 v3 = S)
    (H : tb_Post p m (post (nI S))) : tb_Post p m (fun u => wpX_span post u) := by
  intro rq P M C A B a6 a7 a8 a9 a10 a11 hp
  show wpX_span post _
  unfold wpX_span
  refine tb_take hp (fun C' hC => ?_)
  rw [hkk] at hC
  refine pk_loop (fun n t s => wX_span_11 post 1 0 4 0 n (nI t) P M C' A B a6 a7 a8 a9 s a11) (fun t s => ∀ j, j < t → s j = nI (k j)) 4 0 a10 (by omega) (fun j hj => absurd hj (by omega)) ?_ ?_
  · intro n s hs
    refine pk_le 4 4 (fun _ => ⟨0 + 1 + 1 + 1 + 1, ?_⟩) (fun z => absurd z (by omega))
    refine pk_le 4 1 (fun z => absurd z (by omega)) (fun _ => tb_round (jn := 1) (tot := 0) (i := 1) (nr := k) hC hs hk (by decide) (by decide) (fun v1 s1 N1 g1 => ?_))
    obtain ⟨q1, q2⟩ := tb_j1 v1 s1.2.1 s1.1
    have l1 : ∀ j, j < 4 → 1 ≤ j → tb_rx k k v1 4 j ≤ 31 := fun j h h1 => Nat.le_trans (tb_rx_le _ _ _ _ _) (hk j h h1)
    refine pk_le 4 2 (fun z => absurd z (by omega)) (fun _ => tb_round (i := 2) hC g1 l1 q1 q2 (fun v2 s2 N2 g2 => ?_))
    obtain ⟨q3, q4⟩ := tb_j2 v1 s1.2.1 s1.1 v2 s2.2.1 s2.1 s2.2.2.1
    have l2 : ∀ j, j < 4 → 1 ≤ j → tb_rx (tb_rx k k v1 4) k v2 4 j ≤ 31 := fun j h h1 => Nat.le_trans (tb_rx_le _ _ _ _ _) (l1 j h h1)
    refine pk_le 4 3 (fun z => absurd z (by omega)) (fun _ => tb_round (i := 3) hC g2 l2 q3 q4 (fun v3 s3 N3 g3 => ?_))
    have e := hS v1 v2 v3 s1 s2 s3
    rw [e]
    exact pk_le 4 4 (fun _ => H _ _ _ _ _ _ _ _ _ _ _ _ hp) (fun z => absurd z (by omega))
  · intro n t s ht hs hw
    have kt : (nI t).toNatClampNeg = t := nI_clamp (by omega)
    refine pk_le 4 t (fun z => absurd z (by omega)) (fun _ => ⟨pk_in t 49 (by omega), pk_in t 7 (by omega), fun s1 e1 => nm_r (nI_1 t) (hw s1 (tb_put hs ?_ ?_))⟩)
    · intro j hj
      rw [e1, kt, pk_un hj]
    · rw [e1, kt, pk_us]
      exact (hC t (by omega)).1
end
section
/-! ===== part 11: the sixteen trees (printed by gen_trees.py) ===== -/
def tb_All (w a b c d e f : Nat) : Prop := w ≤ a + b + c ∧ w ≤ a + b + e ∧ w ≤ a + b + f ∧ w ≤ a + c + d ∧ w ≤ a + c + f ∧ w ≤ a + d + e ∧ w ≤ a + d + f ∧ w ≤ a + e + f ∧ w ≤ b + c + d ∧ w ≤ b + c + e ∧ w ≤ b + d + e ∧ w ≤ b + d + f ∧ w ≤ b + e + f ∧ w ≤ c + d + e ∧ w ≤ c + d + f ∧ w ≤ c + e + f
def tb_line (a b c d e f : Nat) : Nat := min (a + d + f + c - max (max a d) (max f c)) (min (a + e + f + b - max (max a e) (max f b)) (b + d + e + c - max (max b d) (max e c)))
def tb_star (a b c d e f : Nat) : Nat := min (min (a + b + c) (a + d + e)) (min (b + d + f) (c + e + f))
section
variable {w a b c d e f : Nat}
theorem tb_cut {x a b c d : Nat} (hx : x = a + b + c + d) (h1 : w ≤ b + c + d) (h2 : w ≤ a + c + d) (h3 : w ≤ a + b + d) (h4 : w ≤ a + b + c) : w ≤ x - max (max a b) (max c d) := by omega
theorem tb_cutL {x a b c d : Nat} (hx : x = a + b + c + d) : x - max (max a b) (max c d) ≤ b + c + d ∧ x - max (max a b) (max c d) ≤ a + c + d ∧ x - max (max a b) (max c d) ≤ a + b + d ∧ x - max (max a b) (max c d) ≤ a + b + c := by omega
theorem tb_line_ge (habe : w ≤ a + b + e) (habf : w ≤ a + b + f) (hacd : w ≤ a + c + d) (hacf : w ≤ a + c + f) (hadf : w ≤ a + d + f) (haef : w ≤ a + e + f) (hbcd : w ≤ b + c + d) (hbce : w ≤ b + c + e) (hbde : w ≤ b + d + e) (hbef : w ≤ b + e + f) (hcde : w ≤ c + d + e) (hcdf : w ≤ c + d + f) : w ≤ tb_line a b c d e f := by
  unfold tb_line
  refine Nat.le_min.mpr ⟨tb_cut rfl ?_ ?_ ?_ ?_, Nat.le_min.mpr ⟨tb_cut rfl ?_ ?_ ?_ ?_, tb_cut rfl ?_ ?_ ?_ ?_⟩⟩ <;> omega
theorem tb_line_le : tb_line a b c d e f ≤ a + b + e ∧ tb_line a b c d e f ≤ a + b + f ∧ tb_line a b c d e f ≤ a + c + d ∧ tb_line a b c d e f ≤ a + c + f ∧ tb_line a b c d e f ≤ a + d + f ∧ tb_line a b c d e f ≤ a + e + f ∧ tb_line a b c d e f ≤ b + c + d ∧ tb_line a b c d e f ≤ b + c + e ∧ tb_line a b c d e f ≤ b + d + e ∧ tb_line a b c d e f ≤ b + e + f ∧ tb_line a b c d e f ≤ c + d + e ∧ tb_line a b c d e f ≤ c + d + f := by
  have h1 : tb_line a b c d e f ≤ _ := Nat.min_le_left _ _
  have h2 : tb_line a b c d e f ≤ _ := Nat.le_trans (Nat.min_le_right _ _) (Nat.min_le_left _ _)
  have h3 : tb_line a b c d e f ≤ _ := Nat.le_trans (Nat.min_le_right _ _) (Nat.min_le_right _ _)
  have x1 := tb_cutL (show a + d + f + c = a + d + f + c from rfl)
  have x2 := tb_cutL (show a + e + f + b = a + e + f + b from rfl)
  have x3 := tb_cutL (show b + d + e + c = b + d + e + c from rfl)
  generalize a + d + f + c - max (max a d) (max f c) = p1 at h1 x1
  generalize a + e + f + b - max (max a e) (max f b) = p2 at h2 x2
  generalize b + d + e + c - max (max b d) (max e c) = p3 at h3 x3
  generalize tb_line a b c d e f = w at h1 h2 h3
  refine ⟨?_, ?_, ?_, ?_, ?_, ?_, ?_, ?_, ?_, ?_, ?_, ?_⟩ <;> omega
theorem tb_glb (h : tb_All w a b c d e f) : w ≤ min (tb_line a b c d e f) (tb_star a b c d e f) := by
  obtain ⟨habc, habe, habf, hacd, hacf, hade, hadf, haef, hbcd, hbce, hbde, hbdf, hbef, hcde, hcdf, hcef⟩ := h
  refine Nat.le_min.mpr ⟨tb_line_ge habe habf hacd hacf hadf haef hbcd hbce hbde hbef hcde hcdf, ?_⟩
  exact Nat.le_min.mpr ⟨Nat.le_min.mpr ⟨habc, hade⟩, Nat.le_min.mpr ⟨hbdf, hcef⟩⟩
theorem tb_lb : tb_All (min (tb_line a b c d e f) (tb_star a b c d e f)) a b c d e f := by
  obtain ⟨habe, habf, hacd, hacf, hadf, haef, hbcd, hbce, hbde, hbef, hcde, hcdf⟩ := tb_line_le (a := a) (b := b) (c := c) (d := d) (e := e) (f := f)
  have m1 : min (tb_line a b c d e f) (tb_star a b c d e f) ≤ tb_line a b c d e f := Nat.min_le_left _ _
  have m2 : min (tb_line a b c d e f) (tb_star a b c d e f) ≤ tb_star a b c d e f := Nat.min_le_right _ _
  have s1 : tb_star a b c d e f ≤ a + b + c := Nat.le_trans (Nat.min_le_left _ _) (Nat.min_le_left _ _)
  have s2 : tb_star a b c d e f ≤ a + d + e := Nat.le_trans (Nat.min_le_left _ _) (Nat.min_le_right _ _)
  have s3 : tb_star a b c d e f ≤ b + d + f := Nat.le_trans (Nat.min_le_right _ _) (Nat.min_le_left _ _)
  have s4 : tb_star a b c d e f ≤ c + e + f := Nat.le_trans (Nat.min_le_right _ _) (Nat.min_le_right _ _)
  unfold tb_All
  generalize min (tb_line a b c d e f) (tb_star a b c d e f) = w at m1 m2
  generalize tb_line a b c d e f = r at *
  generalize tb_star a b c d e f = q at *
  refine ⟨?_, ?_, ?_, ?_, ?_, ?_, ?_, ?_, ?_, ?_, ?_, ?_, ?_, ?_, ?_, ?_⟩ <;> omega
end
theorem tb_prim {p q r s t u A B D L : Nat} (h1 : p ≤ q) (h2 : p ≤ r) (hA : A = min q s) (hB : B = min r t) (hD : D = min B u) (h3 : A ≤ B) (hL : tb_All L p q r s t u) (hG : ∀ w, tb_All w p q r s t u → w ≤ L) : 0 + p + A + D = L := by
  have a1 : A ≤ q ∧ A ≤ s := by omega
  have b1 : B ≤ r ∧ B ≤ t := by omega
  have d1 : D ≤ B ∧ D ≤ u := by omega
  have up : tb_All (0 + p + A + D) p q r s t u := by
    clear hL hG hA hB hD
    unfold tb_All
    refine ⟨?_, ?_, ?_, ?_, ?_, ?_, ?_, ?_, ?_, ?_, ?_, ?_, ?_, ?_, ?_, ?_⟩ <;> omega
  refine Nat.le_antisymm (hG _ up) ?_
  clear hG up
  obtain ⟨habc, habe, habf, hacd, hacf, hade, hadf, haef, hbcd, hbce, hbde, hbdf, hbef, hcde, hcdf, hcef⟩ := hL
  have a2 : A = q ∨ A = s := by omega
  have b2 : B = r ∨ B = t := by omega
  have d2 : D = B ∨ D = u := by omega
  clear hA hB hD
  rcases a2 with z1 | z1 <;> rcases d2 with z2 | z2 <;> rcases b2 with z3 | z3 <;> omega
theorem tb_perm123 {w a b c d e f : Nat} : tb_All w a b c d e f ↔ tb_All w a b c d e f := by
  unfold tb_All
  constructor <;> (rintro ⟨h0, h1, h2, h3, h4, h5, h6, h7, h8, h9, h10, h11, h12, h13, h14, h15⟩; refine ⟨?_, ?_, ?_, ?_, ?_, ?_, ?_, ?_, ?_, ?_, ?_, ?_, ?_, ?_, ?_, ?_⟩ <;> omega)
theorem tb_perm132 {w a b c d e f : Nat} : tb_All w a c b e d f ↔ tb_All w a b c d e f := by
  unfold tb_All
  constructor <;> (rintro ⟨h0, h1, h2, h3, h4, h5, h6, h7, h8, h9, h10, h11, h12, h13, h14, h15⟩; refine ⟨?_, ?_, ?_, ?_, ?_, ?_, ?_, ?_, ?_, ?_, ?_, ?_, ?_, ?_, ?_, ?_⟩ <;> omega)
theorem tb_perm213 {w a b c d e f : Nat} : tb_All w b a c d f e ↔ tb_All w a b c d e f := by
  unfold tb_All
  constructor <;> (rintro ⟨h0, h1, h2, h3, h4, h5, h6, h7, h8, h9, h10, h11, h12, h13, h14, h15⟩; refine ⟨?_, ?_, ?_, ?_, ?_, ?_, ?_, ?_, ?_, ?_, ?_, ?_, ?_, ?_, ?_, ?_⟩ <;> omega)
theorem tb_perm231 {w a b c d e f : Nat} : tb_All w b c a f d e ↔ tb_All w a b c d e f := by
  unfold tb_All
  constructor <;> (rintro ⟨h0, h1, h2, h3, h4, h5, h6, h7, h8, h9, h10, h11, h12, h13, h14, h15⟩; refine ⟨?_, ?_, ?_, ?_, ?_, ?_, ?_, ?_, ?_, ?_, ?_, ?_, ?_, ?_, ?_, ?_⟩ <;> omega)
theorem tb_perm312 {w a b c d e f : Nat} : tb_All w c a b e f d ↔ tb_All w a b c d e f := by
  unfold tb_All
  constructor <;> (rintro ⟨h0, h1, h2, h3, h4, h5, h6, h7, h8, h9, h10, h11, h12, h13, h14, h15⟩; refine ⟨?_, ?_, ?_, ?_, ?_, ?_, ?_, ?_, ?_, ?_, ?_, ?_, ?_, ?_, ?_, ?_⟩ <;> omega)
theorem tb_perm321 {w a b c d e f : Nat} : tb_All w c b a f e d ↔ tb_All w a b c d e f := by
  unfold tb_All
  constructor <;> (rintro ⟨h0, h1, h2, h3, h4, h5, h6, h7, h8, h9, h10, h11, h12, h13, h14, h15⟩; refine ⟨?_, ?_, ?_, ?_, ?_, ?_, ?_, ?_, ?_, ?_, ?_, ?_, ?_, ?_, ?_, ?_⟩ <;> omega)
theorem tb_spanLaw {k : Nat → Nat} {a b c d e f : Nat} (h : tb_Cs k a b c d e f) : ∀ v1 v2 v3, tb_sel 1 k v1 → tb_sel (1 + 2 ^ v1) (tb_rx k k v1 4) v2 → tb_sel (1 + 2 ^ v1 + 2 ^ v2) (tb_rx (tb_rx k k v1 4) k v2 4) v3 → 0 + k v1 + tb_rx k k v1 4 v2 + tb_rx (tb_rx k k v1 4) k v2 4 v3 = min (tb_line a b c d e f) (tb_star a b c d e f) := by
  obtain ⟨⟨k1, k7⟩, ⟨k2, k14⟩, ⟨k3, k21⟩, ⟨k9, k15⟩, ⟨k10, k22⟩, ⟨k17, k23⟩⟩ := h
  have hL : tb_All (min (tb_line a b c d e f) (tb_star a b c d e f)) a b c d e f := tb_lb
  have hG : ∀ w, tb_All w a b c d e f → w ≤ min (tb_line a b c d e f) (tb_star a b c d e f) := fun w hw => tb_glb hw
  intro v1 v2 v3 s1 s2 s3
  obtain ⟨g1, g2, g3, g4⟩ := s1
  obtain ⟨i1, i2, i3, i4⟩ := s2
  obtain ⟨j1, j2, j3, _⟩ := s3
  rcases tb_v123 g2 g1 with rfl | rfl | rfl
  · rcases tb_v123 i2 i1 with rfl | rfl | rfl
    · exact absurd i3 (by decide)
    · rcases tb_v123 j2 j1 with rfl | rfl | rfl
      · exact absurd j3 (by decide)
      · exact absurd j3 (by decide)
      · have c1 : k 1 ≤ k 2 := g4 2 (by decide) (by decide) (by decide)
        have c2 : k 1 ≤ k 3 := g4 3 (by decide) (by decide) (by decide)
        have c3 : min (k 2) (k 9) ≤ min (k 3) (k 10) := i4 3 (by decide) (by decide) (by decide)
        show 0 + k 1 + min (k 2) (k 9) + min (min (k 3) (k 10)) (k 17) = _
        rw [k1, k2] at c1
        rw [k1, k3] at c2
        rw [k2, k3, k9, k10] at c3
        rw [k1, k2, k3, k9, k10, k17]
        exact tb_prim (p := a) (q := b) (r := c) (s := d) (t := e) (u := f) c1 c2 rfl rfl rfl c3 (tb_perm123.mpr hL) (fun w hw => hG w (tb_perm123.mp hw))
    · rcases tb_v123 j2 j1 with rfl | rfl | rfl
      · exact absurd j3 (by decide)
      · have c1 : k 1 ≤ k 3 := g4 3 (by decide) (by decide) (by decide)
        have c2 : k 1 ≤ k 2 := g4 2 (by decide) (by decide) (by decide)
        have c3 : min (k 3) (k 10) ≤ min (k 2) (k 9) := i4 2 (by decide) (by decide) (by decide)
        show 0 + k 1 + min (k 3) (k 10) + min (min (k 2) (k 9)) (k 23) = _
        rw [k1, k3] at c1
        rw [k1, k2] at c2
        rw [k3, k2, k10, k9] at c3
        rw [k1, k3, k2, k10, k9, k23]
        exact tb_prim (p := a) (q := c) (r := b) (s := e) (t := d) (u := f) c1 c2 rfl rfl rfl c3 (tb_perm132.mpr hL) (fun w hw => hG w (tb_perm132.mp hw))
      · exact absurd j3 (by decide)
  · rcases tb_v123 i2 i1 with rfl | rfl | rfl
    · rcases tb_v123 j2 j1 with rfl | rfl | rfl
      · exact absurd j3 (by decide)
      · exact absurd j3 (by decide)
      · have c1 : k 2 ≤ k 1 := g4 1 (by decide) (by decide) (by decide)
        have c2 : k 2 ≤ k 3 := g4 3 (by decide) (by decide) (by decide)
        have c3 : min (k 1) (k 15) ≤ min (k 3) (k 17) := i4 3 (by decide) (by decide) (by decide)
        show 0 + k 2 + min (k 1) (k 15) + min (min (k 3) (k 17)) (k 10) = _
        rw [k2, k1] at c1
        rw [k2, k3] at c2
        rw [k1, k3, k15, k17] at c3
        rw [k2, k1, k3, k15, k17, k10]
        exact tb_prim (p := b) (q := a) (r := c) (s := d) (t := f) (u := e) c1 c2 rfl rfl rfl c3 (tb_perm213.mpr hL) (fun w hw => hG w (tb_perm213.mp hw))
    · exact absurd i3 (by decide)
    · rcases tb_v123 j2 j1 with rfl | rfl | rfl
      · have c1 : k 2 ≤ k 3 := g4 3 (by decide) (by decide) (by decide)
        have c2 : k 2 ≤ k 1 := g4 1 (by decide) (by decide) (by decide)
        have c3 : min (k 3) (k 17) ≤ min (k 1) (k 15) := i4 1 (by decide) (by decide) (by decide)
        show 0 + k 2 + min (k 3) (k 17) + min (min (k 1) (k 15)) (k 22) = _
        rw [k2, k3] at c1
        rw [k2, k1] at c2
        rw [k3, k1, k17, k15] at c3
        rw [k2, k3, k1, k17, k15, k22]
        exact tb_prim (p := b) (q := c) (r := a) (s := f) (t := d) (u := e) c1 c2 rfl rfl rfl c3 (tb_perm231.mpr hL) (fun w hw => hG w (tb_perm231.mp hw))
      · exact absurd j3 (by decide)
      · exact absurd j3 (by decide)
  · rcases tb_v123 i2 i1 with rfl | rfl | rfl
    · rcases tb_v123 j2 j1 with rfl | rfl | rfl
      · exact absurd j3 (by decide)
      · have c1 : k 3 ≤ k 1 := g4 1 (by decide) (by decide) (by decide)
        have c2 : k 3 ≤ k 2 := g4 2 (by decide) (by decide) (by decide)
        have c3 : min (k 1) (k 22) ≤ min (k 2) (k 23) := i4 2 (by decide) (by decide) (by decide)
        show 0 + k 3 + min (k 1) (k 22) + min (min (k 2) (k 23)) (k 9) = _
        rw [k3, k1] at c1
        rw [k3, k2] at c2
        rw [k1, k2, k22, k23] at c3
        rw [k3, k1, k2, k22, k23, k9]
        exact tb_prim (p := c) (q := a) (r := b) (s := e) (t := f) (u := d) c1 c2 rfl rfl rfl c3 (tb_perm312.mpr hL) (fun w hw => hG w (tb_perm312.mp hw))
      · exact absurd j3 (by decide)
    · rcases tb_v123 j2 j1 with rfl | rfl | rfl
      · have c1 : k 3 ≤ k 2 := g4 2 (by decide) (by decide) (by decide)
        have c2 : k 3 ≤ k 1 := g4 1 (by decide) (by decide) (by decide)
        have c3 : min (k 2) (k 23) ≤ min (k 1) (k 22) := i4 1 (by decide) (by decide) (by decide)
        show 0 + k 3 + min (k 2) (k 23) + min (min (k 1) (k 22)) (k 15) = _
        rw [k3, k2] at c1
        rw [k3, k1] at c2
        rw [k2, k1, k23, k22] at c3
        rw [k3, k2, k1, k23, k22, k15]
        exact tb_prim (p := c) (q := b) (r := a) (s := f) (t := e) (u := d) c1 c2 rfl rfl rfl c3 (tb_perm321.mpr hL) (fun w hw => hG w (tb_perm321.mp hw))
      · exact absurd j3 (by decide)
      · exact absurd j3 (by decide)
    · exact absurd i3 (by decide)
theorem tb_lineLaw (a b c d e f : Nat) : min (min (min (min (min (min (d + (f + (c + 0))) (e + (f + (b + 0)))) (min (d + (e + (c + 0))) (f + (e + (a + 0))))) (min (b + (c + (e + 0))) (f + (c + (a + 0))))) (min (e + (d + (b + 0))) (f + (d + (a + 0))))) (min (c + (b + (d + 0))) (f + (b + (a + 0))))) (min (c + (a + (d + 0))) (e + (a + (b + 0)))) = tb_line a b c d e f := by
  refine Nat.le_antisymm ?_ ?_
  · generalize hw : min (min (min (min (min (min (d + (f + (c + 0))) (e + (f + (b + 0)))) (min (d + (e + (c + 0))) (f + (e + (a + 0))))) (min (b + (c + (e + 0))) (f + (c + (a + 0))))) (min (e + (d + (b + 0))) (f + (d + (a + 0))))) (min (c + (b + (d + 0))) (f + (b + (a + 0))))) (min (c + (a + (d + 0))) (e + (a + (b + 0)))) = w
    have w1 : w ≤ d + (f + (c + 0)) := by
      rw [← hw]
      exact Nat.le_trans (Nat.le_trans (Nat.le_trans (Nat.le_trans (Nat.le_trans (Nat.min_le_left _ _) (Nat.min_le_left _ _)) (Nat.min_le_left _ _)) (Nat.min_le_left _ _)) (Nat.min_le_left _ _)) (Nat.min_le_left _ _)
    have w2 : w ≤ e + (f + (b + 0)) := by
      rw [← hw]
      exact Nat.le_trans (Nat.le_trans (Nat.le_trans (Nat.le_trans (Nat.le_trans (Nat.min_le_left _ _) (Nat.min_le_left _ _)) (Nat.min_le_left _ _)) (Nat.min_le_left _ _)) (Nat.min_le_left _ _)) (Nat.min_le_right _ _)
    have w3 : w ≤ d + (e + (c + 0)) := by
      rw [← hw]
      exact Nat.le_trans (Nat.le_trans (Nat.le_trans (Nat.le_trans (Nat.le_trans (Nat.min_le_left _ _) (Nat.min_le_left _ _)) (Nat.min_le_left _ _)) (Nat.min_le_left _ _)) (Nat.min_le_right _ _)) (Nat.min_le_left _ _)
    have w4 : w ≤ f + (e + (a + 0)) := by
      rw [← hw]
      exact Nat.le_trans (Nat.le_trans (Nat.le_trans (Nat.le_trans (Nat.le_trans (Nat.min_le_left _ _) (Nat.min_le_left _ _)) (Nat.min_le_left _ _)) (Nat.min_le_left _ _)) (Nat.min_le_right _ _)) (Nat.min_le_right _ _)
    have w5 : w ≤ b + (c + (e + 0)) := by
      rw [← hw]
      exact Nat.le_trans (Nat.le_trans (Nat.le_trans (Nat.le_trans (Nat.min_le_left _ _) (Nat.min_le_left _ _)) (Nat.min_le_left _ _)) (Nat.min_le_right _ _)) (Nat.min_le_left _ _)
    have w6 : w ≤ f + (c + (a + 0)) := by
      rw [← hw]
      exact Nat.le_trans (Nat.le_trans (Nat.le_trans (Nat.le_trans (Nat.min_le_left _ _) (Nat.min_le_left _ _)) (Nat.min_le_left _ _)) (Nat.min_le_right _ _)) (Nat.min_le_right _ _)
    have w7 : w ≤ e + (d + (b + 0)) := by
      rw [← hw]
      exact Nat.le_trans (Nat.le_trans (Nat.le_trans (Nat.min_le_left _ _) (Nat.min_le_left _ _)) (Nat.min_le_right _ _)) (Nat.min_le_left _ _)
    have w8 : w ≤ f + (d + (a + 0)) := by
      rw [← hw]
      exact Nat.le_trans (Nat.le_trans (Nat.le_trans (Nat.min_le_left _ _) (Nat.min_le_left _ _)) (Nat.min_le_right _ _)) (Nat.min_le_right _ _)
    have w9 : w ≤ c + (b + (d + 0)) := by
      rw [← hw]
      exact Nat.le_trans (Nat.le_trans (Nat.min_le_left _ _) (Nat.min_le_right _ _)) (Nat.min_le_left _ _)
    have w10 : w ≤ f + (b + (a + 0)) := by
      rw [← hw]
      exact Nat.le_trans (Nat.le_trans (Nat.min_le_left _ _) (Nat.min_le_right _ _)) (Nat.min_le_right _ _)
    have w11 : w ≤ c + (a + (d + 0)) := by
      rw [← hw]
      exact Nat.le_trans (Nat.min_le_right _ _) (Nat.min_le_left _ _)
    have w12 : w ≤ e + (a + (b + 0)) := by
      rw [← hw]
      exact Nat.le_trans (Nat.min_le_right _ _) (Nat.min_le_right _ _)
    clear hw
    refine tb_line_ge ?_ ?_ ?_ ?_ ?_ ?_ ?_ ?_ ?_ ?_ ?_ ?_ <;> omega
  · obtain ⟨habe, habf, hacd, hacf, hadf, haef, hbcd, hbce, hbde, hbef, hcde, hcdf⟩ := tb_line_le (a := a) (b := b) (c := c) (d := d) (e := e) (f := f)
    generalize tb_line a b c d e f = w at *
    refine Nat.le_min.mpr ⟨Nat.le_min.mpr ⟨Nat.le_min.mpr ⟨Nat.le_min.mpr ⟨Nat.le_min.mpr ⟨Nat.le_min.mpr ⟨?_, ?_⟩, Nat.le_min.mpr ⟨?_, ?_⟩⟩, Nat.le_min.mpr ⟨?_, ?_⟩⟩, Nat.le_min.mpr ⟨?_, ?_⟩⟩, Nat.le_min.mpr ⟨?_, ?_⟩⟩, Nat.le_min.mpr ⟨?_, ?_⟩⟩ <;> omega
end
section
/-! ===== part 12: the law (its rows printed by gen_law.py) ===== -/
theorem tb_cell {post : Int32 → Prop} {L : Nat} {xs : Nat → Int32} {i : Nat} (hL : L ≤ 6) (hi : i < 6) (H : ∀ r, post r) : wpL_cellAt post L xs () (nI i) :=
  pk_le L i (fun _ => H 0) (fun z => ⟨pk_in i L z, H _⟩)
theorem tb_less {post : Int32 → Prop} {x y : Nat} (hx : x < 2 ^ 31) (hy : y < 2 ^ 31) (H : post (nI (min x y))) : wpL_less post () (nI x) (nI y) := by
  refine pk_le y x (fun z => ?_) (fun z => ?_)
  · rw [Nat.min_eq_right z] at H
    exact H
  · rw [Nat.min_eq_left (Nat.le_of_lt z)] at H
    exact H
theorem tb_most {post : Int32 → Prop} {a b c d : Nat} (ha : a ≤ 31) (hb : b ≤ 31) (hc : c ≤ 31) (hd : d ≤ 31) (H : post (nI (max (max a b) (max c d)))) : wpL_most post () (nI a) (nI b) (nI c) (nI d) := by
  have k22 : ∀ x y : Nat, x ≤ 31 → y ≤ 31 → post (nI (max x y)) → wL_most_22 post (nI x) (nI y) := by
    intro x y hx hy h
    refine pk_le x y (fun z => ?_) (fun z => ?_)
    · rw [Nat.max_eq_right z] at h
      exact h
    · rw [Nat.max_eq_left (Nat.le_of_lt z)] at h
      exact h
  have k10 : ∀ x : Nat, x ≤ 31 → post (nI (max x (max c d))) → wL_most_10 post (nI c) (nI d) (nI x) := by
    intro x hx h
    refine pk_le c d (fun z => ?_) (fun z => ?_)
    · rw [Nat.max_eq_right z] at h
      exact k22 x d hx hd h
    · rw [Nat.max_eq_left (Nat.le_of_lt z)] at h
      exact k22 x c hx hc h
  refine pk_le a b (fun z => ?_) (fun z => ?_)
  · rw [Nat.max_eq_right z] at H
    exact k10 b hb H
  · rw [Nat.max_eq_left (Nat.le_of_lt z)] at H
    exact k10 a ha H
theorem tb_mx {a b c d : Nat} : max (max a b) (max c d) ≤ a + b + c + d := by omega
/-- the three tours -/
def tb_X (a b c d e f : Nat) : Nat := a + d + f + c
def tb_Y (a b c d e f : Nat) : Nat := a + e + f + b
def tb_Z (a b c d e f : Nat) : Nat := b + d + e + c
def tb_L (a b c d e f : Nat) : Nat := min (tb_X a b c d e f) (min (tb_Y a b c d e f) (tb_Z a b c d e f))
section
variable {post : Int32 → St0 → Prop} {mc ms kc ks : Nat} {a b c d e f : Nat}
theorem tb_xB (ha : a ≤ 31) (hb : b ≤ 31) (hc : c ≤ 31) (hd : d ≤ 31) (he : e ≤ 31) (hf : f ≤ 31) : tb_X a b c d e f ≤ 124 ∧ tb_Y a b c d e f ≤ 124 ∧ tb_Z a b c d e f ≤ 124 ∧ tb_L a b c d e f ≤ 124 := by
  unfold tb_L
  have h1 : tb_X a b c d e f ≤ 124 := by
    unfold tb_X
    omega
  refine ⟨h1, ?_, ?_, Nat.le_trans (Nat.min_le_left _ _) h1⟩
  · unfold tb_Y
    omega
  · unfold tb_Z
    omega
theorem tb_bestO (ha : a ≤ 31) (hb : b ≤ 31) (hc : c ≤ 31) (hd : d ≤ 31) (he : e ≤ 31) (hf : f ≤ 31) : tb_best (tb_pr a b c d e f) (fun _ => 0) = (tb_L a b c d e f, (if tb_X a b c d e f = tb_L a b c d e f then 2 else 0) + (if tb_Y a b c d e f = tb_L a b c d e f then 2 else 0) + (if tb_Z a b c d e f = tb_L a b c d e f then 2 else 0)) :=
  tb_openBest (tb_Cs_open a b c d e f) ha hb hc hd he hf rfl rfl rfl
theorem tb_bestC (hb : b ≤ 31) (hc : c ≤ 31) (hd : d ≤ 31) (he : e ≤ 31) (hf : f ≤ 31) : (tb_best (tb_pr a b c d e f) (tb_w (fun _ => 0) 0 1 2)).1 = tb_Z a b c d e f :=
  congrArg Prod.fst (tb_shutVals (tb_Cs_shut a b c d e f) hb hc hd he hf).2.2.2.2.2.2.2.2.2.2.2
theorem tb_L545 (hpost : post 1 ()) (ha : a ≤ 31) (hb : b ≤ 31) (hc : c ≤ 31) (hd : d ≤ 31) (he : e ≤ 31) (hf : f ≤ 31) (v : Int32) : tb_Q (tb_pr a b c d e f) (fun _ => 0) (wL_lawOf_545 post mc ms (nI (tb_Z a b c d e f)) (nI (tb_L a b c d e f)) v v kc ks 4) := by
  obtain ⟨bx, by', bz, bl⟩ := tb_xB ha hb hc hd he hf
  intro rq_0 P_0 M_0 C_0 A_0 B_0 u6_0 u7_0 u8_0 u9_0 u10_0 u11_0 hp_0
  refine br_t rfl ?_
  refine tb_worthW (x := 0) (y := 1) (by decide) (by decide) (by decide) rfl rfl (congrArg Prod.fst (tb_bestO ha hb hc hd he hf)) (Nat.le_trans bl (by decide)) (tb_bestC hb hc hd he hf) (Nat.le_trans bz (by decide)) ?_ rq_0 P_0 M_0 C_0 A_0 B_0 u6_0 u7_0 u8_0 u9_0 u10_0 u11_0 hp_0
  intro rq_1 P_1 M_1 C_1 A_1 B_1 u6_1 u7_1 u8_1 u9_1 u10_1 u11_1 hp_1
  refine br_t rfl ?_
  refine tb_mark (x := 0) (y := 1) (v := 2) (by decide) (by decide) (by decide) (Or.inr rfl) (fun r => ?_) rq_1 P_1 M_1 C_1 A_1 B_1 u6_1 u7_1 u8_1 u9_1 u10_1 u11_1 hp_1
  intro rq_2 P_2 M_2 C_2 A_2 B_2 u6_2 u7_2 u8_2 u9_2 u10_2 u11_2 hp_2
  refine tb_bestW (tb_bestC hb hc hd he hf) (Nat.le_trans bz (by decide)) ?_ rq_2 P_2 M_2 C_2 A_2 B_2 u6_2 u7_2 u8_2 u9_2 u10_2 u11_2 hp_2
  intro rq_3 P_3 M_3 C_3 A_3 B_3 u6_3 u7_3 u8_3 u9_3 u10_3 u11_3 hp_3
  refine tb_allowedW (tb_shutCnt (tb_Cs_shut a b c d e f) hb hc hd he hf) ?_ rq_3 P_3 M_3 C_3 A_3 B_3 u6_3 u7_3 u8_3 u9_3 u10_3 u11_3 hp_3
  intro rq_4 P_4 M_4 C_4 A_4 B_4 u6_4 u7_4 u8_4 u9_4 u10_4 u11_4 hp_4
  refine tb_goneW (tb_Cs_shut a b c d e f).1.1 ?_ rq_4 P_4 M_4 C_4 A_4 B_4 u6_4 u7_4 u8_4 u9_4 u10_4 u11_4 hp_4
  intro rq_5 P_5 M_5 C_5 A_5 B_5 u6_5 u7_5 u8_5 u9_5 u10_5 u11_5 hp_5
  exact br_t rfl (br_t rfl (br_t rfl hpost))
theorem tb_L384 (hpost : post 1 ()) (ha : a ≤ 31) (hb : b ≤ 31) (hc : c ≤ 31) (hd : d ≤ 31) (he : e ≤ 31) (hf : f ≤ 31) (v : Int32) : tb_Q (tb_pr a b c d e f) (fun _ => 0) (wL_lawOf_384 post mc ms (nI a) (nI b) (nI c) (nI d) (nI e) (nI f) (nI (tb_X a b c d e f)) (nI (tb_Y a b c d e f)) (nI (tb_Z a b c d e f)) (nI (tb_L a b c d e f)) v v kc ks 4) := by
  obtain ⟨bx, by', bz, bl⟩ := tb_xB ha hb hc hd he hf
  have hK := tb_Cs_open a b c d e f
  intro rq_0 P_0 M_0 C_0 A_0 B_0 u6_0 u7_0 u8_0 u9_0 u10_0 u11_0 hp_0
  refine br_t rfl ?_
  refine tb_most ha hd hf hc (nm_r (pk_sub tb_mx) ?_)
  refine tb_most ha he hf hb (nm_r (pk_sub tb_mx) ?_)
  refine tb_most hb hd he hc (nm_r (pk_sub tb_mx) ?_)
  have p1 : tb_X a b c d e f - max (max a d) (max f c) < 2 ^ 31 := Nat.lt_of_le_of_lt (Nat.sub_le _ _) (Nat.lt_of_le_of_lt bx (by decide))
  have p2 : tb_Y a b c d e f - max (max a e) (max f b) < 2 ^ 31 := Nat.lt_of_le_of_lt (Nat.sub_le _ _) (Nat.lt_of_le_of_lt by' (by decide))
  have p3 : tb_Z a b c d e f - max (max b d) (max e c) < 2 ^ 31 := Nat.lt_of_le_of_lt (Nat.sub_le _ _) (Nat.lt_of_le_of_lt bz (by decide))
  refine tb_less p2 p3 (tb_less p1 (Nat.lt_of_le_of_lt (Nat.min_le_left _ _) p2) ?_)
  have lim : ∀ u w : Nat, u ≤ 93 → min u w < 1000000 := fun u w h => Nat.lt_of_le_of_lt (Nat.min_le_left _ _) (Nat.lt_of_le_of_lt h (by decide))
  have s3 : ∀ u w z : Nat, u ≤ 31 → w ≤ 31 → z ≤ 31 → u + (w + (z + 0)) ≤ 93 := by
    intro u w z h1 h2 h3
    omega
  refine tb_bestPathW (tb_v10 hK ha hb hc hd he hf) (tb_v20 hK ha hb hc hd he hf) (tb_v21 hK ha hb hc hd he hf) (tb_v30 hK ha hb hc hd he hf) (tb_v31 hK ha hb hc hd he hf) (tb_v32 hK ha hb hc hd he hf)
    (lim _ _ (s3 _ _ _ hd hf hc)) (lim _ _ (s3 _ _ _ hd he hc)) (lim _ _ (s3 _ _ _ hb hc he)) (lim _ _ (s3 _ _ _ he hd hb)) (lim _ _ (s3 _ _ _ hc hb hd)) (lim _ _ (s3 _ _ _ hc ha hd)) ?_ rq_0 P_0 M_0 C_0 A_0 B_0 u6_0 u7_0 u8_0 u9_0 u10_0 u11_0 hp_0
  rw [tb_lineLaw a b c d e f]
  intro rq_1 P_1 M_1 C_1 A_1 B_1 u6_1 u7_1 u8_1 u9_1 u10_1 u11_1 hp_1
  refine br_t rfl ?_
  have t3 : ∀ u w z : Nat, u ≤ 31 → w ≤ 31 → z ≤ 31 → u + w + z < 2 ^ 31 := by
    intro u w z h1 h2 h3
    omega
  have c3 : ∀ u w z : Nat, (nI u + nI w) + nI z = nI (u + w + z) := by
    intro u w z
    rw [nI_add, nI_add]
  rw [c3, c3, c3, c3]
  refine tb_less (t3 _ _ _ ha hb hc) (t3 _ _ _ ha hd he) ?_
  refine tb_less (t3 _ _ _ hb hd hf) (t3 _ _ _ hc he hf) ?_
  refine tb_less (Nat.lt_of_le_of_lt (Nat.min_le_left _ _) (t3 _ _ _ ha hb hc)) (Nat.lt_of_le_of_lt (Nat.min_le_left _ _) (t3 _ _ _ hb hd hf)) ?_
  have hk : ∀ j, j < 4 → 1 ≤ j → tb_c (tb_pr a b c d e f) (fun _ => 0) j ≤ 31 := by
    intro j h1 h2
    rcases tb_v123 h1 h2 with rfl | rfl | rfl
    · exact ha
    · exact hb
    · exact hc
  refine tb_spanW rfl hk (tb_spanLaw hK) ?_ rq_1 P_1 M_1 C_1 A_1 B_1 u6_1 u7_1 u8_1 u9_1 u10_1 u11_1 hp_1
  intro rq_2 P_2 M_2 C_2 A_2 B_2 u6_2 u7_2 u8_2 u9_2 u10_2 u11_2 hp_2
  have hst : tb_star a b c d e f < 2 ^ 31 := Nat.lt_of_le_of_lt (Nat.min_le_left _ _) (Nat.lt_of_le_of_lt (Nat.min_le_left _ _) (t3 _ _ _ ha hb hc))
  have hrw : tb_line a b c d e f < 2 ^ 31 := Nat.lt_of_le_of_lt (Nat.min_le_left _ _) p1
  refine pk_le (tb_star a b c d e f) (tb_line a b c d e f) (fun z => ?_) (fun z => ?_) rfl rfl hst hrw
  · have h := tb_L545 (mc := mc) (ms := ms) (kc := kc) (ks := ks) hpost ha hb hc hd he hf (nI (tb_star a b c d e f)) rq_2 P_2 M_2 C_2 A_2 B_2 u6_2 u7_2 u8_2 u9_2 u10_2 u11_2 hp_2
    rw [Nat.min_eq_right z]
    exact h
  · have h := tb_L545 (mc := mc) (ms := ms) (kc := kc) (ks := ks) hpost ha hb hc hd he hf (nI (tb_line a b c d e f)) rq_2 P_2 M_2 C_2 A_2 B_2 u6_2 u7_2 u8_2 u9_2 u10_2 u11_2 hp_2
    rw [Nat.min_eq_left (Nat.le_of_lt z)]
    exact h
theorem tb_L314 (hpost : post 1 ()) (ha : a ≤ 31) (hb : b ≤ 31) (hc : c ≤ 31) (hd : d ≤ 31) (he : e ≤ 31) (hf : f ≤ 31) (u v w : Nat) (h : w = v + u) : tb_Q (tb_pr a b c d e f) (fun _ => 0) (wL_lawOf_314 post mc ms (nI a) (nI b) (nI c) (nI d) (nI e) (nI f) (nI (tb_X a b c d e f)) (nI (tb_Y a b c d e f)) (nI (tb_Z a b c d e f)) (nI (tb_L a b c d e f)) (nI u) (nI v) (nI w) kc ks 4) := by
  have hK := tb_Cs_open a b c d e f
  intro rq_0 P_0 M_0 C_0 A_0 B_0 u6_0 u7_0 u8_0 u9_0 u10_0 u11_0 hp_0
  refine br_t (by rw [h, nI_add]) ?_
  have hv : tb_pr a b c d e f 3 + tb_pr a b c d e f 23 + tb_pr a b c d e f 15 + tb_pr a b c d e f 7 = tb_X a b c d e f := by
    show c + f + d + a = a + d + f + c
    omega
  refine tb_tourW hv ?_ rq_0 P_0 M_0 C_0 A_0 B_0 u6_0 u7_0 u8_0 u9_0 u10_0 u11_0 hp_0
  intro rq_1 P_1 M_1 C_1 A_1 B_1 u6_1 u7_1 u8_1 u9_1 u10_1 u11_1 hp_1
  refine br_t rfl ?_
  have s3 : b + (f + (e + 0)) < 1000000 := by omega
  refine tb_pathW (x := 0) (y := 1) (by decide) (by decide) (by decide) (tb_v01 hK ha hb hc hd he hf) (Nat.lt_of_le_of_lt (Nat.min_le_left _ _) s3) ?_ rq_1 P_1 M_1 C_1 A_1 B_1 u6_1 u7_1 u8_1 u9_1 u10_1 u11_1 hp_1
  intro rq_2 P_2 M_2 C_2 A_2 B_2 u6_2 u7_2 u8_2 u9_2 u10_2 u11_2 hp_2
  intro x26 e26 x27 e27
  rw [nI_add, nI_add, show b + f + e = b + (f + (e + 0)) by omega] at e26
  rw [nI_add, nI_add, show c + f + d = c + (f + (d + 0)) by omega] at e27
  subst e26
  subst e27
  refine pk_le (c + (f + (d + 0))) (b + (f + (e + 0))) (fun z => ?_) (fun z => ?_)
  · have g := tb_L384 (mc := mc) (ms := ms) (kc := kc) (ks := ks) hpost ha hb hc hd he hf (nI (c + (f + (d + 0)))) rq_2 P_2 M_2 C_2 A_2 B_2 u6_2 u7_2 u8_2 u9_2 u10_2 u11_2 hp_2
    rw [Nat.min_eq_right z]
    exact g
  · have g := tb_L384 (mc := mc) (ms := ms) (kc := kc) (ks := ks) hpost ha hb hc hd he hf (nI (b + (f + (e + 0)))) rq_2 P_2 M_2 C_2 A_2 B_2 u6_2 u7_2 u8_2 u9_2 u10_2 u11_2 hp_2
    rw [Nat.min_eq_left (Nat.le_of_lt z)]
    exact g
theorem tb_L301 (hpost : post 1 ()) (ha : a ≤ 31) (hb : b ≤ 31) (hc : c ≤ 31) (hd : d ≤ 31) (he : e ≤ 31) (hf : f ≤ 31) (u v w : Nat) (h : w = v + u + (if tb_Z a b c d e f ≤ tb_X a b c d e f then 2 else 0)) : tb_Q (tb_pr a b c d e f) (fun _ => 0) (wL_lawOf_301 post mc ms (nI a) (nI b) (nI c) (nI d) (nI e) (nI f) (nI (tb_X a b c d e f)) (nI (tb_Y a b c d e f)) (nI (tb_Z a b c d e f)) (nI (tb_L a b c d e f)) (nI u) (nI v) (nI w) kc ks 4) := by
  obtain ⟨bx, by', bz, bl⟩ := tb_xB ha hb hc hd he hf
  intro rq_0 P_0 M_0 C_0 A_0 B_0 u6_0 u7_0 u8_0 u9_0 u10_0 u11_0 hp_0
  unfold wL_lawOf_301
  rw [nI_add]
  refine pk_lt (tb_X a b c d e f) (tb_Z a b c d e f) (fun z => ?_) (fun z => ?_)
  · exact tb_L314 (mc := mc) (ms := ms) (kc := kc) (ks := ks) hpost ha hb hc hd he hf 0 (v + u) w (by rw [h, if_neg (Nat.not_le_of_lt z)]) rq_0 P_0 M_0 C_0 A_0 B_0 u6_0 u7_0 u8_0 u9_0 u10_0 u11_0 hp_0
  · exact tb_L314 (mc := mc) (ms := ms) (kc := kc) (ks := ks) hpost ha hb hc hd he hf 2 (v + u) w (by rw [h, if_pos z]) rq_0 P_0 M_0 C_0 A_0 B_0 u6_0 u7_0 u8_0 u9_0 u10_0 u11_0 hp_0
theorem tb_L231 (hpost : post 1 ()) (ha : a ≤ 31) (hb : b ≤ 31) (hc : c ≤ 31) (hd : d ≤ 31) (he : e ≤ 31) (hf : f ≤ 31) (q t : Nat) (hq : q = if tb_X a b c d e f = tb_L a b c d e f then 66 else if tb_Y a b c d e f = tb_L a b c d e f then 72 else 108)
    (ht : t = (if tb_X a b c d e f = tb_L a b c d e f then 2 else 0) + (if tb_Y a b c d e f = tb_L a b c d e f then 2 else 0) + (if tb_Z a b c d e f = tb_L a b c d e f then 2 else 0)) :
    tb_Q (tb_pr a b c d e f) (fun _ => 0) (wL_lawOf_231 post mc ms (nI a) (nI b) (nI c) (nI d) (nI e) (nI f) (nI (tb_X a b c d e f)) (nI (tb_Y a b c d e f)) (nI (tb_Z a b c d e f)) (nI (tb_L a b c d e f)) (nI t) (nI q) kc ks 4) := by
  obtain ⟨bx, by', bz, bl⟩ := tb_xB ha hb hc hd he hf
  have hK := tb_Cs_open a b c d e f
  have hB := tb_bestO ha hb hc hd he hf
  have hB1 := congrArg Prod.fst hB
  have hB2 : (tb_best (tb_pr a b c d e f) (fun _ => 0)).2 = t := by
    rw [hB, ht]
  have hl : tb_L a b c d e f ≤ 280 := Nat.le_trans bl (by decide)
  have hcode := (tb_codeLaw hK ha hb hc hd he hf (x := tb_X a b c d e f) (y := tb_Y a b c d e f) (z := tb_Z a b c d e f) rfl rfl rfl).trans hq.symm
  intro rq_0 P_0 M_0 C_0 A_0 B_0 u6_0 u7_0 u8_0 u9_0 u10_0 u11_0 hp_0
  refine tb_bestW hB1 hl ?_ rq_0 P_0 M_0 C_0 A_0 B_0 u6_0 u7_0 u8_0 u9_0 u10_0 u11_0 hp_0
  intro rq_1 P_1 M_1 C_1 A_1 B_1 u6_1 u7_1 u8_1 u9_1 u10_1 u11_1 hp_1
  refine tb_codeW hB1 hl hcode ?_ rq_1 P_1 M_1 C_1 A_1 B_1 u6_1 u7_1 u8_1 u9_1 u10_1 u11_1 hp_1
  intro rq_2 P_2 M_2 C_2 A_2 B_2 u6_2 u7_2 u8_2 u9_2 u10_2 u11_2 hp_2
  refine tb_toursW hB1 hB2 hl ?_ rq_2 P_2 M_2 C_2 A_2 B_2 u6_2 u7_2 u8_2 u9_2 u10_2 u11_2 hp_2
  intro rq_3 P_3 M_3 C_3 A_3 B_3 u6_3 u7_3 u8_3 u9_3 u10_3 u11_3 hp_3
  refine br_t rfl (br_t rfl (br_t rfl ?_))
  have hcnt := (tb_openCnt (g := tb_X a b c d e f) hK (tb_vals hK ha hb hc hd he hf) ha hb hc hd he hf (x := tb_X a b c d e f) (y := tb_Y a b c d e f) (z := tb_Z a b c d e f) rfl rfl rfl).trans (tb_openUpto _ _ _)
  refine tb_withinW (x := tb_X a b c d e f) (g := tb_X a b c d e f) (Or.inl ⟨Nat.lt_of_le_of_lt bx (by decide), rfl⟩) hcnt ?_ rq_3 P_3 M_3 C_3 A_3 B_3 u6_3 u7_3 u8_3 u9_3 u10_3 u11_3 hp_3
  intro rq_4 P_4 M_4 C_4 A_4 B_4 u6_4 u7_4 u8_4 u9_4 u10_4 u11_4 hp_4
  refine pk_lt (tb_X a b c d e f) (tb_Y a b c d e f) (fun z => ?_) (fun z => ?_)
  · exact tb_L301 (mc := mc) (ms := ms) (kc := kc) (ks := ks) hpost ha hb hc hd he hf 0 2 _ (by rw [if_neg (Nat.not_le_of_lt z)]) rq_4 P_4 M_4 C_4 A_4 B_4 u6_4 u7_4 u8_4 u9_4 u10_4 u11_4 hp_4
  · exact tb_L301 (mc := mc) (ms := ms) (kc := kc) (ks := ks) hpost ha hb hc hd he hf 2 2 _ (by rw [if_pos z]) rq_4 P_4 M_4 C_4 A_4 B_4 u6_4 u7_4 u8_4 u9_4 u10_4 u11_4 hp_4
theorem tb_L202 (hpost : post 1 ()) (ha : a ≤ 31) (hb : b ≤ 31) (hc : c ≤ 31) (hd : d ≤ 31) (he : e ≤ 31) (hf : f ≤ 31) (u v : Nat)
    (ht : v + u = (if tb_X a b c d e f = tb_L a b c d e f then 2 else 0) + (if tb_Y a b c d e f = tb_L a b c d e f then 2 else 0) + (if tb_Z a b c d e f = tb_L a b c d e f then 2 else 0)) :
    tb_Q (tb_pr a b c d e f) (fun _ => 0) (wL_lawOf_202 post mc ms (nI a) (nI b) (nI c) (nI d) (nI e) (nI f) (nI (tb_X a b c d e f)) (nI (tb_Y a b c d e f)) (nI (tb_Z a b c d e f)) (nI (tb_L a b c d e f)) (nI u) (nI v) kc ks 4) := by
  obtain ⟨bx, by', bz, bl⟩ := tb_xB ha hb hc hd he hf
  intro rq_0 P_0 M_0 C_0 A_0 B_0 u6_0 u7_0 u8_0 u9_0 u10_0 u11_0 hp_0
  refine nm_r (nI_add v u) ?_
  refine pk_eq (tb_X a b c d e f) (tb_L a b c d e f) (fun z => ?_) (fun z => ?_)
  · exact tb_L231 (mc := mc) (ms := ms) (kc := kc) (ks := ks) hpost ha hb hc hd he hf 66 (v + u) (by rw [if_pos z]) ht rq_0 P_0 M_0 C_0 A_0 B_0 u6_0 u7_0 u8_0 u9_0 u10_0 u11_0 hp_0
  · refine pk_eq (tb_Y a b c d e f) (tb_L a b c d e f) (fun z2 => ?_) (fun z2 => ?_)
    · exact tb_L231 (mc := mc) (ms := ms) (kc := kc) (ks := ks) hpost ha hb hc hd he hf 72 (v + u) (by rw [if_neg z, if_pos z2]) ht rq_0 P_0 M_0 C_0 A_0 B_0 u6_0 u7_0 u8_0 u9_0 u10_0 u11_0 hp_0
    · exact tb_L231 (mc := mc) (ms := ms) (kc := kc) (ks := ks) hpost ha hb hc hd he hf 108 (v + u) (by rw [if_neg z, if_neg z2]) ht rq_0 P_0 M_0 C_0 A_0 B_0 u6_0 u7_0 u8_0 u9_0 u10_0 u11_0 hp_0
theorem tb_L189 (hpost : post 1 ()) (ha : a ≤ 31) (hb : b ≤ 31) (hc : c ≤ 31) (hd : d ≤ 31) (he : e ≤ 31) (hf : f ≤ 31) (u v : Nat)
    (ht : v + u = (if tb_X a b c d e f = tb_L a b c d e f then 2 else 0) + (if tb_Y a b c d e f = tb_L a b c d e f then 2 else 0)) :
    tb_Q (tb_pr a b c d e f) (fun _ => 0) (wL_lawOf_189 post mc ms (nI a) (nI b) (nI c) (nI d) (nI e) (nI f) (nI (tb_X a b c d e f)) (nI (tb_Y a b c d e f)) (nI (tb_Z a b c d e f)) (nI (tb_L a b c d e f)) (nI u) (nI v) kc ks 4) := by
  obtain ⟨bx, by', bz, bl⟩ := tb_xB ha hb hc hd he hf
  intro rq_0 P_0 M_0 C_0 A_0 B_0 u6_0 u7_0 u8_0 u9_0 u10_0 u11_0 hp_0
  unfold wL_lawOf_189
  rw [nI_add]
  refine pk_eq (tb_Z a b c d e f) (tb_L a b c d e f) (fun z => ?_) (fun z => ?_)
  · exact tb_L202 (mc := mc) (ms := ms) (kc := kc) (ks := ks) hpost ha hb hc hd he hf 2 (v + u) (by rw [if_pos z, ht]) rq_0 P_0 M_0 C_0 A_0 B_0 u6_0 u7_0 u8_0 u9_0 u10_0 u11_0 hp_0
  · exact tb_L202 (mc := mc) (ms := ms) (kc := kc) (ks := ks) hpost ha hb hc hd he hf 0 (v + u) (by rw [if_neg z, ht]) rq_0 P_0 M_0 C_0 A_0 B_0 u6_0 u7_0 u8_0 u9_0 u10_0 u11_0 hp_0
theorem tb_L177 (hpost : post 1 ()) (ha : a ≤ 31) (hb : b ≤ 31) (hc : c ≤ 31) (hd : d ≤ 31) (he : e ≤ 31) (hf : f ≤ 31) (u : Nat) (hu : u = if tb_X a b c d e f = tb_L a b c d e f then 2 else 0) :
    tb_Q (tb_pr a b c d e f) (fun _ => 0) (wL_lawOf_177 post mc ms (nI a) (nI b) (nI c) (nI d) (nI e) (nI f) (nI (tb_X a b c d e f)) (nI (tb_Y a b c d e f)) (nI (tb_Z a b c d e f)) (nI (tb_L a b c d e f)) (nI u) kc ks 4) := by
  obtain ⟨bx, by', bz, bl⟩ := tb_xB ha hb hc hd he hf
  intro rq_0 P_0 M_0 C_0 A_0 B_0 u6_0 u7_0 u8_0 u9_0 u10_0 u11_0 hp_0
  refine pk_eq (tb_Y a b c d e f) (tb_L a b c d e f) (fun z => ?_) (fun z => ?_)
  · exact tb_L189 (mc := mc) (ms := ms) (kc := kc) (ks := ks) hpost ha hb hc hd he hf 2 u (by rw [if_pos z, hu]) rq_0 P_0 M_0 C_0 A_0 B_0 u6_0 u7_0 u8_0 u9_0 u10_0 u11_0 hp_0
  · exact tb_L189 (mc := mc) (ms := ms) (kc := kc) (ks := ks) hpost ha hb hc hd he hf 0 u (by rw [if_neg z, hu]) rq_0 P_0 M_0 C_0 A_0 B_0 u6_0 u7_0 u8_0 u9_0 u10_0 u11_0 hp_0
end
theorem tb_law {post : Int32 → St0 → Prop} {p0 p1 p2 p3 p4 p5 : Int32} (hpost : post 1 ()) : wpL_lawOf post 12 1998 () p0 p1 p2 p3 p4 p5 := by
  obtain ⟨a, ha, ea⟩ := pk_andE p0 (m := 31) 5 (by decide)
  obtain ⟨b, hb, eb⟩ := pk_andE p1 (m := 31) 5 (by decide)
  obtain ⟨c, hc, ec⟩ := pk_andE p2 (m := 31) 5 (by decide)
  obtain ⟨d, hd, ed⟩ := pk_andE p3 (m := 31) 5 (by decide)
  obtain ⟨e, he, ee⟩ := pk_andE p4 (m := 31) 5 (by decide)
  obtain ⟨f, hf, ef⟩ := pk_andE p5 (m := 31) 5 (by decide)
  have ha' : a ≤ 31 := Nat.le_of_lt_succ ha
  have hb' : b ≤ 31 := Nat.le_of_lt_succ hb
  have hc' : c ≤ 31 := Nat.le_of_lt_succ hc
  have hd' : d ≤ 31 := Nat.le_of_lt_succ hd
  have he' : e ≤ 31 := Nat.le_of_lt_succ he
  have hf' : f ≤ 31 := Nat.le_of_lt_succ hf
  have l40 : ∀ {v : Nat}, v ≤ 31 → v ≤ 40 := fun h => Nat.le_trans h (by decide)
  obtain ⟨bx, by', bz, bl⟩ := tb_xB ha' hb' hc' hd' he' hf'
  have B31 : ∀ {v : Nat}, v ≤ 124 → v < 2 ^ 31 := fun h => Nat.lt_of_le_of_lt h (by decide)
  unfold wpL_lawOf
  refine nm_r ea (nm_r eb (nm_r ec (nm_r ed (nm_r ee (nm_r ef ?_)))))
  refine ⟨by decide, by decide, 11, 1985, by decide, by decide, ?_⟩
  refine tb_init (by decide) (by decide) ?_
  intro rq_0 P_0 M_0 C_0 A_0 B_0 u6_0 u7_0 u8_0 u9_0 u10_0 u11_0 hp_0
  refine tb_price (x := 0) (y := 1) (by decide) (by decide) (by decide) (l40 ha') (fun r0 => ?_) rq_0 P_0 M_0 C_0 A_0 B_0 u6_0 u7_0 u8_0 u9_0 u10_0 u11_0 hp_0
  intro rq_1 P_1 M_1 C_1 A_1 B_1 u6_1 u7_1 u8_1 u9_1 u10_1 u11_1 hp_1
  refine tb_price (x := 0) (y := 2) (by decide) (by decide) (by decide) (l40 hb') (fun r1 => ?_) rq_1 P_1 M_1 C_1 A_1 B_1 u6_1 u7_1 u8_1 u9_1 u10_1 u11_1 hp_1
  intro rq_2 P_2 M_2 C_2 A_2 B_2 u6_2 u7_2 u8_2 u9_2 u10_2 u11_2 hp_2
  refine tb_price (x := 0) (y := 3) (by decide) (by decide) (by decide) (l40 hc') (fun r2 => ?_) rq_2 P_2 M_2 C_2 A_2 B_2 u6_2 u7_2 u8_2 u9_2 u10_2 u11_2 hp_2
  intro rq_3 P_3 M_3 C_3 A_3 B_3 u6_3 u7_3 u8_3 u9_3 u10_3 u11_3 hp_3
  refine tb_price (x := 1) (y := 2) (by decide) (by decide) (by decide) (l40 hd') (fun r3 => ?_) rq_3 P_3 M_3 C_3 A_3 B_3 u6_3 u7_3 u8_3 u9_3 u10_3 u11_3 hp_3
  intro rq_4 P_4 M_4 C_4 A_4 B_4 u6_4 u7_4 u8_4 u9_4 u10_4 u11_4 hp_4
  refine tb_price (x := 1) (y := 3) (by decide) (by decide) (by decide) (l40 he') (fun r4 => ?_) rq_4 P_4 M_4 C_4 A_4 B_4 u6_4 u7_4 u8_4 u9_4 u10_4 u11_4 hp_4
  intro rq_5 P_5 M_5 C_5 A_5 B_5 u6_5 u7_5 u8_5 u9_5 u10_5 u11_5 hp_5
  refine tb_price (x := 2) (y := 3) (by decide) (by decide) (by decide) (l40 hf') (fun r5 => ?_) rq_5 P_5 M_5 C_5 A_5 B_5 u6_5 u7_5 u8_5 u9_5 u10_5 u11_5 hp_5
  intro rq_6 P_6 M_6 C_6 A_6 B_6 u6_6 u7_6 u8_6 u9_6 u10_6 u11_6 hp_6
  have c4 : ∀ u v w z : Nat, ((nI u + nI v) + nI w) + nI z = nI (u + v + w + z) := by
    intro u v w z
    rw [nI_add, nI_add, nI_add]
  refine nm_r (c4 a d f c) (nm_r (c4 a e f b) (nm_r (c4 b d e c) ?_))
  refine tb_less (x := tb_Y a b c d e f) (y := tb_Z a b c d e f) (B31 by') (B31 bz) ?_
  refine tb_less (x := tb_X a b c d e f) (B31 bx) (Nat.lt_of_le_of_lt (Nat.min_le_left _ _) (B31 by')) ?_
  have hp6 : tb_Pic (tb_pr a b c d e f) (fun _ => 0) P_6 M_6 := hp_6
  refine pk_eq (tb_X a b c d e f) (tb_L a b c d e f) (fun z => ?_) (fun z => ?_) rfl rfl (B31 bx) (B31 bl)
  · exact tb_L177 hpost ha' hb' hc' hd' he' hf' 2 (by rw [if_pos z]) rq_6 P_6 M_6 C_6 A_6 B_6 u6_6 u7_6 u8_6 u9_6 u10_6 u11_6 hp6
  · exact tb_L177 hpost ha' hb' hc' hd' he' hf' 0 (by rw [if_neg z]) rq_6 P_6 M_6 C_6 A_6 B_6 u6_6 u7_6 u8_6 u9_6 u10_6 u11_6 hp6
end
section
/-! ===== part 13: what is owed ===== -/
theorem i_vc (xs : Nat → Int32) (L : Nat) (hL : L ≤ 6) : wpL_law (fun r => r = 1) L xs := by
  unfold wpL_law
  refine tb_cell (i := 0) hL (by decide) (fun r1 => tb_cell (i := 1) hL (by decide) (fun r2 => tb_cell (i := 2) hL (by decide) (fun r3 => tb_cell (i := 3) hL (by decide) (fun r4 => tb_cell (i := 4) hL (by decide) (fun r5 => tb_cell (i := 5) hL (by decide) (fun r6 => ⟨12, 1998, by decide, by decide, ?_⟩))))))
  exact tb_law rfl
end
