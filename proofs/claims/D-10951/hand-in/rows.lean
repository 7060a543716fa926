section
/-- the set of one card -/
def ot_b (c : Nat) : Int32 := (1 : Int32) <<< (nI c &&& 31)
/-- how many of the cards below k a set holds -/
def ot_sz (x : Int32) : Nat → Int32
  | 0 => 0
  | k + 1 => ot_sz x k + ((x >>> (nI k &&& 31)) &&& 1)
theorem ot_b_ne : ∀ c, c < 12 → ¬ ot_b c = 0 := by decide +kernel
theorem ot_b_off : ∀ c, c < 12 → ot_b c &&& (ot_b c ^^^ (-1)) = 0 := by decide +kernel
theorem ot_b_low : ∀ c, c < 12 → ot_b c &&& (-(ot_b c)) = ot_b c := by decide +kernel
theorem ot_b_sz : ∀ c, c < 12 → ot_sz (ot_b c - 1) 12 = nI c := by decide +kernel
theorem ot_b_sz1 : ∀ c, c < 12 → ot_sz (ot_b c) 12 = 1 := by decide +kernel
theorem ot_sz0 : ot_sz 0 12 = 0 := by decide +kernel
theorem ot_b_bit : ∀ c, c < 12 → ∀ e, e < 12 → ((ot_b c >>> (nI e &&& 31)) &&& 1) = if c = e then 1 else 0 := by decide +kernel
theorem ot_b_keep : ∀ c, c < 12 → ∀ e, e < 12 → c ≠ e → ot_b c &&& (ot_b e ^^^ (-1)) = ot_b c := by decide +kernel
theorem ot_b_suit : ∀ c, c < 12 → ∀ s, s < 3 → (ot_b c &&& ((15 : Int32) <<< ((4 * nI s) &&& 31))) = 0 ∨ (ot_b c &&& ((15 : Int32) <<< ((4 * nI s) &&& 31))) = ot_b c := by decide +kernel
theorem ot_b_long : ∀ c, c < 12 → ¬ (ot_b c).toInt64 = 0 := by decide +kernel
theorem ot_t_lo : ∀ e, e < 4 → ¬ nI e - 1 < (-1) := by decide +kernel
theorem ot_t_hi : ∀ e, e < 4 → nI e - 1 ≤ 2 := by decide +kernel
theorem ot_mv (l n : Nat) (h : l + n < 2 ^ 32) : (nI l + nI n) &&& 3 = nI ((l + n) % 4) := by
  rw [nI_add]
  exact pk_andN h 2 rfl
theorem ot_and1 (w : Nat) (h : w < 2 ^ 32) : nI w &&& 1 = nI (w % 2) := pk_andN h 1 rfl
theorem ot_4n (n i : Nat) : (4 : Int32) * nI n + nI i = nI (4 * n + i) := by
  rw [show (4 : Int32) * nI n = nI (4 * n) from pk_mul 4 n, nI_add]
theorem ot_d4 {c : Nat} (h : c < 12) : nI c / 4 = nI (c / 4) := pk_div (d := 4) (by omega) (by omega) (by omega)
theorem ot_r4 {c : Nat} (h : c < 12) : nI c - nI c / 4 * 4 = nI (c % 4) := pk_rem (d := 4) (by omega) (by omega) (by omega)
/-! the trick -/
/-- how strong a card is: t the trump, q0 the card led -/
def ot_str (t : Int32) (q0 c : Nat) : Nat := if nI (c / 4) = t then 10 + c % 4 else if c / 4 = q0 / 4 then 1 + c % 4 else 0
/-- the better place, as the law says it: the card c at place i against the best so far, top at best -/
def ot_nx (t : Int32) (c top i best : Nat) : Nat := if c / 4 = top / 4 then (if top < c then i else best) else (if nI (c / 4) = t then i else best)
/-- the best place among 0 .. k -/
def ot_bp (t : Int32) (q : Nat → Nat) : Nat → Nat
  | 0 => 0
  | k + 1 => ot_nx t (q (k + 1)) (q (ot_bp t q k)) (k + 1) (ot_bp t q k)
theorem ot_str_lt (t : Int32) (q0 c : Nat) : ot_str t q0 c < 2 ^ 31 := by
  unfold ot_str
  split
  · omega
  · split
    · omega
    · omega
theorem ot_nx_str {t : Int32} {q0 c top i best : Nat} (hc : c < 12) (ht : top < 12) (hi : nI (top / 4) = t ∨ top / 4 = q0 / 4) :
    ot_nx t c top i best = if ot_str t q0 c ≤ ot_str t q0 top then best else i := by
  have inj : nI (c / 4) = nI (top / 4) ↔ c / 4 = top / 4 := nI_eq (by omega) (by omega)
  by_cases P : nI (c / 4) = t
  · have s1 : ot_str t q0 c = 10 + c % 4 := if_pos P
    by_cases Q : nI (top / 4) = t
    · have e := inj.mp (P.trans Q.symm)
      have s2 : ot_str t q0 top = 10 + top % 4 := if_pos Q
      rw [s1, s2]
      unfold ot_nx
      rw [if_pos e]
      by_cases g : top < c
      · rw [if_pos g, if_neg (by omega)]
      · rw [if_neg g, if_pos (by omega)]
    · have e : ¬ c / 4 = top / 4 := fun z => Q (by rw [← z]; exact P)
      have h := hi.resolve_left Q
      have s2 : ot_str t q0 top = 1 + top % 4 := (if_neg Q).trans (if_pos h)
      rw [s1, s2]
      unfold ot_nx
      rw [if_neg e, if_pos P, if_neg (by omega)]
  · by_cases Q : nI (top / 4) = t
    · have e : ¬ c / 4 = top / 4 := fun z => P (by rw [z]; exact Q)
      have s1 : ot_str t q0 c ≤ 4 := by
        unfold ot_str
        rw [if_neg P]
        split
        · omega
        · omega
      have s2 : ot_str t q0 top = 10 + top % 4 := if_pos Q
      rw [s2, if_pos (show ot_str t q0 c ≤ 10 + top % 4 by omega)]
      unfold ot_nx
      rw [if_neg e, if_neg P]
    · have h := hi.resolve_left Q
      have s2 : ot_str t q0 top = 1 + top % 4 := (if_neg Q).trans (if_pos h)
      by_cases e : c / 4 = top / 4
      · have s1 : ot_str t q0 c = 1 + c % 4 := (if_neg P).trans (if_pos (e.trans h))
        rw [s1, s2]
        unfold ot_nx
        rw [if_pos e]
        by_cases g : top < c
        · rw [if_pos g, if_neg (by omega)]
        · rw [if_neg g, if_pos (by omega)]
      · have s1 : ot_str t q0 c = 0 := (if_neg P).trans (if_neg (show ¬ c / 4 = q0 / 4 from fun z => e (z.trans h.symm)))
        rw [s1, s2]
        unfold ot_nx
        rw [if_neg e, if_neg P, if_pos (by omega)]
theorem ot_nx_or (t : Int32) (c top i best : Nat) : ot_nx t c top i best = i ∨ ot_nx t c top i best = best := by
  unfold ot_nx
  split
  · split
    · exact Or.inl rfl
    · exact Or.inr rfl
  · split
    · exact Or.inl rfl
    · exact Or.inr rfl
theorem ot_bp_le (t : Int32) (q : Nat → Nat) : ∀ k, ot_bp t q k ≤ k
  | 0 => Nat.le_refl 0
  | k + 1 => by
    have ih := ot_bp_le t q k
    rcases ot_nx_or t (q (k + 1)) (q (ot_bp t q k)) (k + 1) (ot_bp t q k) with e | e
    · exact Nat.le_of_eq e
    · exact Nat.le_trans (Nat.le_of_eq e) (by omega)
theorem ot_bp_suit (t : Int32) (q : Nat → Nat) : ∀ k, nI (q (ot_bp t q k) / 4) = t ∨ q (ot_bp t q k) / 4 = q 0 / 4
  | 0 => Or.inr rfl
  | k + 1 => by
    have ih := ot_bp_suit t q k
    show nI (q (ot_nx t (q (k + 1)) (q (ot_bp t q k)) (k + 1) (ot_bp t q k)) / 4) = t ∨ q (ot_nx t (q (k + 1)) (q (ot_bp t q k)) (k + 1) (ot_bp t q k)) / 4 = q 0 / 4
    unfold ot_nx
    by_cases e : q (k + 1) / 4 = q (ot_bp t q k) / 4
    · rw [if_pos e]
      by_cases g : q (ot_bp t q k) < q (k + 1)
      · rw [if_pos g, e]
        exact ih
      · rw [if_neg g]
        exact ih
    · rw [if_neg e]
      by_cases z : nI (q (k + 1) / 4) = t
      · rw [if_pos z]
        exact Or.inl z
      · rw [if_neg z]
        exact ih
/-! the picture: cards q 0 .. q 3 in the order of play, l leads, n of them are played -/
def ot_hands (q : Nat → Nat) (l n : Nat) (a2 : Nat → Int32) : Prop := ∀ i, i < 4 → a2 ((l + i) % 4) = if i < n then 0 else ot_b (q i)
def ot_trick (q : Nat → Nat) (n : Nat) (a3 : Nat → Int32) : Prop := ∀ i, i < n → a3 i = nI (q i)
def ot_past (q : Nat → Nat) (l n : Nat) (a4 a5 a6 a7 a8 a9 : Nat → Int32) : Prop :=
  ∀ k, k < n → a4 k = nI (q k) ∧ a5 k = nI l ∧ a7 k = nI k ∧ a8 k = 0 ∧ a9 k = 0 ∧ ∀ j, j < k → a6 (4 * k + j) = nI (q j)
def ot_sit (q : Nat → Nat) (l n : Nat) (a2 a3 a4 a5 a6 a7 a8 a9 : Nat → Int32) : Prop := ot_hands q l n a2 ∧ ot_trick q n a3 ∧ ot_past q l n a4 a5 a6 a7 a8 a9
theorem ot_hands_push {q : Nat → Nat} {l n : Nat} {a2 : Nat → Int32} (hn : n < 4) (hq : ∀ i, i < 4 → q i < 12) (h : ot_hands q l n a2) :
    ot_hands q l (n + 1) (upd a2 ((l + n) % 4) (a2 ((l + n) % 4) &&& (ot_b (q n) ^^^ (-1)))) := by
  intro i hi
  by_cases e : i = n
  · rw [e, pk_us, h n hn, if_neg (by omega), if_pos (by omega)]
    exact ot_b_off (q n) (hq n hn)
  · rw [pk_un (by omega), h i hi]
    by_cases g : i < n
    · rw [if_pos g, if_pos (by omega)]
    · rw [if_neg g, if_neg (by omega)]
theorem ot_hands_pop {q : Nat → Nat} {l n : Nat} {a2 : Nat → Int32} (hn : n < 4) (h : ot_hands q l (n + 1) a2) :
    ot_hands q l n (upd a2 ((l + n) % 4) (a2 ((l + n) % 4) ||| ot_b (q n))) := by
  intro i hi
  by_cases e : i = n
  · rw [e, pk_us, h n hn, if_pos (by omega), if_neg (by omega)]
    exact Int32.zero_or
  · rw [pk_un (by omega), h i hi]
    by_cases g : i < n
    · rw [if_pos g, if_pos (by omega)]
    · rw [if_neg g, if_neg (by omega)]
theorem ot_trick_push {q : Nat → Nat} {n : Nat} {a3 : Nat → Int32} (h : ot_trick q n a3) : ot_trick q (n + 1) (upd a3 n (nI (q n))) := by
  intro i hi
  by_cases e : i = n
  · rw [e, pk_us]
  · rw [pk_un e]
    exact h i (by omega)
theorem ot_past_push {q : Nat → Nat} {l n : Nat} {a3 a4 a5 a6 a7 a8 a9 s : Nat → Int32} (h3 : ot_trick q n a3) (h : ot_past q l n a4 a5 a6 a7 a8 a9)
    (hs1 : ∀ j, j < 4 → s (4 * n + j) = a3 j) (hs2 : ∀ j, j < 4 * n → s j = a6 j) (hn : n < 4) :
    ot_past q l (n + 1) (upd a4 n (nI (q n))) (upd a5 n (nI l)) s (upd a7 n (nI n)) (upd a8 n 0) (upd a9 n 0) := by
  intro k hk
  by_cases e : k = n
  · subst e
    exact ⟨pk_us, pk_us, pk_us, pk_us, pk_us, fun j hj => (hs1 j (by omega)).trans (h3 j hj)⟩
  · obtain ⟨g4, g5, g7, g8, g9, g6⟩ := h k (by omega)
    exact ⟨(pk_un e).trans g4, (pk_un e).trans g5, (pk_un e).trans g7, (pk_un e).trans g8, (pk_un e).trans g9, fun j hj => (hs2 (4 * k + j) (by omega)).trans (g6 j hj)⟩
theorem ot_past_less {q : Nat → Nat} {l n : Nat} {a4 a5 a6 a7 a8 a9 : Nat → Int32} (h : ot_past q l (n + 1) a4 a5 a6 a7 a8 a9) : ot_past q l n a4 a5 a6 a7 a8 a9 := fun k hk => h k (by omega)
/-- the hands after m deals -/
def ot_dealt (q : Nat → Nat) (l m : Nat) (a1 : Nat → Int32) : Prop := ∀ i, i < 4 → a1 ((l + i) % 4) = if i < m then ot_b (q i) else 0
theorem ot_all {P : Nat → Prop} {l : Nat} (hl : l < 4) (h : ∀ i, i < 4 → P ((l + i) % 4)) : ∀ k, k < 4 → P k := by
  intro k hk
  have g := h ((k + 4 - l) % 4) (by omega)
  rw [show (l + (k + 4 - l) % 4) % 4 = k by omega] at g
  exact g
/-- what a search finds first for a situation -/
def ot_f0 (kd : Int32) (m : Nat) : Int32 := if kd = 2 then 0 else if m % 2 = 0 then -1 else 100
end
section
theorem ot_sizeOf {on tr ld pl fw sw st kd en : Int32} {a1 a2 a3 a4 a5 a6 a7 a8 a9 a10 a11 a12 : Nat → Int32} {a13 : Nat → Int64} {a14 : Nat → Int32} {post : Int32 → Prop} {x r : Int32} (e : ot_sz x 12 = r) (h : post r) : wpX_sizeOf post (on, tr, ld, pl, fw, sw, st, kd, en, a1, a2, a3, a4, a5, a6, a7, a8, a9, a10, a11, a12, a13, a14) x := by
  subst e
  show ∃ fu4 : Nat, wX_sizeOf_4 post x on tr ld pl fw sw st kd en a1 a2 a3 a4 a5 a6 a7 a8 a9 a10 a11 a12 a13 a14 fu4 0 0
  exact pk_loop (fun n i s => wX_sizeOf_4 post x on tr ld pl fw sw st kd en a1 a2 a3 a4 a5 a6 a7 a8 a9 a10 a11 a12 a13 a14 n s (nI i)) (fun i s => s = ot_sz x i) 12 0 (0 : Int32) (by omega) rfl
    (fun n s hs => pk_le 12 12 (fun _ => by rw [show s = ot_sz x 12 from hs]; exact h) (fun z => absurd z (by omega)))
    (fun n i s hi hs hw => pk_le 12 i (fun z => absurd z (by omega)) (fun _ => nm_e (nm_r (nI_1 i) (hw _ (by rw [show s = ot_sz x i from hs]; rfl)))))
theorem ot_mover {on tr fw sw st kd en : Int32} {a1 a2 a3 a4 a5 a6 a7 a8 a9 a10 a11 a12 : Nat → Int32} {a13 : Nat → Int64} {a14 : Nat → Int32} {post : Int32 → Prop} {l n : Nat} (h : l + n < 2 ^ 32) (hp : post (nI ((l + n) % 4))) : wpX_mover post (on, tr, nI l, nI n, fw, sw, st, kd, en, a1, a2, a3, a4, a5, a6, a7, a8, a9, a10, a11, a12, a13, a14) := by
  show post ((nI l + nI n) &&& 3)
  rw [ot_mv l n h]
  exact hp
theorem ot_moverG {on tr ld pl fw sw st kd en : Int32} {a1 a2 a3 a4 a5 a6 a7 a8 a9 a10 a11 a12 : Nat → Int32} {a13 : Nat → Int64} {a14 : Nat → Int32} {post : Int32 → Prop} (h : post ((ld + pl) &&& 3)) : wpX_mover post (on, tr, ld, pl, fw, sw, st, kd, en, a1, a2, a3, a4, a5, a6, a7, a8, a9, a10, a11, a12, a13, a14) := h
theorem ot_strength {on tr ld pl fw sw st kd en : Int32} {a1 a2 a3 a4 a5 a6 a7 a8 a9 a10 a11 a12 : Nat → Int32} {a13 : Nat → Int64} {a14 : Nat → Int32} {post : Int32 → Prop} {q0 c : Nat} (hq : q0 < 12) (hc : c < 12) (h3 : a3 0 = nI q0) (h : post (nI (ot_str tr q0 c))) : wpX_strength post (on, tr, ld, pl, fw, sw, st, kd, en, a1, a2, a3, a4, a5, a6, a7, a8, a9, a10, a11, a12, a13, a14) (nI c) := by
  have e3 : a3 0 / 4 = nI (q0 / 4) := by rw [h3]; exact ot_d4 hq
  unfold wpX_strength
  dsimp only
  rw [ot_r4 hc, ot_d4 hc, e3]
  unfold ot_str at h
  refine ⟨by decide, br_c (fun z => ⟨by decide, ?_⟩) (fun z => ⟨by decide, by decide, ?_⟩)⟩
  · rw [if_pos z] at h
    rw [show (10 : Int32) + nI (c % 4) = nI (10 + c % 4) from nI_add 10 _]
    exact h
  · rw [if_neg z] at h
    refine pk_eq (c / 4) (q0 / 4) (fun e => ⟨by decide, ?_⟩) (fun e => ?_)
    · rw [if_pos e] at h
      rw [show (1 : Int32) + nI (c % 4) = nI (1 + c % 4) from nI_add 1 _]
      exact h
    · rw [if_neg e] at h
      exact h
theorem ot_bestPlace {on tr ld fw sw st kd en : Int32} {a1 a2 a3 a4 a5 a6 a7 a8 a9 a10 a11 a12 : Nat → Int32} {a13 : Nat → Int64} {a14 : Nat → Int32} {post : Int32 → Prop} {q : Nat → Nat} (hq : ∀ i, i < 4 → q i < 12) (h3 : ot_trick q 4 a3) (h : post (nI (ot_bp tr q 3))) : wpX_bestPlace post (on, tr, ld, nI 4, fw, sw, st, kd, en, a1, a2, a3, a4, a5, a6, a7, a8, a9, a10, a11, a12, a13, a14) := by
  show ∃ fu4 : Nat, wX_bestPlace_4 post on tr ld (nI 4) fw sw st kd en a1 a2 a3 a4 a5 a6 a7 a8 a9 a10 a11 a12 a13 a14 fu4 0 1
  refine pk_loop (fun n i s => wX_bestPlace_4 post on tr ld (nI 4) fw sw st kd en a1 a2 a3 a4 a5 a6 a7 a8 a9 a10 a11 a12 a13 a14 n s (nI i)) (fun i s => 1 ≤ i ∧ s = nI (ot_bp tr q (i - 1))) 4 1 (0 : Int32) (by omega) ⟨by omega, rfl⟩
    (fun n s hs => pk_le 4 4 (fun _ => by rw [show s = nI (ot_bp tr q 3) from hs.2]; exact h) (fun z => absurd z (by omega))) ?_
  intro n i s hi hs hw
  obtain ⟨h1, hs⟩ := hs
  obtain ⟨k, rfl⟩ : ∃ k, i = k + 1 := ⟨i - 1, by omega⟩
  have hs' : s = nI (ot_bp tr q k) := hs
  subst hs'
  have hb := ot_bp_le tr q k
  have hk : ot_bp tr q (k + 1) = if ot_str tr (q 0) (q (k + 1)) ≤ ot_str tr (q 0) (q (ot_bp tr q k)) then ot_bp tr q k else k + 1 :=
    ot_nx_str (hq _ (by omega)) (hq _ (by omega)) (ot_bp_suit tr q k)
  refine pk_le 4 (k + 1) (fun z => absurd z (by omega)) (fun _ => ⟨pk_in (k + 1) 4 (by omega), ?_⟩)
  rw [nI_clamp (show k + 1 < 2 ^ 31 by omega), nI_clamp (show ot_bp tr q k < 2 ^ 31 by omega), h3 (k + 1) (by omega), h3 (ot_bp tr q k) (by omega)]
  refine ot_strength (hq 0 (by omega)) (hq _ (by omega)) (h3 0 (by omega)) ⟨pk_in (ot_bp tr q k) 4 (by omega), ?_⟩
  refine ot_strength (hq 0 (by omega)) (hq _ (by omega)) (h3 0 (by omega)) ?_
  refine pk_le (ot_str tr (q 0) (q (k + 1))) (ot_str tr (q 0) (q (ot_bp tr q k))) (fun z => nm_r (nI_1 (k + 1)) (hw _ ⟨by omega, ?_⟩)) (fun z => nm_r (nI_1 (k + 1)) (hw _ ⟨by omega, ?_⟩)) rfl rfl (ot_str_lt _ _ _) (ot_str_lt _ _ _)
  · show nI (ot_bp tr q k) = nI (ot_bp tr q (k + 1))
    rw [hk, if_pos z]
  · show nI (k + 1) = nI (ot_bp tr q (k + 1))
    rw [hk, if_neg (by omega)]
theorem ot_keyNow {on tr ld pl fw sw st kd en : Int32} {a1 a2 a3 a4 a5 a6 a7 a8 a9 a10 a11 a12 : Nat → Int32} {a13 : Nat → Int64} {a14 : Nat → Int32} {post : Int64 → Prop} (H : ∀ x : Int64, post (x ||| (a2 3).toInt64)) : wpX_keyNow post (on, tr, ld, pl, fw, sw, st, kd, en, a1, a2, a3, a4, a5, a6, a7, a8, a9, a10, a11, a12, a13, a14) := by
  unfold wpX_keyNow
  refine nm_e (pk_loop (fun n i s => wX_keyNow_10 post on tr ld pl fw sw st kd en a1 a2 a3 a4 a5 a6 a7 a8 a9 a10 a11 a12 a13 a14 n s (nI i)) (fun i s => i = 4 → ∃ x : Int64, s = x ||| (a2 3).toInt64) 4 0 _ (by omega) (fun z => absurd z (by omega))
    (fun n s hs => pk_le 4 4 (fun _ => ?_) (fun z => absurd z (by omega)))
    (fun n i s hi _ hw => pk_le 4 i (fun z => absurd z (by omega)) (fun _ => ⟨pk_in i 4 hi, nm_e (nm_r (nI_1 i) (hw _ (fun e => ?_)))⟩)))
  · obtain ⟨x, e⟩ := hs rfl
    rw [e]
    exact H x
  · have e' : i = 3 := by omega
    subst e'
    exact ⟨_, rfl⟩
theorem ot_slotFor {on tr ld pl fw sw st kd en : Int32} {a1 a2 a3 a4 a5 a6 a7 a8 a9 a10 a11 a12 : Nat → Int32} {a13 : Nat → Int64} {a14 : Nat → Int32} {post : Int32 → Prop} {key : Int64} (ht : ∀ h, h < 2048 → a13 h = 0) (H : ∀ h, h < 2048 → post (nI h)) : wpX_slotFor post (on, tr, ld, pl, fw, sw, st, kd, en, a1, a2, a3, a4, a5, a6, a7, a8, a9, a10, a11, a12, a13, a14) key := by
  unfold wpX_slotFor
  intro x e
  obtain ⟨j, hj, ej⟩ : ∃ j, j < 2048 ∧ x = nI j := by
    rw [e]
    exact pk_andE _ 11 rfl
  rw [ej]
  exact ⟨1, pk_le 2048 0 (fun z => absurd z (by omega)) (fun _ => ⟨pk_in j 2048 hj, br_t (by rw [nI_clamp (show j < 2 ^ 31 by omega)]; exact ht j hj) (H j hj)⟩)⟩
theorem ot_atEnd {on tr fw sw st kd en : Int32} {a1 a2 a3 a4 a5 a6 a7 a8 a9 a10 a11 a12 : Nat → Int32} {a13 : Nat → Int64} {a14 : Nat → Int32} {post : Int32 → Prop} {q : Nat → Nat} {l w : Nat} (hl : l < 4) (hw : w < 4) (hh : ot_hands q l 4 a2) (h : post (if kd = 2 then 1 else 0)) : wpX_atOnce post (on, tr, nI w, nI 0, fw, sw, st, kd, en, a1, a2, a3, a4, a5, a6, a7, a8, a9, a10, a11, a12, a13, a14) := by
  have g : ∀ k, k < 4 → a2 k = 0 := ot_all hl (fun i hi => (hh i hi).trans (if_pos hi))
  unfold wpX_atOnce
  refine ot_mover (by omega) ⟨pk_in ((w + 0) % 4) 4 (by omega), br_t ?_ (br_c (fun z => ?_) (fun z => ?_))⟩
  · rw [nI_clamp (by omega)]
    exact g _ (by omega)
  · rw [if_pos z] at h
    exact h
  · rw [if_neg z] at h
    exact h
theorem ot_atMid {on tr fw sw st kd en : Int32} {a1 a2 a3 a4 a5 a6 a7 a8 a9 a10 a11 a12 : Nat → Int32} {a13 : Nat → Int64} {a14 : Nat → Int32} {post : Int32 → Prop} {q : Nat → Nat} {l n : Nat} (hl : l < 4) (hn : n < 4) (h0 : 0 < n) (hq : ∀ i, i < 4 → q i < 12) (hh : ot_hands q l n a2) (h : post (-1)) : wpX_atOnce post (on, tr, nI l, nI n, fw, sw, st, kd, en, a1, a2, a3, a4, a5, a6, a7, a8, a9, a10, a11, a12, a13, a14) := by
  unfold wpX_atOnce
  refine ot_mover (by omega) ⟨pk_in ((l + n) % 4) 4 (by omega), br_f ?_ (pk_le n 0 (fun z => absurd z (by omega)) (fun _ => h))⟩
  rw [nI_clamp (by omega), hh n hn, if_neg (by omega)]
  exact ot_b_ne _ (hq n hn)
theorem ot_atStart {on tr fw sw st kd en : Int32} {a1 a2 a3 a4 a5 a6 a7 a8 a9 a10 a11 a12 : Nat → Int32} {a13 : Nat → Int64} {a14 : Nat → Int32} {post : Int32 → Prop} {q : Nat → Nat} {l : Nat} (hl : l < 4) (hq : ∀ i, i < 4 → q i < 12) (hh : ot_hands q l 0 a2) (ht : ∀ h, h < 2048 → a13 h = 0) (h : post (-1)) : wpX_atOnce post (on, tr, nI l, nI 0, fw, sw, st, kd, en, a1, a2, a3, a4, a5, a6, a7, a8, a9, a10, a11, a12, a13, a14) := by
  have g : ∀ k, k < 4 → ∃ c, c < 12 ∧ a2 k = ot_b c := ot_all hl (fun i hi => ⟨q i, hq i hi, (hh i hi).trans (if_neg (by omega))⟩)
  unfold wpX_atOnce
  refine ot_mover (by omega) ⟨pk_in ((l + 0) % 4) 4 (by omega), br_f ?_ (pk_le 0 0 (fun _ => ot_keyNow (fun x => ot_slotFor ht (fun k hk => ⟨pk_in k 2048 hk, br_f ?_ h⟩))) (fun z => absurd z (by omega)))⟩
  · obtain ⟨c, hc, e⟩ := g ((l + 0) % 4) (by omega)
    rw [nI_clamp (by omega), e]
    exact ot_b_ne c hc
  · obtain ⟨c, hc, e⟩ := g 3 (by omega)
    rw [nI_clamp (by omega), ht k hk, e]
    intro z
    exact ot_b_long c hc (Int64.or_eq_zero_iff.mp z.symm).2
theorem ot_legalNow {on tr fw sw st kd en : Int32} {a1 a2 a3 a4 a5 a6 a7 a8 a9 a10 a11 a12 : Nat → Int32} {a13 : Nat → Int64} {a14 : Nat → Int32} {post : Int32 → Prop} {q : Nat → Nat} {l n : Nat} (hl : l < 4) (hn : n < 4) (hq : ∀ i, i < 4 → q i < 12) (hh : ot_hands q l n a2) (h3 : ot_trick q n a3) (h : post (ot_b (q n))) : wpX_legalNow post (on, tr, nI l, nI n, fw, sw, st, kd, en, a1, a2, a3, a4, a5, a6, a7, a8, a9, a10, a11, a12, a13, a14) := by
  have e0 : a2 (nI ((l + n) % 4)).toNatClampNeg = ot_b (q n) := by
    rw [nI_clamp (by omega), hh n hn, if_neg (by omega)]
  unfold wpX_legalNow
  refine ot_mover (by omega) ⟨pk_in ((l + n) % 4) 4 (by omega), nm_r e0 (pk_eq n 0 (fun _ => h) (fun z => ⟨by decide, ?_⟩))⟩
  rw [h3 0 (by omega), ot_d4 (hq 0 (by omega))]
  show ∀ x2_7 : Int32, x2_7 = ot_b (q n) &&& ((15 : Int32) <<< ((4 * nI (q 0 / 4)) &&& 31)) → ((x2_7 = 0 → post (ot_b (q n))) ∧ (¬ x2_7 = 0 → post x2_7))
  have h0 := hq 0 (by omega)
  rcases ot_b_suit (q n) (hq n hn) (q 0 / 4) (by omega) with e | e
  · exact nm_r e (br_t rfl h)
  · exact nm_r e (br_f (ot_b_ne _ (hq n hn)) h)
theorem ot_fewer3 {on tr ld pl fw sw st kd en : Int32} {a1 a2 a3 a4 a5 a6 a7 a8 a9 a10 a11 a12 : Nat → Int32} {a13 : Nat → Int64} {a14 : Nat → Int32} {post : Int32 → Prop} {c : Nat} (hc : c < 12) (h : post (ot_b c)) (x2 : Int32) : ∃ fu71 : Nat, wX_fewer_71 post (ot_b c) x2 on tr ld pl fw sw st kd en a1 a2 a3 a4 a5 a6 a7 a8 a9 a10 a11 a12 a13 a14 fu71 0 (-1) 0 := by
  refine pk_loop (fun n i s => wX_fewer_71 post (ot_b c) x2 on tr ld pl fw sw st kd en a1 a2 a3 a4 a5 a6 a7 a8 a9 a10 a11 a12 a13 a14 n s.1 s.2 (nI i)) (fun i s => s.1 = (if c < i then ot_b c else 0) ∧ (i ≤ c → s.2 = -1)) 12 0 ((0 : Int32), (-1 : Int32)) (by omega) ⟨rfl, fun _ => rfl⟩
    (fun n s hs => pk_le 12 12 (fun _ => ?_) (fun z => absurd z (by omega)))
    (fun n i s hi hs hw => pk_le 12 i (fun z => absurd z (by omega)) (fun _ => ⟨by decide, ?_⟩))
  · rw [hs.1, if_pos hc]
    exact h
  · obtain ⟨s1, s2⟩ := hs
    have K : ∀ x4 : Int32, (i ≤ c → x4 = -1) → wX_fewer_98 post (wX_fewer_71 post (ot_b c) x2 on tr ld pl fw sw st kd en a1 a2 a3 a4 a5 a6 a7 a8 a9 a10 a11 a12 a13 a14 n) (ot_b c) x2 s.1 x4 (nI i) on tr ld pl fw sw st kd en a1 a2 a3 a4 a5 a6 a7 a8 a9 a10 a11 a12 a13 a14 := by
      intro x4 h4
      unfold wX_fewer_98
      by_cases e : c = i
      · refine br_t ?_ (br_f ?_ (nm_e (nm_r (nI_1 i) (hw (s.1 ||| ot_b i, nI i) ⟨?_, fun z => absurd z (by omega)⟩))))
        · rw [ot_b_bit c hc i hi, if_pos e]
        · rw [h4 (by omega)]
          decide
        · show s.1 ||| ot_b i = if c < i + 1 then ot_b c else 0
          rw [s1, if_neg (by omega), if_pos (by omega), e]
          exact Int32.zero_or
      · refine br_f ?_ (nm_r (nI_1 i) (hw (s.1, x4) ⟨?_, fun z => h4 (by omega)⟩))
        · rw [ot_b_bit c hc i hi, if_neg e]
          decide
        · show s.1 = if c < i + 1 then ot_b c else 0
          rw [s1]
          by_cases g : c < i
          · rw [if_pos g, if_pos (by omega)]
          · rw [if_neg g, if_neg (by omega)]
    exact br_c (fun _ => K (-1) (fun _ => rfl)) (fun _ => br_c (fun _ => K (-1) (fun _ => rfl)) (fun _ => K s.2 s2))
theorem ot_fewer {on tr ld fw sw st kd en : Int32} {a1 a2 a3 a4 a5 a6 a7 a8 a9 a10 a11 a12 : Nat → Int32} {a13 : Nat → Int64} {a14 : Nat → Int32} {post : Int32 → Prop} {n c : Nat} (hn : n ≤ 4) (hc : c < 12) (h : post (ot_b c)) : wpX_fewer post (on, tr, ld, nI n, fw, sw, st, kd, en, a1, a2, a3, a4, a5, a6, a7, a8, a9, a10, a11, a12, a13, a14) (ot_b c) := by
  have L2 : ∀ x2 : Int32, ∃ fu38 : Nat, wX_fewer_38 post (ot_b c) on tr ld (nI n) fw sw st kd en a1 a2 a3 a4 a5 a6 a7 a8 a9 a10 a11 a12 a13 a14 fu38 x2 0 := fun x2 =>
    pk_loop (fun k i s => wX_fewer_38 post (ot_b c) on tr ld (nI n) fw sw st kd en a1 a2 a3 a4 a5 a6 a7 a8 a9 a10 a11 a12 a13 a14 k s (nI i)) (fun _ _ => True) n 0 x2 (by omega) trivial
      (fun k s _ => pk_le n n (fun _ => ot_fewer3 hc h s) (fun z => absurd z (by omega)))
      (fun k i s hi _ hw => pk_le n i (fun z => absurd z (by omega)) (fun _ => ⟨pk_in i 4 (by omega), nm_e (nm_r (nI_1 i) (hw _ trivial))⟩))
  show ∃ fu4 : Nat, wX_fewer_4 post (ot_b c) on tr ld (nI n) fw sw st kd en a1 a2 a3 a4 a5 a6 a7 a8 a9 a10 a11 a12 a13 a14 fu4 0 0
  exact pk_loop (fun k i s => wX_fewer_4 post (ot_b c) on tr ld (nI n) fw sw st kd en a1 a2 a3 a4 a5 a6 a7 a8 a9 a10 a11 a12 a13 a14 k s (nI i)) (fun _ _ => True) 4 0 (0 : Int32) (by omega) trivial
    (fun k s _ => pk_le 4 4 (fun _ => L2 s) (fun z => absurd z (by omega)))
    (fun k i s hi _ hw => pk_le 4 i (fun z => absurd z (by omega)) (fun _ => ot_moverG (br_c (fun _ => nm_r (nI_1 i) (hw _ trivial)) (fun _ => ⟨pk_in i 4 hi, nm_e (nm_r (nI_1 i) (hw _ trivial))⟩))))
theorem ot_gained {on tr ld pl fw sw st kd en : Int32} {a1 a2 a3 a4 a5 a6 a7 a8 a9 a10 a11 a12 : Nat → Int32} {a13 : Nat → Int64} {a14 : Nat → Int32} {post : Int32 → Prop} (h : post (if kd = 2 then 0 else fw)) : wpX_gained post (on, tr, ld, pl, fw, sw, st, kd, en, a1, a2, a3, a4, a5, a6, a7, a8, a9, a10, a11, a12, a13, a14) := by
  unfold wpX_gained
  refine br_c (fun z => ?_) (fun z => ?_)
  · rw [if_pos z] at h
    exact h
  · rw [if_neg z] at h
    exact h
theorem ot_mayPlay {on tr fw sw st kd en : Int32} {a1 a2 a3 a4 a5 a6 a7 a8 a9 a10 a11 a12 : Nat → Int32} {a13 : Nat → Int64} {a14 : Nat → Int32} {post : Int32 → Prop} {q : Nat → Nat} {l n : Nat} (hl : l < 4) (hn : n < 4) (hq : ∀ i, i < 4 → q i < 12) (hh : ot_hands q l n a2) (h3 : ot_trick q n a3) (h : post 1) : wpX_mayPlay post (on, tr, nI l, nI n, fw, sw, st, kd, en, a1, a2, a3, a4, a5, a6, a7, a8, a9, a10, a11, a12, a13, a14) (nI (q n)) := by
  have hc := hq n hn
  unfold wpX_mayPlay
  refine pk_lt (q n) 0 (fun z => absurd z (by omega)) (fun _ => pk_le 12 (q n) (fun z => absurd z (by omega)) (fun _ => ot_legalNow hl hn hq hh h3 (br_t ?_ h)))
  rw [ot_b_bit _ hc _ hc, if_pos rfl]
end
section
theorem ot_push {on tr kd en : Int32} {a1 a2 a3 a4 a5 a6 a7 a8 a9 a10 a11 a12 : Nat → Int32} {a13 : Nat → Int64} {a14 : Nat → Int32} {post : St2 → Prop} {q : Nat → Nat} {l n : Nat} (hl : l < 4) (hn : n < 4) (hq : ∀ i, i < 4 → q i < 12) (hs : ot_sit q l n a2 a3 a4 a5 a6 a7 a8 a9)
    (H1 : n < 3 → ∀ (b2 b3 b4 b5 b6 b7 b8 b9 : Nat → Int32), ot_sit q l (n + 1) b2 b3 b4 b5 b6 b7 b8 b9 → post (on, tr, nI l, nI (n + 1), 0, 0, nI (n + 1), kd, en, a1, b2, b3, b4, b5, b6, b7, b8, b9, a10, a11, a12, a13, a14))
    (H2 : n = 3 → ∀ (f s : Int32) (b2 b3 b4 b5 b6 b7 b8 b9 : Nat → Int32), f = nI (1 - (l + ot_bp tr q 3) % 2) → ot_sit q l 4 b2 b3 b4 b5 b6 b7 b8 b9 → post (on, tr, nI ((l + ot_bp tr q 3) % 4), 0, f, s, nI 4, kd, en, a1, b2, b3, b4, b5, b6, b7, b8, b9, a10, a11, a12, a13, a14)) :
    wpX_push post (on, tr, nI l, nI n, 0, 0, nI n, kd, en, a1, a2, a3, a4, a5, a6, a7, a8, a9, a10, a11, a12, a13, a14) (nI (q n)) := by
  obtain ⟨h2, h3, hp⟩ := hs
  unfold wpX_push
  refine ⟨pk_in n 13 (by omega), nm_e ⟨pk_in n 13 (by omega), nm_e ⟨pk_in n 13 (by omega), nm_e ⟨pk_in n 13 (by omega), nm_e ⟨pk_in n 13 (by omega), nm_e ?_⟩⟩⟩⟩⟩
  rw [nI_clamp (show n < 2 ^ 31 by omega)]
  refine pk_loop (fun k i s => wX_push_64 post (nI (q n)) on tr (nI l) (nI n) 0 0 (nI n) kd en k (nI i) a1 a2 a3 (upd a4 n (nI (q n))) (upd a5 n (nI l)) s (upd a7 n (nI n)) (upd a8 n 0) (upd a9 n 0) a10 a11 a12 a13 a14)
    (fun i s => (∀ j, j < i → s (4 * n + j) = a3 j) ∧ (∀ j, j < 4 * n → s j = a6 j)) 4 0 a6 (by omega) ⟨fun j hj => absurd hj (by omega), fun j _ => rfl⟩ ?_ ?_
  · intro k s hs
    obtain ⟨hs1, hs2⟩ := hs
    have hw4 := ot_bp_le tr q 3
    have HS : ot_sit q l (n + 1) (upd a2 (nI ((l + n) % 4)).toNatClampNeg (a2 (nI ((l + n) % 4)).toNatClampNeg &&& (ot_b (q n) ^^^ (-1)))) (upd a3 (nI n).toNatClampNeg (nI (q n))) (upd a4 n (nI (q n))) (upd a5 n (nI l)) s (upd a7 n (nI n)) (upd a8 n 0) (upd a9 n 0) := by
      rw [nI_clamp (show (l + n) % 4 < 2 ^ 31 by omega), nI_clamp (show n < 2 ^ 31 by omega)]
      exact ⟨ot_hands_push hn hq h2, ot_trick_push h3, ot_past_push h3 hp hs1 hs2 hn⟩
    refine pk_le 4 4 (fun _ => nm_r (nI_1 n) (ot_mover (by omega) ⟨pk_in ((l + n) % 4) 4 (by omega), pk_in ((l + n) % 4) 4 (by omega), nm_e ⟨pk_in n 4 hn, nm_e (nm_r (nI_1 n) (pk_eq (n + 1) 4 (fun e => ?_) (fun e => ?_)))⟩⟩)) (fun z => absurd z (by omega))
    · have e3 : n = 3 := by omega
      subst e3
      refine ot_bestPlace hq HS.2.1 (nm_r (ot_mv l (ot_bp tr q 3) (by omega)) ?_)
      refine pk_eq ((l + ot_bp tr q 3) % 4 % 2) 0 (fun g => ?_) (fun g => ?_) (ot_and1 _ (by omega)) rfl (by omega) (by omega)
      · refine pk_eq ((l + ot_bp tr q 3) % 4 % 2) 1 (fun g' => absurd g' (by omega)) (fun g' => ?_) (ot_and1 _ (by omega)) rfl (by omega) (by omega)
        exact H2 rfl _ _ _ _ _ _ _ _ _ _ (by rw [show (l + ot_bp tr q 3) % 2 = 0 by omega]; rfl) HS
      · refine pk_eq ((l + ot_bp tr q 3) % 4 % 2) 1 (fun g' => ?_) (fun g' => absurd g' (by omega)) (ot_and1 _ (by omega)) rfl (by omega) (by omega)
        exact H2 rfl _ _ _ _ _ _ _ _ _ _ (by rw [show (l + ot_bp tr q 3) % 2 = 1 by omega]; rfl) HS
    · exact H1 (by omega) _ _ _ _ _ _ _ _ HS
  · intro k i s hi hs hw
    obtain ⟨hs1, hs2⟩ := hs
    have c1 : ((4 : Int32) * nI n + nI i).toNatClampNeg = 4 * n + i := by
      rw [ot_4n]
      exact nI_clamp (by omega)
    refine pk_le 4 i (fun z => absurd z (by omega)) (fun _ => ⟨pk_in i 4 hi, pk_in (4 * n + i) 52 (by omega) (ot_4n n i), nm_e (nm_r (nI_1 i) (hw _ ⟨fun j hj => ?_, fun j hj => ?_⟩))⟩)
    · rw [c1, nI_clamp (show i < 2 ^ 31 by omega)]
      by_cases e : j = i
      · rw [e, pk_us]
      · rw [pk_un (by omega)]
        exact hs1 j (by omega)
    · rw [c1, pk_un (by omega)]
      exact hs2 j hj
theorem ot_pop {on tr ld pl fw sw kd en : Int32} {a1 a2 a3 a4 a5 a6 a7 a8 a9 a10 a11 a12 : Nat → Int32} {a13 : Nat → Int64} {a14 : Nat → Int32} {post : Int32 → St2 → Prop} {q : Nat → Nat} {l n : Nat} (hl : l < 4) (hn : n < 4) (hh : ot_hands q l (n + 1) a2) (hp : ot_past q l (n + 1) a4 a5 a6 a7 a8 a9)
    (H : ∀ (b2 b3 : Nat → Int32), ot_sit q l n b2 b3 a4 a5 a6 a7 a8 a9 → post (nI (q n)) (on, tr, nI l, nI n, 0, 0, nI n, kd, en, a1, b2, b3, a4, a5, a6, a7, a8, a9, a10, a11, a12, a13, a14)) :
    wpX_pop post (on, tr, ld, pl, fw, sw, nI (n + 1), kd, en, a1, a2, a3, a4, a5, a6, a7, a8, a9, a10, a11, a12, a13, a14) := by
  obtain ⟨p4, p5, p7, p8, p9, p6⟩ := hp n (by omega)
  have c : (nI n).toNatClampNeg = n := nI_clamp (by omega)
  unfold wpX_pop
  refine nm_r (nI_pred n) ⟨pk_in n 13 (by omega), nm_r (show a4 (nI n).toNatClampNeg = nI (q n) by rw [c]; exact p4) ⟨pk_in n 13 (by omega), nm_r (show a5 (nI n).toNatClampNeg = nI l by rw [c]; exact p5) ⟨pk_in n 13 (by omega), nm_r (show a7 (nI n).toNatClampNeg = nI n by rw [c]; exact p7) ⟨pk_in n 13 (by omega), nm_r (show a8 (nI n).toNatClampNeg = 0 by rw [c]; exact p8) ⟨pk_in n 13 (by omega), nm_r (show a9 (nI n).toNatClampNeg = 0 by rw [c]; exact p9) ?_⟩⟩⟩⟩⟩
  refine pk_loop (fun k i s => wX_pop_74 post (nI (q n)) on tr (nI l) (nI n) 0 0 (nI n) kd en k (nI i) a1 a2 s a4 a5 a6 a7 a8 a9 a10 a11 a12 a13 a14) (fun i s => ∀ j, j < i → s j = a6 (4 * n + j)) 4 0 a3 (by omega) (fun j hj => absurd hj (by omega)) ?_ ?_
  · intro k s hs
    have HS : ot_sit q l n (upd a2 (nI ((l + n) % 4)).toNatClampNeg (a2 (nI ((l + n) % 4)).toNatClampNeg ||| ot_b (q n))) s a4 a5 a6 a7 a8 a9 := by
      rw [nI_clamp (show (l + n) % 4 < 2 ^ 31 by omega)]
      exact ⟨ot_hands_pop hn hh, fun j hj => (hs j (by omega)).trans (p6 j hj), ot_past_less hp⟩
    exact pk_le 4 4 (fun _ => ot_mover (by omega) ⟨pk_in ((l + n) % 4) 4 (by omega), pk_in ((l + n) % 4) 4 (by omega), nm_e (H _ _ HS)⟩) (fun z => absurd z (by omega))
  · intro k i s hi hs hw
    have c1 : ((4 : Int32) * nI n + nI i).toNatClampNeg = 4 * n + i := by
      rw [ot_4n]
      exact nI_clamp (by omega)
    refine pk_le 4 i (fun z => absurd z (by omega)) (fun _ => ⟨pk_in (4 * n + i) 52 (by omega) (ot_4n n i), pk_in i 4 hi, nm_e (nm_r (nI_1 i) (hw _ (fun j hj => ?_)))⟩)
    rw [c1, nI_clamp (show i < 2 ^ 31 by omega)]
    by_cases e : j = i
    · rw [e, pk_us]
    · rw [pk_un e]
      exact hs j (by omega)
theorem ot_begin {on tr sw st kd en : Int32} {a1 a2 a3 a4 a5 a6 a7 a8 a9 a10 a11 a12 : Nat → Int32} {a13 : Nat → Int64} {a14 : Nat → Int32} {post : St2 → Prop} {q : Nat → Nat} {l n d : Nat} (hk : kd = 0 ∨ kd = 2) (hd : d < 14) (hl : l < 4) (hn : n < 4) (hq : ∀ i, i < 4 → q i < 12) (hh : ot_hands q l n a2) (h3 : ot_trick q n a3)
    (H : ∀ f : Int32, f = ot_f0 kd (l + n) → post (on, tr, nI l, nI n, 0, sw, st, kd, en, a1, a2, a3, a4, a5, a6, a7, a8, a9, upd a10 d (ot_b (q n)), upd a11 d f, upd a12 d 0, a13, a14)) :
    wpX_begin post (on, tr, nI l, nI n, 0, sw, st, kd, en, a1, a2, a3, a4, a5, a6, a7, a8, a9, a10, a11, a12, a13, a14) (nI d) := by
  have c : (nI d).toNatClampNeg = d := nI_clamp (by omega)
  have K : wX_begin_27 post (nI d) (ot_b (q n)) (nI d) on tr (nI l) (nI n) 0 sw st kd en a1 a2 a3 a4 a5 a6 a7 a8 a9 a10 a11 a12 a13 a14 := by
    unfold wX_begin_27
    rw [c]
    refine ⟨pk_in d 14 hd, nm_e (ot_gained ?_)⟩
    rcases hk with rfl | rfl
    · refine ⟨pk_in d 14 hd, nm_e (br_f (by decide) (br_t rfl (ot_mover (by omega) ?_)))⟩
      refine pk_eq ((l + n) % 4 % 2) 0 (fun e => br_f (by decide) ⟨pk_in d 14 hd, nm_e (H _ ?_)⟩) (fun e => br_t rfl ⟨pk_in d 14 hd, nm_e (H _ ?_)⟩) (ot_and1 _ (by omega)) rfl (by omega) (by omega)
      · unfold ot_f0
        rw [if_neg (by decide), if_pos (by omega)]
      · unfold ot_f0
        rw [if_neg (by decide), if_neg (by omega)]
    · exact ⟨pk_in d 14 hd, nm_e (br_t rfl ⟨pk_in d 14 hd, nm_e (H _ rfl)⟩)⟩
  unfold wpX_begin
  exact ot_legalNow hl hn hq hh h3 (br_c (fun _ => K) (fun _ => ot_fewer (by omega) (hq n hn) K))
theorem ot_count {on tr fw sw st kd en : Int32} {a1 a2 a3 a4 a5 a6 a7 a8 a9 a10 a11 a12 : Nat → Int32} {a13 : Nat → Int64} {a14 : Nat → Int32} {post : St2 → Prop} {l n d r : Nat} (hk : kd = 0 ∨ kd = 2) (hd : d < 14) (hl : l < 4) (hn : n < 4) (hr : r ≤ 1) (hf : a11 d = ot_f0 kd (l + n))
    (H : post (on, tr, nI l, nI n, fw, sw, st, kd, en, a1, a2, a3, a4, a5, a6, a7, a8, a9, a10, upd a11 d (nI r), a12, a13, a14)) : wpX_count post (on, tr, nI l, nI n, fw, sw, st, kd, en, a1, a2, a3, a4, a5, a6, a7, a8, a9, a10, a11, a12, a13, a14) (nI d) (nI r) := by
  have c : (nI d).toNatClampNeg = d := nI_clamp (by omega)
  have r1 : ¬ nI r ≤ -1 := by
    rcases (show r = 0 ∨ r = 1 by omega) with rfl | rfl
    · decide
    · decide
  have r2 : ¬ (100 : Int32) ≤ nI r := by
    rcases (show r = 0 ∨ r = 1 by omega) with rfl | rfl
    · decide
    · decide
  unfold wpX_count
  dsimp only
  rw [c, hf]
  rcases hk with rfl | rfl
  · refine br_f (by decide) (br_t rfl (ot_mover (by omega) ?_))
    refine pk_eq ((l + n) % 4 % 2) 0 (fun e => br_f (by decide) ⟨pk_in d 14 hd, br_f ?_ ⟨pk_in d 14 hd, nm_e H⟩⟩) (fun e => br_t rfl ⟨pk_in d 14 hd, br_f ?_ ⟨pk_in d 14 hd, nm_e H⟩⟩) (ot_and1 _ (by omega)) rfl (by omega) (by omega)
    · unfold ot_f0
      rw [if_neg (by decide), if_pos (by omega)]
      exact r1
    · unfold ot_f0
      rw [if_neg (by decide), if_neg (by omega)]
      exact r2
  · refine br_t rfl ⟨pk_in d 14 hd, pk_in d 14 hd, nm_e ?_⟩
    rw [show ot_f0 2 (l + n) + nI r = nI r from Int32.zero_add _]
    exact H
theorem ot_remember {on tr ld pl fw sw st kd : Int32} {a1 a2 a3 a4 a5 a6 a7 a8 a9 a10 a11 a12 : Nat → Int32} {a13 : Nat → Int64} {a14 : Nat → Int32} {post : St2 → Prop} {key : Int64} {v : Int32} (ht : ∀ h, h < 2048 → a13 h = 0) (H : ∀ (e : Int32) (b13 : Nat → Int64) (b14 : Nat → Int32), post (on, tr, ld, pl, fw, sw, st, kd, e, a1, a2, a3, a4, a5, a6, a7, a8, a9, a10, a11, a12, b13, b14)) : wpX_remember post (on, tr, ld, pl, fw, sw, st, kd, 0, a1, a2, a3, a4, a5, a6, a7, a8, a9, a10, a11, a12, a13, a14) key v := by
  unfold wpX_remember
  exact pk_le 1948 0 (fun z => absurd z (by omega)) (fun _ => ot_slotFor ht (fun h hh => ⟨pk_in h 2048 hh, br_t (by rw [nI_clamp (show h < 2 ^ 31 by omega)]; exact ht h hh) ⟨pk_in h 2048 hh, nm_e ⟨pk_in h 2048 hh, nm_e (H _ _ _)⟩⟩⟩))
theorem ot_clear {on tr ld pl fw sw st kd en : Int32} {a1 a2 a3 a4 a5 a6 a7 a8 a9 a10 a11 a12 : Nat → Int32} {a13 : Nat → Int64} {a14 : Nat → Int32} {post : St2 → Prop} (H : ∀ (b13 : Nat → Int64), (∀ h, h < 2048 → b13 h = 0) → post (on, tr, ld, pl, fw, sw, st, kd, 0, a1, a2, a3, a4, a5, a6, a7, a8, a9, a10, a11, a12, b13, a14)) : wpX_clearTable post (on, tr, ld, pl, fw, sw, st, kd, en, a1, a2, a3, a4, a5, a6, a7, a8, a9, a10, a11, a12, a13, a14) := by
  show ∃ fu2 : Nat, wX_clearTable_2 post on tr ld pl fw sw st kd en fu2 0 a1 a2 a3 a4 a5 a6 a7 a8 a9 a10 a11 a12 a13 a14
  refine pk_loop (fun k i s => wX_clearTable_2 post on tr ld pl fw sw st kd en k (nI i) a1 a2 a3 a4 a5 a6 a7 a8 a9 a10 a11 a12 s a14) (fun i s => ∀ h, h < i → s h = 0) 2048 0 a13 (by omega) (fun j hj => absurd hj (by omega))
    (fun k s hs => pk_le 2048 2048 (fun _ => H s hs) (fun z => absurd z (by omega)))
    (fun k i s hi hs hw => pk_le 2048 i (fun z => absurd z (by omega)) (fun _ => ⟨pk_in i 2048 hi, nm_e (nm_r (nI_1 i) (hw _ (fun j hj => ?_)))⟩))
  rw [nI_clamp (show i < 2 ^ 31 by omega)]
  by_cases e : j = i
  · rw [e, pk_uLs]
  · rw [pk_uLn e]
    exact hs j (by omega)
theorem ot_deal {on tr ld pl fw sw st kd en : Int32} {a1 a2 a3 a4 a5 a6 a7 a8 a9 a10 a11 a12 : Nat → Int32} {a13 : Nat → Int64} {a14 : Nat → Int32} {post : Int32 → St2 → Prop} {q : Nat → Nat} {l m : Nat} {x p : Int32} (hl : l < 4) (hm : m < 4) (hq : ∀ i, i < 4 → q i < 12) (hd : ∀ i, i < m → q i ≠ q m) (hx : x = nI (q m)) (hp : p = nI ((l + m) % 4)) (h1 : ot_dealt q l m a1)
    (H : ∀ (r : Int32) (b1 b2 : Nat → Int32), ot_dealt q l (m + 1) b1 → post r (0, tr, ld, pl, fw, sw, st, kd, en, b1, b2, a3, a4, a5, a6, a7, a8, a9, a10, a11, a12, a13, a14)) : wpX_deal post (on, tr, ld, pl, fw, sw, st, kd, en, a1, a2, a3, a4, a5, a6, a7, a8, a9, a10, a11, a12, a13, a14) x p := by
  subst hx hp
  have hc := hq m hm
  have L : ∃ fu54 : Nat, wX_deal_54 post (nI (q m)) (nI ((l + m) % 4)) on tr ld pl fw sw st kd en fu54 0 0 a1 a2 a3 a4 a5 a6 a7 a8 a9 a10 a11 a12 a13 a14 := by
    refine pk_loop (fun n i s => wX_deal_54 post (nI (q m)) (nI ((l + m) % 4)) on tr ld pl fw sw st kd en n s.1 (nI i) s.2.1 s.2.2 a3 a4 a5 a6 a7 a8 a9 a10 a11 a12 a13 a14)
      (fun i s => ∀ k, k < 4 → s.2.1 k = if k < i then (if k = (l + m) % 4 then (a1 k &&& (ot_b (q m) ^^^ (-1))) ||| ot_b (q m) else a1 k &&& (ot_b (q m) ^^^ (-1))) else a1 k) 4 0 ((0 : Int32), a1, a2) (by omega) (fun k _ => (if_neg (by omega)).symm) ?_ ?_
    · intro n s hs
      refine pk_le 4 4 (fun _ => ot_sizeOf rfl (H _ _ _ ?_)) (fun z => absurd z (by omega))
      intro i hi
      rw [hs _ (by omega), if_pos (by omega), h1 i hi]
      by_cases e : i = m
      · rw [if_pos (by rw [e]), if_neg (by omega), if_pos (by omega), Int32.zero_and, Int32.zero_or, e]
      · rw [if_neg (by omega)]
        by_cases g : i < m
        · rw [if_pos g, if_pos (by omega)]
          exact ot_b_keep _ (hq i hi) _ hc (hd i g)
        · rw [if_neg g, if_neg (by omega)]
          exact Int32.zero_and
    · intro n i s hi hs hw
      have ci : (nI i).toNatClampNeg = i := nI_clamp (by omega)
      refine pk_le 4 i (fun z => absurd z (by omega)) (fun _ => ⟨pk_in i 4 hi, pk_in i 4 hi, nm_e (pk_eq i ((l + m) % 4) (fun e => ⟨pk_in i 4 hi, pk_in i 4 hi, nm_e ⟨pk_in i 4 hi, pk_in i 4 hi, nm_e ⟨pk_in i 4 hi, nm_e (nm_r (nI_1 i) (hw (_, upd (upd s.2.1 (nI i).toNatClampNeg (s.2.1 (nI i).toNatClampNeg &&& (ot_b (q m) ^^^ (-1)))) (nI i).toNatClampNeg (upd s.2.1 (nI i).toNatClampNeg (s.2.1 (nI i).toNatClampNeg &&& (ot_b (q m) ^^^ (-1))) (nI i).toNatClampNeg ||| ot_b (q m)), _) ?_))⟩⟩⟩) (fun e => ⟨pk_in i 4 hi, pk_in i 4 hi, nm_e ⟨pk_in i 4 hi, nm_e (nm_r (nI_1 i) (hw (_, upd s.2.1 (nI i).toNatClampNeg (s.2.1 (nI i).toNatClampNeg &&& (ot_b (q m) ^^^ (-1))), _) ?_))⟩⟩))⟩)
      · intro k hk
        dsimp only
        rw [ci]
        by_cases ek : k = i
        · rw [ek, pk_us, pk_us, hs i hi, if_neg (by omega), if_pos (by omega), if_pos e]
        · rw [pk_un ek, pk_un ek, hs k hk]
          by_cases g : k < i
          · rw [if_pos g, if_pos (show k < i + 1 by omega)]
          · rw [if_neg g, if_neg (show ¬ k < i + 1 by omega)]
      · intro k hk
        dsimp only
        rw [ci]
        by_cases ek : k = i
        · rw [ek, pk_us, hs i hi, if_neg (by omega), if_pos (by omega), if_neg e]
        · rw [pk_un ek, hs k hk]
          by_cases g : k < i
          · rw [if_pos g, if_pos (show k < i + 1 by omega)]
          · rw [if_neg g, if_neg (show ¬ k < i + 1 by omega)]
  unfold wpX_deal
  refine pk_lt (q m) 0 (fun z => absurd z (by omega)) (fun _ => pk_le 12 (q m) (fun z => absurd z (by omega)) (fun _ => br_f ?_ (pk_lt ((l + m) % 4) 4 (fun _ => br_f ?_ ⟨pk_in ((l + m) % 4) 4 (by omega), ot_sizeOf (r := 0) ?_ (br_f (by decide) L)⟩) (fun z => absurd z (by omega)))))
  · intro z
    exact absurd (Int32.lt_trans z (by decide)) (nI_pos (show (l + m) % 4 < 2 ^ 31 by omega))
  · exact nI_pos (by omega)
  · rw [nI_clamp (show (l + m) % 4 < 2 ^ 31 by omega), h1 m hm, if_neg (by omega), Int32.zero_and]
    exact ot_sz0
theorem ot_start {on tr ld pl fw sw st kd en : Int32} {a1 a2 a3 a4 a5 a6 a7 a8 a9 a10 a11 a12 : Nat → Int32} {a13 : Nat → Int64} {a14 : Nat → Int32} {post : Int32 → St2 → Prop} {q : Nat → Nat} {l : Nat} {t : Int32} (hl : l < 4) (hq : ∀ i, i < 4 → q i < 12) (t1 : ¬ t < -1) (t2 : t ≤ 2) (h1 : ot_dealt q l 4 a1)
    (H : ∀ (b2 : Nat → Int32), ot_hands q l 0 b2 → post 1 (1, t, nI l, 0, 0, 0, 0, kd, en, a1, b2, a3, a4, a5, a6, a7, a8, a9, a10, a11, a12, a13, a14)) : wpX_start post (on, tr, ld, pl, fw, sw, st, kd, en, a1, a2, a3, a4, a5, a6, a7, a8, a9, a10, a11, a12, a13, a14) (nI l) t := by
  have g : ∀ k, k < 4 → ∃ c, c < 12 ∧ a1 k = ot_b c := ot_all hl (fun i hi => ⟨q i, hq i hi, (h1 i hi).trans (if_pos hi)⟩)
  have z1 : ∀ k, k < 4 → ot_sz (a1 k) 12 = 1 := by
    intro k hk
    obtain ⟨c, hc, e⟩ := g k hk
    rw [e]
    exact ot_b_sz1 c hc
  have L74 : ∃ fu74 : Nat, wX_start_74 post (nI l) t 1 on tr ld pl fw sw st kd en fu74 0 a1 a2 a3 a4 a5 a6 a7 a8 a9 a10 a11 a12 a13 a14 := by
    refine pk_loop (fun n i s => wX_start_74 post (nI l) t 1 on tr ld pl fw sw st kd en n (nI i) a1 s a3 a4 a5 a6 a7 a8 a9 a10 a11 a12 a13 a14) (fun i s => ∀ k, k < i → s k = a1 k) 4 0 a2 (by omega) (fun j hj => absurd hj (by omega))
      (fun n s hs => pk_le 4 4 (fun _ => H s (fun i hi => ?_)) (fun z => absurd z (by omega)))
      (fun n i s hi hs hw => pk_le 4 i (fun z => absurd z (by omega)) (fun _ => ⟨pk_in i 4 hi, pk_in i 4 hi, nm_e (nm_r (nI_1 i) (hw _ (fun j hj => ?_)))⟩))
    · rw [hs _ (by omega), h1 i hi, if_pos hi, if_neg (by omega)]
    · rw [nI_clamp (show i < 2 ^ 31 by omega)]
      by_cases e : j = i
      · rw [e, pk_us]
      · rw [pk_un e]
        exact hs j (by omega)
  have L34 : ∃ fu34 : Nat, wX_start_34 post (nI l) t 1 on tr ld pl fw sw st kd en a1 a2 a3 a4 a5 a6 a7 a8 a9 a10 a11 a12 a13 a14 fu34 1 :=
    pk_loop (σ := Unit) (fun n i _ => wX_start_34 post (nI l) t 1 on tr ld pl fw sw st kd en a1 a2 a3 a4 a5 a6 a7 a8 a9 a10 a11 a12 a13 a14 n (nI i)) (fun _ _ => True) 4 1 () (by omega) trivial
      (fun n _ _ => pk_le 4 4 (fun _ => br_f (by decide) L74) (fun z => absurd z (by omega)))
      (fun n i _ hi _ hw => pk_le 4 i (fun z => absurd z (by omega)) (fun _ => ⟨pk_in i 4 hi, ot_sizeOf (r := 1) (by rw [nI_clamp (show i < 2 ^ 31 by omega)]; exact z1 i hi) (br_t rfl (nm_r (nI_1 i) (hw () trivial)))⟩))
  unfold wpX_start
  refine pk_lt l 0 (fun z => absurd z (by omega)) (fun _ => pk_lt l 4 (fun _ => br_t rfl (br_f t1 (br_t t2 (ot_sizeOf (z1 0 (by omega)) L34)))) (fun z => absurd z (by omega)))
end
section
/-- the search at depth d: choices and found at d, the same below -/
def ot_sea (kd : Int32) (l n0 d : Nat) (x y : Int32) (a10 a11 a12 : Nat → Int32) : Prop :=
  a10 d = x ∧ a11 d = y ∧ a12 d = 0 ∧ ∀ k, k < d → a10 k = 0 ∧ a11 k = ot_f0 kd (l + (n0 + k)) ∧ a12 k = 0
theorem ot_back {post : Int32 → St2 → Prop} {q : Nat → Nat} {l n0 R : Nat} {on tr kd : Int32} {a1 : Nat → Int32} (hl : l < 4) (hk : kd = 0 ∨ kd = 2) (hR : R ≤ 1)
    (H : ∀ (en : Int32) (a2 a3 a4 a5 a6 a7 a8 a9 a10 a11 a12 : Nat → Int32) (a13 : Nat → Int64) (a14 : Nat → Int32), ot_sit q l n0 a2 a3 a4 a5 a6 a7 a8 a9 → post (nI R) (on, tr, nI l, nI n0, 0, 0, nI n0, kd, en, a1, a2, a3, a4, a5, a6, a7, a8, a9, a10, a11, a12, a13, a14)) :
    ∀ (d f j : Nat) (a2 a3 a4 a5 a6 a7 a8 a9 a10 a11 a12 : Nat → Int32) (a13 : Nat → Int64) (a14 : Nat → Int32), n0 + d < 4 → d + 2 ≤ f → j + d < 1000 → (∀ h, h < 2048 → a13 h = 0) → ot_sit q l (n0 + d) a2 a3 a4 a5 a6 a7 a8 a9 → ot_sea kd l n0 d 0 (nI R) a10 a11 a12 →
      wX_search_30 post f (nI d) (nI j) on tr (nI l) (nI (n0 + d)) 0 0 (nI (n0 + d)) kd 0 a1 a2 a3 a4 a5 a6 a7 a8 a9 a10 a11 a12 a13 a14 := by
  intro d
  induction d with
  | zero =>
    intro f j a2 a3 a4 a5 a6 a7 a8 a9 a10 a11 a12 a13 a14 hd hf hj ht hs hx
    obtain ⟨g, rfl⟩ : ∃ g, f = g + 2 := ⟨f - 2, by omega⟩
    obtain ⟨x10, x11, x12, _⟩ := hx
    have T : ∀ (en : Int32) (b13 : Nat → Int64) (b14 : Nat → Int32), wX_search_177 post (wX_search_30 post (g + 1)) (nI 0) (nI j) on tr (nI l) (nI n0) 0 0 (nI n0) kd en a1 a2 a3 a4 a5 a6 a7 a8 a9 a10 a11 a12 b13 b14 := by
      intro en b13 b14
      refine ⟨pk_in 0 14 (by omega), pk_in 0 14 (by omega), nm_e (nm_r (show nI 0 + (-1) = -1 from rfl) (br_t (by decide) (nm_r (nI_1 j) (pk_le 200000 (j + 1) (fun z => absurd z (by omega)) (fun _ => br_t (by decide) ?_)))))⟩
      rw [x11]
      exact H _ _ _ _ _ _ _ _ _ _ _ _ _ _ hs
    exact pk_le 200000 j (fun z => absurd z (by omega)) (fun _ => pk_lt 0 0 (fun z => absurd z (by omega)) (fun _ => ⟨pk_in 0 14 (by omega), br_t x10 (pk_eq n0 0
      (fun e => ot_keyNow (fun x => ⟨pk_in 0 14 (by omega), ot_remember ht (fun e b13 b14 => T e b13 b14)⟩)) (fun e => T 0 a13 a14))⟩))
  | succ d ih =>
    intro f j a2 a3 a4 a5 a6 a7 a8 a9 a10 a11 a12 a13 a14 hd hf hj ht hs hx
    obtain ⟨g, rfl⟩ : ∃ g, f = g + 1 := ⟨f - 1, by omega⟩
    obtain ⟨x10, x11, x12, hb⟩ := hx
    obtain ⟨y10, y11, y12⟩ := hb d (by omega)
    have c : (nI (d + 1)).toNatClampNeg = d + 1 := nI_clamp (by omega)
    have c' : (nI d).toNatClampNeg = d := nI_clamp (by omega)
    have e5 : a11 (nI (d + 1)).toNatClampNeg + a12 (nI (d + 1)).toNatClampNeg = nI R := by
      rw [c, x11, x12]
      exact Int32.add_zero _
    have e6 : nI R - a12 (nI d).toNatClampNeg = nI R := by
      rw [c', y12]
      exact Int32.sub_zero _
    refine pk_le 200000 j (fun z => absurd z (by omega)) (fun _ => pk_lt (d + 1) 0 (fun z => absurd z (by omega)) (fun _ => ⟨pk_in (d + 1) 14 (by omega), br_t (by rw [c]; exact x10) (pk_eq (n0 + (d + 1)) 0 (fun e => absurd e (by omega)) (fun _ => ?_))⟩))
    refine ⟨pk_in (d + 1) 14 (by omega), pk_in (d + 1) 14 (by omega), nm_r e5 (nm_r (pk_m1 d) (pk_lt d 0 (fun z => absurd z (by omega)) (fun _ => ?_)))⟩
    refine ot_pop (q := q) (n := n0 + d) hl (by omega) hs.1 hs.2.2 (fun b2 b3 hs' => ⟨pk_in d 14 (by omega), ?_⟩)
    rw [e6]
    refine ot_count hk (by omega) hl (by omega) hR y11 (nm_r (nI_1 j) ?_)
    exact ih g (j + 1) _ _ _ _ _ _ _ _ _ _ _ _ _ (by omega) (by omega) (by omega) ht hs' ⟨y10, pk_us, y12, fun k hk' => ⟨(hb k (by omega)).1, (pk_un (by omega)).trans (hb k (by omega)).2.1, (hb k (by omega)).2.2⟩⟩
theorem ot_fwd {post : Int32 → St2 → Prop} {q : Nat → Nat} {l n0 R : Nat} {on tr kd : Int32} {a1 : Nat → Int32} (hl : l < 4) (hq : ∀ i, i < 4 → q i < 12) (hk : kd = 0 ∨ kd = 2) (hR : R ≤ 1)
    (hR0 : kd = 0 → R = 1 - (l + ot_bp tr q 3) % 2) (hR2 : kd = 2 → R = 1)
    (H : ∀ (en : Int32) (a2 a3 a4 a5 a6 a7 a8 a9 a10 a11 a12 : Nat → Int32) (a13 : Nat → Int64) (a14 : Nat → Int32), ot_sit q l n0 a2 a3 a4 a5 a6 a7 a8 a9 → post (nI R) (on, tr, nI l, nI n0, 0, 0, nI n0, kd, en, a1, a2, a3, a4, a5, a6, a7, a8, a9, a10, a11, a12, a13, a14)) :
    ∀ (m d f j : Nat) (a2 a3 a4 a5 a6 a7 a8 a9 a10 a11 a12 : Nat → Int32) (a13 : Nat → Int64) (a14 : Nat → Int32), n0 + d + m = 3 → d + 2 * m + 3 ≤ f → j + d + 2 * m + 2 < 1000 → (∀ h, h < 2048 → a13 h = 0) → ot_sit q l (n0 + d) a2 a3 a4 a5 a6 a7 a8 a9 → ot_sea kd l n0 d (ot_b (q (n0 + d))) (ot_f0 kd (l + (n0 + d))) a10 a11 a12 →
      wX_search_30 post f (nI d) (nI j) on tr (nI l) (nI (n0 + d)) 0 0 (nI (n0 + d)) kd 0 a1 a2 a3 a4 a5 a6 a7 a8 a9 a10 a11 a12 a13 a14 := by
  intro m
  induction m with
  | zero =>
    intro d f j a2 a3 a4 a5 a6 a7 a8 a9 a10 a11 a12 a13 a14 hd hf hj ht hs hx
    obtain ⟨g, rfl⟩ : ∃ g, f = g + 1 := ⟨f - 1, by omega⟩
    obtain ⟨x10, x11, x12, hb⟩ := hx
    have hc := hq (n0 + d) (by omega)
    have c : (nI d).toNatClampNeg = d := nI_clamp (by omega)
    refine pk_le 200000 j (fun z => absurd z (by omega)) (fun _ => pk_lt d 0 (fun z => absurd z (by omega)) (fun _ => ?_))
    rw [c, x10, ot_b_low _ hc]
    refine ⟨pk_in d 14 (by omega), br_f (ot_b_ne _ hc) ⟨pk_in d 14 (by omega), pk_in d 14 (by omega), nm_e ⟨pk_in d 14 (by omega), pk_in d 14 (by omega), nm_r (by rw [ot_b_off _ hc]) (ot_sizeOf (ot_b_sz _ hc) ?_)⟩⟩⟩
    refine ot_push hl (by omega) hq hs (fun z => absurd z (by omega)) (fun e3 f s b2 b3 b4 b5 b6 b7 b8 b9 hf' hs' => ?_)
    have hw4 := ot_bp_le tr q 3
    have ev : ((if kd = 2 then 1 else 0) + (if kd = 2 then 0 else f)) - a12 d = nI R := by
      rw [x12]
      rcases hk with rfl | rfl
      · rw [if_neg (by decide), if_neg (by decide), hf', hR0 rfl, Int32.zero_add]
        exact Int32.sub_zero _
      · rw [hR2 rfl, if_pos rfl, if_pos rfl]
        rfl
    have nv : ¬ (if kd = 2 then (1 : Int32) else 0) < 0 := by
      split
      · decide
      · decide
    refine ot_atEnd hl (Nat.mod_lt _ (by omega)) hs'.1 (br_f nv (ot_gained ⟨pk_in d 14 (by omega), nm_r ev ?_⟩))
    have e4 : n0 + d + 1 = 4 := by omega
    rw [← e4] at hs' ⊢
    refine ot_pop (q := q) (n := n0 + d) hl (by omega) hs'.1 hs'.2.2 (fun c2 c3 hs'' => ?_)
    refine ot_count hk (by omega) hl (by omega) hR x11 (nm_r (nI_1 j) ?_)
    exact ot_back hl hk hR H d g (j + 1) _ _ _ _ _ _ _ _ _ _ _ _ _ (by omega) (by omega) (by omega) ht hs'' ⟨pk_us, pk_us, x12, fun k hk' => ⟨(pk_un (by omega)).trans (hb k hk').1, (pk_un (by omega)).trans (hb k hk').2.1, (hb k hk').2.2⟩⟩
  | succ m ih =>
    intro d f j a2 a3 a4 a5 a6 a7 a8 a9 a10 a11 a12 a13 a14 hd hf hj ht hs hx
    obtain ⟨g, rfl⟩ : ∃ g, f = g + 1 := ⟨f - 1, by omega⟩
    obtain ⟨x10, x11, x12, hb⟩ := hx
    have hc := hq (n0 + d) (by omega)
    have c : (nI d).toNatClampNeg = d := nI_clamp (by omega)
    refine pk_le 200000 j (fun z => absurd z (by omega)) (fun _ => pk_lt d 0 (fun z => absurd z (by omega)) (fun _ => ?_))
    rw [c, x10, ot_b_low _ hc]
    refine ⟨pk_in d 14 (by omega), br_f (ot_b_ne _ hc) ⟨pk_in d 14 (by omega), pk_in d 14 (by omega), nm_e ⟨pk_in d 14 (by omega), pk_in d 14 (by omega), nm_r (by rw [ot_b_off _ hc]) (ot_sizeOf (ot_b_sz _ hc) ?_)⟩⟩⟩
    refine ot_push hl (by omega) hq hs (fun _ b2 b3 b4 b5 b6 b7 b8 b9 hs' => ?_) (fun z => absurd z (by omega))
    refine ot_atMid hl (by omega) (by omega) hq hs'.1 (br_t (by decide) (nm_r (nI_1 d) ?_))
    refine ot_begin hk (by omega) hl (by omega) hq hs'.1 hs'.2.1 (fun f0 ef => nm_r (nI_1 j) ?_)
    refine ih (d + 1) g (j + 1) _ _ _ _ _ _ _ _ _ _ _ _ _ (by omega) (by omega) (by omega) ht hs' ⟨pk_us, pk_us.trans ef, pk_us, fun k hk' => ?_⟩
    by_cases e : k = d
    · subst e
      exact ⟨(pk_un (by omega)).trans pk_us, (pk_un (by omega)).trans x11, (pk_un (by omega)).trans x12⟩
    · obtain ⟨u1, u2, u3⟩ := hb k (by omega)
      exact ⟨(pk_un (by omega)).trans ((pk_un e).trans u1), (pk_un (by omega)).trans u2, (pk_un (by omega)).trans u3⟩
theorem ot_search {on tr en : Int32} {a1 a2 a3 a4 a5 a6 a7 a8 a9 a10 a11 a12 : Nat → Int32} {a13 : Nat → Int64} {a14 : Nat → Int32} {post : Int32 → St2 → Prop} {q : Nat → Nat} {l n0 R : Nat} {kd k0 : Int32} (hl : l < 4) (hn : n0 < 4) (hq : ∀ i, i < 4 → q i < 12) (hk : kd = 0 ∨ kd = 2)
    (hR0 : kd = 0 → R = 1 - (l + ot_bp tr q 3) % 2) (hR2 : kd = 2 → R = 1) (hs : ot_sit q l n0 a2 a3 a4 a5 a6 a7 a8 a9)
    (H : ∀ (en : Int32) (a2 a3 a4 a5 a6 a7 a8 a9 a10 a11 a12 : Nat → Int32) (a13 : Nat → Int64) (a14 : Nat → Int32), ot_sit q l n0 a2 a3 a4 a5 a6 a7 a8 a9 → post (nI R) (on, tr, nI l, nI n0, 0, 0, nI n0, kd, en, a1, a2, a3, a4, a5, a6, a7, a8, a9, a10, a11, a12, a13, a14)) :
    wpX_search post (on, tr, nI l, nI n0, 0, 0, nI n0, k0, en, a1, a2, a3, a4, a5, a6, a7, a8, a9, a10, a11, a12, a13, a14) kd := by
  have hR : R ≤ 1 := by
    rcases hk with e | e
    · rw [hR0 e]
      omega
    · rw [hR2 e]
      omega
  unfold wpX_search
  refine ot_clear (fun b13 ht => ?_)
  have K : wpX_begin (fun u => match u with | (on, tr, ld, pl, fw, sw, st, kd, en, a1, a2, a3, a4, a5, a6, a7, a8, a9, a10, a11, a12, a13, a14) => ∃ fu30 : Nat, wX_search_30 post fu30 0 0 on tr ld pl fw sw st kd en a1 a2 a3 a4 a5 a6 a7 a8 a9 a10 a11 a12 a13 a14) (on, tr, nI l, nI n0, 0, 0, nI n0, kd, 0, a1, a2, a3, a4, a5, a6, a7, a8, a9, a10, a11, a12, b13, a14) 0 := by
    refine ot_begin (d := 0) hk (by omega) hl hn hq hs.1 hs.2.1 (fun f ef => ⟨11, ?_⟩)
    exact ot_fwd hl hq hk hR hR0 hR2 H (3 - n0) 0 11 0 _ _ _ _ _ _ _ _ _ _ _ _ _ (by omega) (by omega) (by omega) ht hs ⟨pk_us, pk_us.trans ef, pk_us, fun k hk' => absurd hk' (by omega)⟩
  rcases Nat.eq_zero_or_pos n0 with e | e
  · subst e
    exact ot_atStart hl hq hs.1 ht (br_t (by decide) K)
  · exact ot_atMid hl hn e hq hs.1 (br_t (by decide) K)
theorem ot_valueNow {on tr kd en : Int32} {a1 a2 a3 a4 a5 a6 a7 a8 a9 a10 a11 a12 : Nat → Int32} {a13 : Nat → Int64} {a14 : Nat → Int32} {post : Int32 → St2 → Prop} {q : Nat → Nat} {l n0 : Nat} (hl : l < 4) (hn : n0 < 4) (hq : ∀ i, i < 4 → q i < 12) (hs : ot_sit q l n0 a2 a3 a4 a5 a6 a7 a8 a9)
    (H : ∀ (en : Int32) (a2 a3 a4 a5 a6 a7 a8 a9 a10 a11 a12 : Nat → Int32) (a13 : Nat → Int64) (a14 : Nat → Int32), ot_sit q l n0 a2 a3 a4 a5 a6 a7 a8 a9 → post (nI (1 - (l + ot_bp tr q 3) % 2)) (on, tr, nI l, nI n0, 0, 0, nI n0, 0, en, a1, a2, a3, a4, a5, a6, a7, a8, a9, a10, a11, a12, a13, a14)) :
    wpX_valueNow post (on, tr, nI l, nI n0, 0, 0, nI n0, kd, en, a1, a2, a3, a4, a5, a6, a7, a8, a9, a10, a11, a12, a13, a14) := by
  unfold wpX_valueNow
  refine ot_search hl hn hq (Or.inl rfl) (fun _ => rfl) (fun z => absurd z (by decide)) hs (fun en a2 a3 a4 a5 a6 a7 a8 a9 a10 a11 a12 a13 a14 hs' => ?_)
  have h := H en a2 a3 a4 a5 a6 a7 a8 a9 a10 a11 a12 a13 a14 hs'
  show post (0 + nI (1 - (l + ot_bp tr q 3) % 2)) _
  rw [Int32.zero_add]
  exact h
theorem ot_after {tr kd en : Int32} {a1 a2 a3 a4 a5 a6 a7 a8 a9 a10 a11 a12 : Nat → Int32} {a13 : Nat → Int64} {a14 : Nat → Int32} {post : Int32 → St2 → Prop} {q : Nat → Nat} {l n : Nat} (hl : l < 4) (hn : n < 3) (hq : ∀ i, i < 4 → q i < 12) (hs : ot_sit q l n a2 a3 a4 a5 a6 a7 a8 a9)
    (H : ∀ (en : Int32) (a2 a3 a4 a5 a6 a7 a8 a9 a10 a11 a12 : Nat → Int32) (a13 : Nat → Int64) (a14 : Nat → Int32), ot_sit q l n a2 a3 a4 a5 a6 a7 a8 a9 → post (nI (1 - (l + ot_bp tr q 3) % 2)) (1, tr, nI l, nI n, 0, 0, nI n, 0, en, a1, a2, a3, a4, a5, a6, a7, a8, a9, a10, a11, a12, a13, a14)) :
    wpX_after post (1, tr, nI l, nI n, 0, 0, nI n, kd, en, a1, a2, a3, a4, a5, a6, a7, a8, a9, a10, a11, a12, a13, a14) (nI (q n)) := by
  unfold wpX_after
  refine br_f (by decide) (ot_mayPlay hl (by omega) hq hs.1 hs.2.1 (br_f (by decide) ?_))
  refine ot_push hl (by omega) hq hs (fun _ b2 b3 b4 b5 b6 b7 b8 b9 hs' => ?_) (fun z => absurd z (by omega))
  refine ot_valueNow hl (by omega) hq hs' (fun en c2 c3 c4 c5 c6 c7 c8 c9 c10 c11 c12 c13 c14 hs'' => ?_)
  exact ot_pop (q := q) (n := n) hl (by omega) hs''.1 hs''.2.2 (fun d2 d3 hs3 => H _ _ _ _ _ _ _ _ _ _ _ _ _ _ hs3)
theorem ot_best {tr kd en : Int32} {a1 a2 a3 a4 a5 a6 a7 a8 a9 a10 a11 a12 : Nat → Int32} {a13 : Nat → Int64} {a14 : Nat → Int32} {post : Int32 → St2 → Prop} {q : Nat → Nat} {l n : Nat} (hl : l < 4) (hn : n < 3) (hq : ∀ i, i < 4 → q i < 12) (hs : ot_sit q l n a2 a3 a4 a5 a6 a7 a8 a9)
    (H : ∀ (u : St2), post (nI (q n)) u) : wpX_best post (1, tr, nI l, nI n, 0, 0, nI n, kd, en, a1, a2, a3, a4, a5, a6, a7, a8, a9, a10, a11, a12, a13, a14) := by
  have hc := hq n (by omega)
  unfold wpX_best
  refine br_f (by decide) (ot_legalNow hl (by omega) hq hs.1 hs.2.1 ?_)
  refine ot_valueNow hl (by omega) hq hs (fun en c2 c3 c4 c5 c6 c7 c8 c9 c10 c11 c12 c13 c14 hs' => ?_)
  exact pk_loop (σ := Unit) (fun k i _ => wX_best_22 post (ot_b (q n)) (nI (1 - (l + ot_bp tr q 3) % 2)) k (nI i) 1 tr (nI l) (nI n) 0 0 (nI n) 0 en a1 c2 c3 c4 c5 c6 c7 c8 c9 c10 c11 c12 c13 c14) (fun _ _ => True) (q n) 0 () (by omega) trivial
    (fun k _ _ => pk_le 12 (q n) (fun z => absurd z (by omega)) (fun _ => br_t (by rw [ot_b_bit _ hc _ hc, if_pos rfl]) (ot_after hl hn hq hs' (fun _ _ _ _ _ _ _ _ _ _ _ _ _ _ _ => br_t rfl (H _)))))
    (fun k i _ hi _ hw => pk_le 12 i (fun z => absurd z (by omega)) (fun _ => br_f (by rw [ot_b_bit _ hc _ (by omega), if_neg (by omega)]; decide) (nm_r (nI_1 i) (hw () trivial))))
theorem ot_play {tr kd en : Int32} {a1 a2 a3 a4 a5 a6 a7 a8 a9 a10 a11 a12 : Nat → Int32} {a13 : Nat → Int64} {a14 : Nat → Int32} {post : Int32 → St2 → Prop} {q : Nat → Nat} {l n : Nat} (hl : l < 4) (hn : n < 3) (hq : ∀ i, i < 4 → q i < 12) (hs : ot_sit q l n a2 a3 a4 a5 a6 a7 a8 a9)
    (H : ∀ (r : Int32) (a2 a3 a4 a5 a6 a7 a8 a9 : Nat → Int32), ot_sit q l (n + 1) a2 a3 a4 a5 a6 a7 a8 a9 → post r (1, tr, nI l, nI (n + 1), 0, 0, nI (n + 1), kd, en, a1, a2, a3, a4, a5, a6, a7, a8, a9, a10, a11, a12, a13, a14)) :
    wpX_play post (1, tr, nI l, nI n, 0, 0, nI n, kd, en, a1, a2, a3, a4, a5, a6, a7, a8, a9, a10, a11, a12, a13, a14) (nI (q n)) := by
  unfold wpX_play
  refine br_f (by decide) (ot_mayPlay hl (by omega) hq hs.1 hs.2.1 (br_f (by decide) ?_))
  refine ot_push hl (by omega) hq hs (fun _ b2 b3 b4 b5 b6 b7 b8 b9 hs' => ?_) (fun z => absurd z (by omega))
  exact br_c (fun _ => H _ _ _ _ _ _ _ _ _ hs') (fun _ => H _ _ _ _ _ _ _ _ _ hs')
end
section
def ot_q (a b c d : Nat) : Nat → Nat
  | 0 => a
  | 1 => b
  | 2 => c
  | _ => d
theorem ot_q4 {P : Nat → Prop} {a b c d : Nat} (ha : P a) (hb : P b) (hc : P c) (hd : P d) : ∀ i, i < 4 → P (ot_q a b c d i) := by
  intro i hi
  rcases (show i = 0 ∨ i = 1 ∨ i = 2 ∨ i = 3 by omega) with rfl | rfl | rfl | rfl
  · exact ha
  · exact hb
  · exact hc
  · exact hd
theorem ot_318 {post : Int32 → St0 → Prop} {mc ms kc ks a l w : Nat} {x4 : Int32} (hl : l < 4) (hw : w < 4) (h : post 1 ()) :
    wL_lawOf_318 post mc ms (nI a) x4 (nI l) 1 (nI (1 - (l + w) % 2)) 1 (ot_b a) x4 (nI w) kc ks := by
  unfold wL_lawOf_318
  refine br_t rfl (br_t ?_ (br_t rfl (br_t rfl (br_t rfl h))))
  rw [nI_add, ot_and1 _ (by omega)]
  exact (pk_sub (a := 1) (by omega)).symm
theorem ot_274 {post : Int32 → St0 → Prop} {mc ms kc ks d two over : Nat} {x3 x4 x7 t x9 x10 x11 x12 x13 : Int32} (hd : d < 12) (ho : over < 12)
    (h : wL_lawOf_318 post mc ms x3 x4 x7 x9 x10 x11 x12 x13 (nI (ot_nx t d over 3 two)) kc ks) :
    wL_lawOf_274 post mc ms x3 x4 (nI d) x7 t x9 x10 x11 x12 x13 (nI two) (nI over) kc ks := by
  unfold wL_lawOf_274
  rw [ot_d4 hd, ot_d4 ho]
  unfold ot_nx at h
  refine ⟨by decide, by decide, pk_eq (d / 4) (over / 4) (fun e => pk_le d over (fun g => ?_) (fun g => ?_)) (fun e => ⟨by decide, br_c (fun g => ?_) (fun g => ?_)⟩)⟩
  · rw [if_pos e, if_neg (by omega)] at h
    exact h
  · rw [if_pos e, if_pos g] at h
    exact h
  · rw [if_neg e, if_pos g] at h
    exact h
  · rw [if_neg e, if_neg g] at h
    exact h
theorem ot_215 {post : Int32 → St0 → Prop} {mc ms kc ks c one top : Nat} {x3 x4 x6 x7 t x9 x10 x11 x12 x13 : Int32} (hc : c < 12) (ho : top < 12)
    (h : wL_lawOf_259 post mc ms x3 x4 (nI c) x6 x7 t x9 x10 x11 x12 x13 (nI top) (nI (ot_nx t c top 2 one)) kc ks) :
    wL_lawOf_215 post mc ms x3 x4 (nI c) x6 x7 t x9 x10 x11 x12 x13 (nI one) (nI top) kc ks := by
  unfold wL_lawOf_215
  rw [ot_d4 hc, ot_d4 ho]
  unfold ot_nx at h
  refine ⟨by decide, by decide, pk_eq (c / 4) (top / 4) (fun e => pk_le c top (fun g => ?_) (fun g => ?_)) (fun e => ⟨by decide, br_c (fun g => ?_) (fun g => ?_)⟩)⟩
  · rw [if_pos e, if_neg (by omega)] at h
    exact h
  · rw [if_pos e, if_pos g] at h
    exact h
  · rw [if_neg e, if_pos g] at h
    exact h
  · rw [if_neg e, if_neg g] at h
    exact h
/-- the law's words behind the calls: who wins -/
theorem ot_tail {post : Int32 → St0 → Prop} {mc ms kc ks l : Nat} {q : Nat → Nat} {t : Int32} (hl : l < 4) (hq : ∀ i, i < 4 → q i < 12) (h : post 1 ()) :
    wL_lawOf_201 post mc ms (nI (q 0)) (nI (q 1)) (nI (q 2)) (nI (q 3)) (nI l) t 1 (nI (1 - (l + ot_bp t q 3) % 2)) 1 (ot_b (q 0)) (nI (q 1)) (nI (ot_bp t q 1)) kc ks := by
  have b1 := ot_bp_le t q 1
  have b2 := ot_bp_le t q 2
  have b3 := ot_bp_le t q 3
  have K : wL_lawOf_274 post mc ms (nI (q 0)) (nI (q 1)) (nI (q 3)) (nI l) t 1 (nI (1 - (l + ot_bp t q 3) % 2)) 1 (ot_b (q 0)) (nI (q 1)) (nI (ot_bp t q 2)) (nI (q (ot_bp t q 2))) kc ks :=
    ot_274 (hq 3 (by omega)) (hq _ (by omega)) (ot_318 hl (show ot_bp t q 3 < 4 by omega) h)
  have M : wL_lawOf_215 post mc ms (nI (q 0)) (nI (q 1)) (nI (q 2)) (nI (q 3)) (nI l) t 1 (nI (1 - (l + ot_bp t q 3) % 2)) 1 (ot_b (q 0)) (nI (q 1)) (nI (ot_bp t q 1)) (nI (q (ot_bp t q 1))) kc ks := by
    refine ot_215 (hq 2 (by omega)) (hq _ (by omega)) ?_
    show wL_lawOf_259 post mc ms (nI (q 0)) (nI (q 1)) (nI (q 2)) (nI (q 3)) (nI l) t 1 (nI (1 - (l + ot_bp t q 3) % 2)) 1 (ot_b (q 0)) (nI (q 1)) (nI (q (ot_bp t q 1))) (nI (ot_bp t q 2)) kc ks
    refine pk_eq (ot_bp t q 2) 2 (fun e => ?_) (fun e => ?_)
    · rw [show nI (q (ot_bp t q 2)) = nI (q 2) by rw [e]] at K
      exact K
    · rcases ot_nx_or t (q 2) (q (ot_bp t q 1)) 2 (ot_bp t q 1) with g | g
      · exact absurd g e
      · rw [show nI (q (ot_bp t q 2)) = nI (q (ot_bp t q 1)) from congrArg (fun k => nI (q k)) g] at K
        exact K
  refine pk_eq (ot_bp t q 1) 1 (fun e => ?_) (fun e => ?_)
  · rw [show nI (q (ot_bp t q 1)) = nI (q 1) by rw [e]] at M
    exact M
  · rw [show nI (q (ot_bp t q 1)) = nI (q 0) by rw [show ot_bp t q 1 = 0 by omega]] at M
    exact M
theorem ot_rem {x y : Int32} {n : Nat} (hx : x = nI n) (hy : x - x / 12 * 12 = y) (hn : n < 2 ^ 31) : y = nI (n % 12) := by
  subst hx
  rw [← hy]
  exact pk_rem (d := 12) hn (by omega) (by omega)
theorem ot_lawOf {post : Int32 → St0 → Prop} {x y : Int32} (h : post 1 ()) : wpL_lawOf post 3202 51216 () x y := by
  obtain ⟨A, hA, eA⟩ : ∃ j, j < 16 ∧ x &&& 15 = nI j := pk_andE x 4 rfl
  obtain ⟨B, hB, eB⟩ : ∃ j, j < 4 ∧ (x >>> ((4 : Int32) &&& 31)) &&& 3 = nI j := pk_andE _ 2 rfl
  obtain ⟨C, hC, eC⟩ : ∃ j, j < 2 ∧ (x >>> ((6 : Int32) &&& 31)) &&& 1 = nI j := pk_andE _ 1 rfl
  obtain ⟨D, hD, eD⟩ : ∃ j, j < 2 ∧ (x >>> ((7 : Int32) &&& 31)) &&& 1 = nI j := pk_andE _ 1 rfl
  obtain ⟨l, hl, el⟩ : ∃ j, j < 4 ∧ y &&& 3 = nI j := pk_andE y 2 rfl
  obtain ⟨E, hE, eE⟩ : ∃ j, j < 4 ∧ (y >>> ((2 : Int32) &&& 31)) &&& 3 = nI j := pk_andE _ 2 rfl
  obtain ⟨a, ea⟩ : ∃ a, a = A % 12 := ⟨_, rfl⟩
  obtain ⟨b, eb⟩ : ∃ b, b = (a + 1 + B) % 12 := ⟨_, rfl⟩
  obtain ⟨c, ec⟩ : ∃ c, c = (b + 1 + C) % 12 := ⟨_, rfl⟩
  obtain ⟨d, ed⟩ : ∃ d, d = (c + 1 + D) % 12 := ⟨_, rfl⟩
  have ha : a < 12 := by omega
  have hb : b < 12 := by omega
  have hc : c < 12 := by omega
  have hd : d < 12 := by omega
  have hq : ∀ i, i < 4 → ot_q a b c d i < 12 := ot_q4 (P := fun k => k < 12) ha hb hc hd
  have fa : (x &&& 15) - (x &&& 15) / 12 * 12 = nI a := by
    rw [eA, ea]
    exact pk_rem (d := 12) (by omega) (by omega) (by omega)
  have fb : ((nI a + 1) + ((x >>> ((4 : Int32) &&& 31)) &&& 3)) - ((nI a + 1) + ((x >>> ((4 : Int32) &&& 31)) &&& 3)) / 12 * 12 = nI b := by
    rw [eB, nI_1, nI_add, eb]
    exact pk_rem (d := 12) (by omega) (by omega) (by omega)
  have fc : ((nI b + 1) + ((x >>> ((6 : Int32) &&& 31)) &&& 1)) - ((nI b + 1) + ((x >>> ((6 : Int32) &&& 31)) &&& 1)) / 12 * 12 = nI c := by
    rw [eC, nI_1, nI_add, ec]
    exact pk_rem (d := 12) (by omega) (by omega) (by omega)
  have fd : ((nI c + 1) + ((x >>> ((7 : Int32) &&& 31)) &&& 1)) - ((nI c + 1) + ((x >>> ((7 : Int32) &&& 31)) &&& 1)) / 12 * 12 = nI d := by
    rw [eD, nI_1, nI_add, ed]
    exact pk_rem (d := 12) (by omega) (by omega) (by omega)
  have ft : ((y >>> ((2 : Int32) &&& 31)) &&& 3) - 1 = nI E - 1 := by rw [eE]
  have n1 : ∀ i, i < 1 → ot_q a b c d i ≠ ot_q a b c d 1 := by
    intro i hi
    rw [show i = 0 by omega]
    show a ≠ b
    omega
  have n2 : ∀ i, i < 2 → ot_q a b c d i ≠ ot_q a b c d 2 := by
    intro i hi
    rcases (show i = 0 ∨ i = 1 by omega) with rfl | rfl
    · show a ≠ c
      omega
    · show b ≠ c
      omega
  have n3 : ∀ i, i < 3 → ot_q a b c d i ≠ ot_q a b c d 3 := by
    intro i hi
    rcases (show i = 0 ∨ i = 1 ∨ i = 2 by omega) with rfl | rfl | rfl
    · show a ≠ d
      omega
    · show b ≠ d
      omega
    · show c ≠ d
      omega
  have p0 : nI l = nI ((l + 0) % 4) := by rw [show (l + 0) % 4 = l by omega]
  refine ⟨by omega, by omega, 3201, 51193, by omega, by omega, ?_⟩
  refine ⟨by omega, by omega, by omega, by omega, by omega, by omega, by omega, by omega, by omega, by omega, by omega, by omega, by omega, by omega, by omega, by omega, by omega, by omega, by omega, by omega, by omega, by omega, by omega, by omega, by omega, by omega, by omega, by omega, ?_⟩
  refine ⟨by decide, nm_r fa ⟨by decide, nm_r fb ⟨by decide, nm_r fc ⟨by decide, nm_r fd (nm_r el (nm_r ft ?_))⟩⟩⟩⟩
  refine ot_deal (q := ot_q a b c d) (m := 0) hl (by omega) hq (fun i hi => absurd hi (by omega)) rfl p0 (fun i _ => (if_neg (by omega)).symm) (fun r b1 b2 h1 => ?_)
  refine ot_deal (q := ot_q a b c d) (m := 1) hl (by omega) hq n1 rfl (ot_mv l 1 (by omega)) h1 (fun r c1 c2 h1 => ?_)
  refine ot_deal (q := ot_q a b c d) (m := 2) hl (by omega) hq n2 rfl (ot_mv l 2 (by omega)) h1 (fun r d1 d2 h1 => ?_)
  refine ot_deal (q := ot_q a b c d) (m := 3) hl (by omega) hq n3 rfl (ot_mv l 3 (by omega)) h1 (fun r e1 e2 h1 => ?_)
  refine ot_start (q := ot_q a b c d) hl hq (ot_t_lo E hE) (ot_t_hi E hE) h1 (fun h2 hh => ?_)
  have s0 : ot_sit (ot_q a b c d) l 0 h2 (fun _ => 0) (fun _ => 0) (fun _ => 0) (fun _ => 0) (fun _ => 0) (fun _ => 0) (fun _ => 0) := ⟨hh, fun i hi => absurd hi (by omega), fun i hi => absurd hi (by omega)⟩
  refine br_f (by decide) (ot_valueNow (n0 := 0) hl (by omega) hq s0 (fun en g2 g3 g4 g5 g6 g7 g8 g9 g10 g11 g12 g13 g14 s1 => ?_))
  refine br_f (by decide) (ot_search (R := 1) (n0 := 0) hl (by omega) hq (Or.inr rfl) (fun z => absurd z (by decide)) (fun _ => rfl) s1 (fun en k2 k3 k4 k5 k6 k7 k8 k9 k10 k11 k12 k13 k14 s2 => ?_))
  refine br_f (by decide) (ot_legalNow (n := 0) hl (by omega) hq s2.1 s2.2.1 ?_)
  refine ot_play (n := 0) hl (by omega) hq s2 (fun r m2 m3 m4 m5 m6 m7 m8 m9 s3 => ?_)
  refine ot_best (n := 1) hl (by omega) hq s3 (fun u => ?_)
  obtain ⟨u1, u2, u3, u4, u5, u6, u7, u8, u9, u10, u11, u12, u13, u14, u15, u16, u17, u18, u19, u20, u21, u22, u23⟩ := u
  have F := @ot_tail post 3202 51216 (1 + 3201) (23 + 51193) l (ot_q a b c d) (nI E - 1) hl hq h
  rw [show ot_bp (nI E - 1) (ot_q a b c d) 1 = ot_nx (nI E - 1) b a 1 0 from rfl] at F
  unfold ot_nx at F
  refine ⟨by decide, by decide, pk_eq (b / 4) (a / 4) (fun e => pk_le b a (fun g => ?_) (fun g => ?_)) (fun e => ⟨by decide, br_c (fun g => ?_) (fun g => ?_)⟩) (ot_d4 hb) (ot_d4 ha) (by omega) (by omega)⟩
  · rw [if_pos e, if_neg (by omega)] at F
    exact F
  · rw [if_pos e, if_pos g] at F
    exact F
  · rw [show nI b / 4 = nI (b / 4) from ot_d4 hb] at g
    rw [if_neg e, if_pos g] at F
    exact F
  · rw [show nI b / 4 = nI (b / 4) from ot_d4 hb] at g
    rw [if_neg e, if_neg g] at F
    exact F
theorem ot_cell {post : Int32 → Prop} {L : Nat} {xs : Nat → Int32} (hL : L ≤ 2) {p : Int32} (k : Nat) (hk : k < 2) (hp : p = nI k) (H : ∀ r, post r) : wpL_cellAt post L xs () p := by
  subst hp
  exact pk_le L k (fun _ => H _) (fun z => ⟨pk_in k L z, H _⟩)
theorem i_vc (xs : Nat → Int32) (L : Nat) (hL : L ≤ 2) : wpL_law (fun r => r = 1) L xs := by
  unfold wpL_law
  exact ot_cell hL 0 (by omega) rfl (fun x => ot_cell hL 1 (by omega) rfl (fun y => ⟨3202, 51216, by omega, by omega, ot_lawOf rfl⟩))
end
