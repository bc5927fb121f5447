section
/-- bit k of a set of positions -/
def pg_bt (x : Int32) (k : Nat) : Bool := decide (((x >>> (nI k &&& 31)) &&& 1) = 1)
/-- position k alone, as the program makes it -/
def pg_b (k : Nat) : Int32 := (1 : Int32) <<< (nI k &&& 31)
/-- the one position that may differ, and all the others -/
def pg_Q (q : Nat) : Int32 := nI (2 ^ q)
def pg_R (q : Nat) : Int32 := nI (255 - 2 ^ q)
/-- bits or-ed to s where P says so -/
def pg_acc (s : Int32) (P : Nat → Bool) : Nat → Int32
  | 0 => s
  | i + 1 => if P i = true then pg_acc s P i ||| pg_b i else pg_acc s P i
theorem pg_acc_t {s : Int32} {P : Nat → Bool} {i : Nat} (h : P i = true) : pg_acc s P (i + 1) = pg_acc s P i ||| pg_b i := if_pos h
theorem pg_acc_f {s : Int32} {P : Nat → Bool} {i : Nat} (h : ¬ P i = true) : pg_acc s P (i + 1) = pg_acc s P i := if_neg h
theorem pg_acc_c {s : Int32} {P P' : Nat → Bool} : ∀ i, (∀ k, k < i → P k = P' k) → pg_acc s P i = pg_acc s P' i
  | 0, _ => rfl
  | i + 1, h => by
    show (if P i = true then pg_acc s P i ||| pg_b i else pg_acc s P i) = (if P' i = true then pg_acc s P' i ||| pg_b i else pg_acc s P' i)
    rw [pg_acc_c i (fun k hk => h k (by omega)), h i (by omega)]
theorem pg_acc_id {s : Int32} {P : Nat → Bool} : ∀ i, (∀ k, k < i → P k = true → s ||| pg_b k = s) → pg_acc s P i = s
  | 0, _ => rfl
  | i + 1, h => by
    have ih := pg_acc_id (s := s) (P := P) i (fun k hk => h k (by omega))
    by_cases e : P i = true
    · rw [pg_acc_t e, ih]
      exact h i (by omega) e
    · rw [pg_acc_f e, ih]
theorem pg_acc_q {s t : Int32} {P : Nat → Bool} {q : Nat} (h1 : ∀ k, k < 8 → k ≠ q → s ||| pg_b k = s) (h2 : s ||| pg_b q = t) (h3 : ∀ k, k < 8 → t ||| pg_b k = t) :
    ∀ i, i ≤ 8 → pg_acc s P i = if q < i ∧ P q = true then t else s
  | 0, _ => (if_neg (fun h => absurd h.1 (by omega))).symm
  | i + 1, hi => by
    have ih := pg_acc_q (P := P) h1 h2 h3 i (by omega)
    by_cases e : P i = true
    · rw [pg_acc_t e, ih]
      by_cases g : i = q
      · subst g
        rw [if_neg (fun h => absurd h.1 (by omega)), if_pos ⟨by omega, e⟩]
        exact h2
      · by_cases g2 : q < i ∧ P q = true
        · rw [if_pos g2, if_pos ⟨by omega, g2.2⟩]
          exact h3 i (by omega)
        · rw [if_neg g2, if_neg (fun h => g2 ⟨by omega, h.2⟩)]
          exact h1 i (by omega) g
    · rw [pg_acc_f e, ih]
      by_cases g2 : q < i ∧ P q = true
      · rw [if_pos g2, if_pos ⟨by omega, g2.2⟩]
      · rw [if_neg g2, if_neg (fun h => ?_)]
        by_cases g : i = q
        · subst g
          exact e h.2
        · exact g2 ⟨by omega, h.2⟩
theorem pg_acc_q8 {s t : Int32} {P : Nat → Bool} {q : Nat} (hq : q < 8) (h1 : ∀ k, k < 8 → k ≠ q → s ||| pg_b k = s) (h2 : s ||| pg_b q = t) (h3 : ∀ k, k < 8 → t ||| pg_b k = t) :
    pg_acc s P 8 = if P q = true then t else s := by
  rw [pg_acc_q h1 h2 h3 8 (by omega)]
  by_cases g : P q = true
  · rw [if_pos ⟨hq, g⟩, if_pos g]
  · rw [if_neg (fun h => g h.2), if_neg g]
theorem pg_eRk : ∀ q, q < 8 → ∀ k, k < 8 → k ≠ q → pg_R q ||| pg_b k = pg_R q := by decide +kernel
theorem pg_eRq : ∀ q, q < 8 → pg_R q ||| pg_b q = 255 := by decide +kernel
theorem pg_e255 : ∀ k, k < 8 → (255 : Int32) ||| pg_b k = 255 := by decide +kernel
theorem pg_eQ : ∀ q, q < 8 → pg_Q q ||| pg_b q = pg_Q q := by decide +kernel
theorem pg_t255 : ∀ k, k < 8 → pg_bt 255 k = true := by decide +kernel
theorem pg_tR : ∀ q, q < 8 → ∀ k, k < 8 → pg_bt (pg_R q) k = decide (k ≠ q) := by decide +kernel
theorem pg_tQ : ∀ q, q < 8 → ∀ k, k < 8 → pg_bt (pg_Q q) k = decide (k = q) := by decide +kernel
theorem pg_a255 : pg_acc 0 (fun _ => true) 8 = 255 := by decide +kernel
theorem pg_aQ : ∀ q, q < 8 → pg_acc 0 (fun k => decide (k = q)) 8 = pg_Q q := by decide +kernel
theorem pg_aR : ∀ q, q < 8 → pg_acc 0 (fun k => decide (k ≠ q)) 8 = pg_R q := by decide +kernel
theorem pg_nQ : ∀ q, q < 8 → (255 : Int32) &&& (pg_Q q ^^^ (-1)) = pg_R q := by decide +kernel
theorem pg_nR : ∀ q, q < 8 → (255 : Int32) &&& (pg_R q ^^^ (-1)) = pg_Q q := by decide +kernel
theorem pg_zQ : ∀ q, q < 8 → pg_Q q &&& (pg_Q q ^^^ (-1)) = 0 := by decide +kernel
theorem pg_zR : ∀ q, q < 8 → pg_R q &&& (pg_R q ^^^ (-1)) = 0 := by decide +kernel
theorem pg_z255 : (255 : Int32) &&& (255 ^^^ (-1)) = 0 := by decide +kernel
theorem pg_n0Q : ∀ q, q < 8 → ¬ pg_Q q = 0 := by decide +kernel
theorem pg_n0R : ∀ q, q < 8 → ¬ pg_R q = 0 := by decide +kernel
theorem pg_n255 : ¬ (255 : Int32) = 0 := by decide +kernel
theorem pg_nR255 : ∀ q, q < 8 → ¬ (255 : Int32) = pg_R q := by decide +kernel
theorem pg_wQ : ∀ q, q < 8 → (pg_Q q >>> (nI q &&& 31)) &&& 1 = 1 := by decide +kernel
theorem pg_w0 : ∀ q, q < 8 → ((0 : Int32) >>> (nI q &&& 31)) &&& 1 = 0 := by decide +kernel
theorem pg_and1 : ∀ m, m < 6 → nI m &&& 1 = nI (m % 2) := by decide +kernel
theorem pg_rem2 : ∀ m, m < 6 → (nI m - nI m / 2 * 2 = 1 ↔ m % 2 = 1) := by decide +kernel
theorem pg_1s : ∀ p, p < 2 → (1 : Int32) - nI p = nI (1 - p) := by decide +kernel
/-- the owner of k, and the moves of k that stay in a set -/
def pg_o (w : Int32) (k : Nat) : Int32 := (w >>> (nI k &&& 31)) &&& 1
def pg_op (a2 a3 : Nat → Int32) (x3 : Int32) (k : Nat) : Int32 := (((1 : Int32) <<< ((a2 k) &&& 31)) ||| ((1 : Int32) <<< ((a3 k) &&& 31))) &&& x3
/-- what one pass of 'forced' asks of k -/
def pg_c (w : Int32) (a2 a3 : Nat → Int32) (x1 x3 x5 : Int32) (k : Nat) : Bool :=
  pg_bt x3 k && decide ((pg_o w k = x1 ∧ ¬ (pg_op a2 a3 x3 k &&& x5) = 0) ∨ (¬ pg_o w k = x1 ∧ (pg_op a2 a3 x3 k &&& (x5 ^^^ (-1))) = 0))
/-- the game: all but q loop on themselves with colour 0 and belong to player 0 -/
def pg_P (q o c f s : Nat) (w : Int32) (a1 a2 a3 : Nat → Int32) : Prop :=
  q < 8 ∧ o < 2 ∧ c < 6 ∧ f < 8 ∧ s < 8 ∧ w = nI (o * 2 ^ q) ∧ (∀ k, k < 8 → a1 k = nI (if k = q then c else 0)) ∧ (∀ k, k < 8 → a2 k = nI (if k = q then f else k)) ∧ (∀ k, k < 8 → a3 k = nI (if k = q then s else k))
/-- player 1 wins at q -/
def pg_lose (q o c f s : Nat) : Bool := decide (c % 2 = 1 ∧ ((f = q ∧ s = q) ∨ (o = 1 ∧ (f = q ∨ s = q))))
theorem pg_ow : ∀ q, q < 8 → ∀ o, o < 2 → ∀ k, k < 8 → pg_o (nI (o * 2 ^ q)) k = nI (if k = q then o else 0) := by decide +kernel
theorem pg_opk : ∀ q, q < 8 → ∀ k, k < 8 → k ≠ q → ((((1 : Int32) <<< ((nI k) &&& 31)) ||| ((1 : Int32) <<< ((nI k) &&& 31))) &&& 255) &&& pg_Q q = 0 ∧ ¬ ((((1 : Int32) <<< ((nI k) &&& 31)) ||| ((1 : Int32) <<< ((nI k) &&& 31))) &&& 255) &&& (pg_Q q ^^^ (-1)) = 0 := by decide +kernel
theorem pg_opR : ∀ q, q < 8 → ∀ f, f < 8 → ∀ s, s < 8 → (((((1 : Int32) <<< ((nI f) &&& 31)) ||| ((1 : Int32) <<< ((nI s) &&& 31))) &&& 255) &&& pg_R q = 0 ↔ (f = q ∧ s = q)) := by decide +kernel
theorem pg_opN : ∀ q, q < 8 → ∀ f, f < 8 → ∀ s, s < 8 → (((((1 : Int32) <<< ((nI f) &&& 31)) ||| ((1 : Int32) <<< ((nI s) &&& 31))) &&& 255) &&& (pg_R q ^^^ (-1)) = 0 ↔ (¬ f = q ∧ ¬ s = q)) := by decide +kernel
/-- from {q} nothing else is forced -/
theorem pg_cQ {q o c f s : Nat} {w : Int32} {a1 a2 a3 : Nat → Int32} (h : pg_P q o c f s w a1 a2 a3) (x1 : Int32) {k : Nat} (hk : k < 8) (hq : k ≠ q) : ¬ pg_c w a2 a3 x1 255 (pg_Q q) k = true := by
  obtain ⟨h0, ho, hc, hf, hs, rfl, g1, g2, g3⟩ := h
  have e : pg_op a2 a3 255 k = (((1 : Int32) <<< ((nI k) &&& 31)) ||| ((1 : Int32) <<< ((nI k) &&& 31))) &&& 255 := by
    unfold pg_op
    rw [g2 k hk, g3 k hk, if_neg hq, if_neg hq]
  intro z
  unfold pg_c at z
  rw [Bool.and_eq_true] at z
  have z2 := of_decide_eq_true z.2
  rw [e] at z2
  rcases z2 with t | t
  · exact t.2 (pg_opk q h0 k hk hq).1
  · exact (pg_opk q h0 k hk hq).2 t.2
/-- whether q is forced into all the others by player 0 -/
theorem pg_cR {q o c f s : Nat} {w : Int32} {a1 a2 a3 : Nat → Int32} (h : pg_P q o c f s w a1 a2 a3) (h1 : c % 2 = 1) : pg_c w a2 a3 0 255 (pg_R q) q = !(pg_lose q o c f s) := by
  obtain ⟨h0, ho, hc, hf, hs, rfl, g1, g2, g3⟩ := h
  have e : pg_op a2 a3 255 q = (((1 : Int32) <<< ((nI f) &&& 31)) ||| ((1 : Int32) <<< ((nI s) &&& 31))) &&& 255 := by
    unfold pg_op
    rw [g2 q h0, g3 q h0, if_pos rfl, if_pos rfl]
  have e2 : pg_o (nI (o * 2 ^ q)) q = nI o := by
    rw [pg_ow q h0 o ho q h0, if_pos rfl]
  have k1 := pg_opR q h0 f hf s hs
  have k2 := pg_opN q h0 f hf s hs
  unfold pg_c
  rw [pg_t255 q h0, Bool.true_and, e, e2]
  have d : ((nI o = 0 ∧ ¬ (((((1 : Int32) <<< ((nI f) &&& 31)) ||| ((1 : Int32) <<< ((nI s) &&& 31))) &&& 255) &&& pg_R q) = 0) ∨ (¬ nI o = 0 ∧ (((((1 : Int32) <<< ((nI f) &&& 31)) ||| ((1 : Int32) <<< ((nI s) &&& 31))) &&& 255) &&& (pg_R q ^^^ (-1))) = 0)) ↔ ¬ (c % 2 = 1 ∧ ((f = q ∧ s = q) ∨ (o = 1 ∧ (f = q ∨ s = q)))) := by
    rw [k1, k2]
    have : o = 0 ∨ o = 1 := by omega
    rcases this with rfl | rfl
    · have n0 : nI 0 = 0 := nI_0
      constructor
      · rintro (t | t)
        · intro u
          rcases u.2 with u | u
          · exact t.2 u
          · exact absurd u.1 (by omega)
        · exact absurd n0 t.1
      · intro t
        exact Or.inl ⟨n0, fun u => t ⟨h1, Or.inl u⟩⟩
    · have n1 : ¬ nI 1 = 0 := by decide
      constructor
      · rintro (t | t)
        · exact absurd t.1 n1
        · intro u
          rcases u.2 with u | u
          · exact t.2.1 u.1
          · rcases u.2 with u | u
            · exact t.2.1 u
            · exact t.2.2 u
      · intro t
        exact Or.inr ⟨n1, fun u => t ⟨h1, Or.inr ⟨rfl, Or.inl u⟩⟩, fun u => t ⟨h1, Or.inr ⟨rfl, Or.inr u⟩⟩⟩
  unfold pg_lose
  rw [decide_eq_decide.mpr d, decide_not]
end
section
section
variable {post : Int32 → Prop} {w d : Int32} {a1 a2 a3 a4 a5 a6 a7 a8 : Nat → Int32}
/-- the greatest colour of a set -/
def pg_m (q c : Nat) (x : Int32) : Nat := if pg_bt x q = true then c else 0
theorem pg_m6 {q c : Nat} {x : Int32} (hc : c < 6) : pg_m q c x < 6 := by
  unfold pg_m
  by_cases e : pg_bt x q = true
  · rw [if_pos e]
    exact hc
  · rw [if_neg e]
    omega
theorem pg_gr {q o c f s : Nat} {x : Int32} (h : pg_P q o c f s w a1 a2 a3) (H : post (nI (pg_m q c x))) : wpX_greatest post (w, d, a1, a2, a3, a4, a5, a6, a7, a8) x := by
  obtain ⟨h0, ho, hc, hf, hs, hw, g1, g2, g3⟩ := h
  have m6 : pg_m q c x < 6 := pg_m6 hc
  refine pk_loop (σ := Int32) (fun n i s => wX_greatest_4 post x w d a1 a2 a3 a4 a5 a6 a7 a8 n s (nI i)) (fun i s => s = nI (if q < i then pg_m q c x else 0)) 8 0 0 (by omega) (by rw [if_neg (by omega)]; rfl) ?_ ?_
  · intro n s h
    rw [if_pos h0] at h
    subst h
    exact pk_le 8 8 (fun _ => H) (fun z => absurd z (by omega))
  · intro n i s hi h hw
    subst h
    refine pk_le 8 i (fun z => absurd z (by omega)) (fun _ => br_c (fun hb => ⟨pk_in i 8 hi, ?_⟩) (fun hb => nm_r (nI_1 i) (hw _ ?_)))
    · rw [nI_clamp (show i < 2 ^ 31 by omega), g1 i hi]
      by_cases e : i = q
      · subst e
        have eb : pg_m i c x = c := if_pos (decide_eq_true hb)
        rw [if_pos rfl, if_neg (Nat.lt_irrefl i)]
        refine pk_le c 0 (fun z => nm_r (nI_1 i) (hw _ ?_)) (fun z => ⟨pk_in i 8 hi, nm_e (nm_r (nI_1 i) (hw _ ?_))⟩)
        · rw [if_pos (Nat.lt_succ_self i), eb]
          rw [show c = 0 by omega]
        · rw [if_pos (Nat.lt_succ_self i), eb]
      · rw [if_neg e]
        have le : nI 0 ≤ nI (if q < i then pg_m q c x else 0) := nI_le (Nat.zero_le _) (by split <;> omega)
        refine br_t le (nm_r (nI_1 i) (hw _ ?_))
        by_cases g : q < i
        · rw [if_pos g, if_pos (by omega)]
        · rw [if_neg g, if_neg (by omega)]
    · by_cases e : i = q
      · subst e
        have eb : pg_m i c x = 0 := if_neg (fun z => hb (of_decide_eq_true z))
        rw [if_neg (Nat.lt_irrefl i), if_pos (Nat.lt_succ_self i), eb]
      · by_cases g : q < i
        · rw [if_pos g, if_pos (by omega)]
        · rw [if_neg g, if_neg (by omega)]
theorem pg_wc {x col : Int32} (H : post (pg_acc 0 (fun k => pg_bt x k && decide (a1 k = col)) 8)) : wpX_withColour post (w, d, a1, a2, a3, a4, a5, a6, a7, a8) x col := by
  refine pk_loop (σ := Int32) (fun n i s => wX_withColour_5 post x col w d a1 a2 a3 a4 a5 a6 a7 a8 n s (nI i)) (fun i s => s = pg_acc 0 (fun k => pg_bt x k && decide (a1 k = col)) i) 8 0 0 (by omega) rfl ?_ ?_
  · intro n s h
    subst h
    exact pk_le 8 8 (fun _ => H) (fun z => absurd z (by omega))
  · intro n i s hi h hw
    subst h
    refine pk_le 8 i (fun z => absurd z (by omega)) (fun _ => br_c (fun hb => ⟨pk_in i 8 hi, ?_⟩) (fun hb => nm_r (nI_1 i) (hw _ ?_)))
    · rw [nI_clamp (show i < 2 ^ 31 by omega)]
      refine br_c (fun he => nm_e (nm_r (nI_1 i) (hw _ ?_))) (fun he => nm_r (nI_1 i) (hw _ ?_))
      · have t : (pg_bt x i && decide (a1 i = col)) = true := by
          rw [Bool.and_eq_true]
          exact ⟨decide_eq_true hb, decide_eq_true he⟩
        exact (pg_acc_t (P := fun k => pg_bt x k && decide (a1 k = col)) t).symm
      · have t : ¬ (pg_bt x i && decide (a1 i = col)) = true := by
          rw [Bool.and_eq_true]
          exact fun z => he (of_decide_eq_true z.2)
        exact (pg_acc_f (P := fun k => pg_bt x k && decide (a1 k = col)) t).symm
    · have t : ¬ (pg_bt x i && decide (a1 i = col)) = true := by
        rw [Bool.and_eq_true]
        exact fun z => hb (of_decide_eq_true z.1)
      exact (pg_acc_f (P := fun k => pg_bt x k && decide (a1 k = col)) t).symm
theorem pg_mv {i : Nat} (hi : i < 8) (H : post (((1 : Int32) <<< ((a2 i) &&& 31)) ||| ((1 : Int32) <<< ((a3 i) &&& 31)))) : wpX_moves post (w, d, a1, a2, a3, a4, a5, a6, a7, a8) (nI i) := by
  unfold wpX_moves
  dsimp only
  rw [nI_clamp (show i < 2 ^ 31 by omega)]
  exact ⟨pk_in i 8 hi, pk_in i 8 hi, H⟩
theorem pg_119 {J9 : Int32 → Int32 → Int32 → Prop} {J30 : Int32 → Int32 → Prop} {x1 x3 x4 x5 x6 : Int32} {i : Nat} (H : J30 (x4 ||| pg_b i) (nI (i + 1))) : wX_forced_119 post J9 J30 x1 x3 x4 x5 x6 (nI i) w d a1 a2 a3 a4 a5 a6 a7 a8 := by
  unfold wX_forced_119
  exact nm_e (nm_r (nI_1 i) H)
theorem pg_104 {J9 : Int32 → Int32 → Int32 → Prop} {J30 : Int32 → Int32 → Prop} {x1 x3 x4 x5 x6 x10 : Int32} {i : Nat} (hA : ¬ pg_o w i = x1 ∧ ¬ x10 = 0 → J30 (x4 ||| pg_b i) (nI (i + 1))) (hB : ¬ (¬ pg_o w i = x1 ∧ ¬ x10 = 0) → J30 x4 (nI (i + 1))) :
    wX_forced_104 post J9 J30 x1 x3 x4 x5 x6 (nI i) x10 w d a1 a2 a3 a4 a5 a6 a7 a8 := by
  unfold wX_forced_104 wpX_owner
  dsimp only
  exact br_c (fun h => nm_r (nI_1 i) (hB (fun t => t.1 h))) (fun h => br_c (fun g => nm_r (nI_1 i) (hB (fun t => t.2 g))) (fun g => pg_119 (hA ⟨h, g⟩)))
theorem pg_87 {J9 : Int32 → Int32 → Int32 → Prop} {J30 : Int32 → Int32 → Prop} {x1 x3 x4 x5 x6 x9 z0 : Int32} {i : Nat} (hA : (pg_o w i = x1 ∧ ¬ x9 = 0) ∨ (¬ pg_o w i = x1 ∧ ¬ z0 = 0) → J30 (x4 ||| pg_b i) (nI (i + 1))) (hB : ¬ ((pg_o w i = x1 ∧ ¬ x9 = 0) ∨ (¬ pg_o w i = x1 ∧ ¬ z0 = 0)) → J30 x4 (nI (i + 1))) :
    wX_forced_87 post J9 J30 x1 x3 x4 x5 x6 (nI i) x9 z0 w d a1 a2 a3 a4 a5 a6 a7 a8 := by
  unfold wX_forced_87 wpX_owner
  dsimp only
  refine br_c (fun h => br_c (fun g => pg_104 (fun t => absurd h t.1) (fun _ => hB (fun t => ?_))) (fun g => pg_119 (hA (Or.inl ⟨h, g⟩)))) (fun h => pg_104 (fun t => hA (Or.inr t)) (fun t => hB (fun u => ?_)))
  · rcases t with t | t
    · exact t.2 g
    · exact t.1 h
  · rcases u with u | u
    · exact h u.1
    · exact t u
theorem pg_70 {J9 : Int32 → Int32 → Int32 → Prop} {J30 : Int32 → Int32 → Prop} {x1 x3 x4 x5 x6 x8 z0 : Int32} {i : Nat} (hA : (pg_o w i = x1 ∧ ¬ z0 = 0) ∨ (¬ pg_o w i = x1 ∧ (x8 &&& (x5 ^^^ (-1))) = 0) → J30 (x4 ||| pg_b i) (nI (i + 1))) (hB : ¬ ((pg_o w i = x1 ∧ ¬ z0 = 0) ∨ (¬ pg_o w i = x1 ∧ (x8 &&& (x5 ^^^ (-1))) = 0)) → J30 x4 (nI (i + 1))) :
    wX_forced_70 post J9 J30 x1 x3 x4 x5 x6 (nI i) x8 z0 w d a1 a2 a3 a4 a5 a6 a7 a8 := by
  unfold wX_forced_70
  refine br_c (fun h => pg_87 (fun t => hA ?_) (fun t => hB ?_)) (fun h => pg_87 (fun t => hA ?_) (fun t => hB ?_))
  · exact t.imp id (fun u => ⟨u.1, h⟩)
  · exact fun u => t (u.imp id (fun v => ⟨v.1, by decide⟩))
  · rcases t with t | t
    · exact Or.inl t
    · exact absurd rfl t.2
  · intro u
    rcases u with u | u
    · exact t (Or.inl u)
    · exact h u.2
theorem pg_f30 {J9 : Int32 → Int32 → Int32 → Prop} {x1 x3 x5 x6 : Int32} (H : J9 (pg_acc x5 (pg_c w a2 a3 x1 x3 x5) 8) x5 (x6 + 1)) : ∃ n, wX_forced_30 post J9 x1 x3 x5 x6 w d a1 a2 a3 a4 a5 a6 a7 a8 n x5 0 := by
  refine pk_loop (σ := Int32) (fun n i s => wX_forced_30 post J9 x1 x3 x5 x6 w d a1 a2 a3 a4 a5 a6 a7 a8 n s (nI i)) (fun i s => s = pg_acc x5 (pg_c w a2 a3 x1 x3 x5) i) 8 0 x5 (by omega) rfl ?_ ?_
  · intro n s h
    subst h
    exact pk_le 8 8 (fun _ => nm_e H) (fun z => absurd z (by omega))
  · intro n i s hi h hw
    subst h
    refine pk_le 8 i (fun z => absurd z (by omega)) (fun _ => br_c (fun hb => pg_mv hi (nm_e ?_)) (fun hb => nm_r (nI_1 i) (hw _ ?_)))
    · have key : ∀ z0 : Int32, (z0 = 0 ↔ pg_op a2 a3 x3 i &&& x5 = 0) → wX_forced_70 post J9 (wX_forced_30 post J9 x1 x3 x5 x6 w d a1 a2 a3 a4 a5 a6 a7 a8 n) x1 x3 (pg_acc x5 (pg_c w a2 a3 x1 x3 x5) i) x5 x6 (nI i) (pg_op a2 a3 x3 i) z0 w d a1 a2 a3 a4 a5 a6 a7 a8 := by
        intro z0 hz
        refine pg_70 (fun t => hw _ ?_) (fun t => hw _ ?_)
        · have g : pg_c w a2 a3 x1 x3 x5 i = true := by
            unfold pg_c
            rw [Bool.and_eq_true]
            exact ⟨decide_eq_true hb, decide_eq_true (t.imp (fun u => ⟨u.1, fun v => u.2 (hz.mpr v)⟩) id)⟩
          exact (pg_acc_t g).symm
        · have g : ¬ pg_c w a2 a3 x1 x3 x5 i = true := by
            unfold pg_c
            rw [Bool.and_eq_true]
            exact fun z => t ((of_decide_eq_true z.2).imp (fun u => ⟨u.1, fun v => u.2 (hz.mp v)⟩) id)
          exact (pg_acc_f g).symm
      exact br_c (fun h => key 0 (iff_of_true rfl h)) (fun h => key 1 (iff_of_false (by decide) h))
    · have g : ¬ pg_c w a2 a3 x1 x3 x5 i = true := by
        unfold pg_c
        rw [Bool.and_eq_true]
        exact fun z => hb (of_decide_eq_true z.1)
      exact (pg_acc_f g).symm
/-- one pass adds nothing -/
theorem pg_fo1 {pl t am : Int32} (ht : ¬ t = 0) (ha : pg_acc t (pg_c w a2 a3 pl am t) 8 = t) (H : post t) : wpX_forced post (w, d, a1, a2, a3, a4, a5, a6, a7, a8) pl t am := by
  have k : ∀ n, wX_forced_9 post pl am w d a1 a2 a3 a4 a5 a6 a7 a8 (n + 1 + 1) t 0 0 := by
    intro n
    refine pk_lt 8 0 (fun z => absurd z (by omega)) (fun _ => br_f ht (pg_f30 ?_))
    rw [ha]
    exact pk_lt 8 1 (fun z => absurd z (by omega)) (fun _ => br_t rfl H)
  exact ⟨_, k 0⟩
/-- one pass adds something, the next nothing -/
theorem pg_fo2 {pl t t2 am : Int32} (ht : ¬ t = 0) (ha : pg_acc t (pg_c w a2 a3 pl am t) 8 = t2) (h2 : ¬ t2 = t) (hb : pg_acc t2 (pg_c w a2 a3 pl am t2) 8 = t2) (H : post t2) : wpX_forced post (w, d, a1, a2, a3, a4, a5, a6, a7, a8) pl t am := by
  have k : ∀ n, wX_forced_9 post pl am w d a1 a2 a3 a4 a5 a6 a7 a8 (n + 1 + 1 + 1) t 0 0 := by
    intro n
    refine pk_lt 8 0 (fun z => absurd z (by omega)) (fun _ => br_f ht (pg_f30 ?_))
    rw [ha]
    refine pk_lt 8 1 (fun z => absurd z (by omega)) (fun _ => br_f h2 (pg_f30 ?_))
    rw [hb]
    exact pk_lt 8 2 (fun z => absurd z (by omega)) (fun _ => br_t rfl H)
  exact ⟨_, k 0⟩
/-- a set forces itself -/
theorem pg_foS {pl t : Int32} (ht : ¬ t = 0) (hf : ∀ k, k < 8 → pg_bt t k = true → t ||| pg_b k = t) (H : post t) : wpX_forced post (w, d, a1, a2, a3, a4, a5, a6, a7, a8) pl t t := by
  refine pg_fo1 ht (pg_acc_id 8 (fun k hk hc => hf k hk ?_)) H
  unfold pg_c at hc
  rw [Bool.and_eq_true] at hc
  exact hc.1
theorem pg_foQ {q o c f s : Nat} (h : pg_P q o c f s w a1 a2 a3) {pl : Int32} (H : post (pg_Q q)) : wpX_forced post (w, d, a1, a2, a3, a4, a5, a6, a7, a8) pl (pg_Q q) 255 := by
  refine pg_fo1 (pg_n0Q q h.1) (pg_acc_id 8 (fun k hk hc => ?_)) H
  by_cases e : k = q
  · rw [e]
    exact pg_eQ q h.1
  · exact absurd hc (pg_cQ h pl hk e)
theorem pg_foR {q o c f s : Nat} (h : pg_P q o c f s w a1 a2 a3) (hc : c % 2 = 1) (H : post (if pg_lose q o c f s = true then pg_R q else 255)) : wpX_forced post (w, d, a1, a2, a3, a4, a5, a6, a7, a8) 0 (pg_R q) 255 := by
  have a := pg_acc_q8 (P := pg_c w a2 a3 0 255 (pg_R q)) h.1 (pg_eRk q h.1) (pg_eRq q h.1) pg_e255
  rw [pg_cR h hc] at a
  by_cases g : pg_lose q o c f s = true
  · rw [if_pos g] at H
    refine pg_fo1 (pg_n0R q h.1) ?_ H
    rw [a, g]
    rfl
  · rw [if_neg g] at H
    refine pg_fo2 (pg_n0R q h.1) (t2 := 255) ?_ (pg_nR255 q h.1) (pg_acc_id 8 (fun k hk _ => pg_e255 k hk)) H
    have g' : pg_lose q o c f s = false := by
      cases e : pg_lose q o c f s
      · rfl
      · exact absurd e g
    rw [a, g']
    rfl
end
end
section
section
variable {post : St2 → Prop} {w : Int32} {a1 a2 a3 a4 a5 a6 a7 a8 : Nat → Int32}
theorem pg_push {d : Nat} {v : Int32} (hd : d < 12) (H : post (w, nI (d + 1), a1, a2, a3, upd a4 d v, upd a5 d 0, a6, a7, a8)) : wpX_push post (w, nI d, a1, a2, a3, a4, a5, a6, a7, a8) v := by
  unfold wpX_push
  dsimp only
  rw [nI_clamp (show d < 2 ^ 31 by omega)]
  exact ⟨pk_in d 12 hd, nm_e ⟨pk_in d 12 hd, nm_e (nm_r (nI_1 d) H)⟩⟩
theorem pg_begin0 {d : Nat} (hd : d < 12) (h4 : a4 d = 0) (H : post (w, nI d, a1, a2, a3, a4, a5, a6, upd (upd a7 0 0) 1 0, a8)) : wpX_begin post (w, nI (d + 1), a1, a2, a3, a4, a5, a6, a7, a8) (nI d) := by
  unfold wpX_begin
  dsimp only
  rw [nI_clamp (show d < 2 ^ 31 by omega)]
  exact ⟨pk_in d 12 hd, nm_r h4 (br_t rfl (nm_e (nm_e (nm_r (nI_pred d) H))))⟩
theorem pg_begin1 {q o c f s d : Nat} {set top aside : Int32} (h : pg_P q o c f s w a1 a2 a3) (hd : d + 1 < 12) (h4 : a4 d = set) (hs : ¬ set = 0)
    (ht : pg_acc 0 (fun k => pg_bt set k && decide (a1 k = nI (pg_m q c set))) 8 = top)
    (hf : ∀ P : Int32 → Prop, P aside → wpX_forced P (w, nI (d + 1), a1, a2, a3, a4, a5, a6, a7, a8) (nI (pg_m q c set) &&& 1) top set)
    (H : post (w, nI (d + 1 + 1), a1, a2, a3, upd a4 (d + 1) (set &&& (aside ^^^ (-1))), upd (upd a5 d 1) (d + 1) 0, a6, a7, a8)) :
    wpX_begin post (w, nI (d + 1), a1, a2, a3, a4, a5, a6, a7, a8) (nI d) := by
  unfold wpX_begin
  dsimp only
  rw [nI_clamp (show d < 2 ^ 31 by omega)]
  refine ⟨pk_in d 12 (by omega), nm_r h4 (br_f hs (pg_gr h (pg_wc ?_)))⟩
  rw [ht]
  exact hf _ ⟨pk_in d 12 (by omega), nm_e (pg_push hd H)⟩
theorem pg_goOn0 {q o c f s d : Nat} {set : Int32} (h : pg_P q o c f s w a1 a2 a3) (hd : d < 12) (h4 : a4 d = set) (h7 : a7 (1 - pg_m q c set % 2) = 0)
    (H : post (w, nI d, a1, a2, a3, a4, a5, a6, upd a7 (pg_m q c set % 2) set, a8)) :
    wpX_goOn post (w, nI (d + 1), a1, a2, a3, a4, a5, a6, a7, a8) (nI d) := by
  have m6 : pg_m q c set < 6 := pg_m6 h.2.2.1
  have m2 : pg_m q c set % 2 < 2 := Nat.mod_lt _ (by omega)
  unfold wpX_goOn
  dsimp only
  rw [nI_clamp (show d < 2 ^ 31 by omega)]
  refine ⟨pk_in d 12 hd, nm_r h4 (pg_gr h (nm_r (pg_and1 _ m6) ?_))⟩
  rw [pg_1s _ m2, nI_clamp (show 1 - pg_m q c set % 2 < 2 ^ 31 by omega), nI_clamp (show pg_m q c set % 2 < 2 ^ 31 by omega)]
  exact ⟨pk_in (1 - pg_m q c set % 2) 2 (by omega), nm_r h7 (br_t rfl ⟨pk_in _ 2 m2, nm_e (nm_r (nI_pred d) H)⟩)⟩
theorem pg_goOn1 {q o c f s d : Nat} {set lost away : Int32} (h : pg_P q o c f s w a1 a2 a3) (hd : d + 1 < 12) (h4 : a4 d = set) (h7 : a7 (1 - pg_m q c set % 2) = lost) (hl : ¬ lost = 0)
    (hf : ∀ P : Int32 → Prop, P away → wpX_forced P (w, nI (d + 1), a1, a2, a3, a4, a5, a6, a7, a8) (nI (1 - pg_m q c set % 2)) lost set)
    (H : post (w, nI (d + 1 + 1), a1, a2, a3, upd a4 (d + 1) (set &&& (away ^^^ (-1))), upd (upd a5 d 2) (d + 1) 0, upd a6 d away, a7, a8)) :
    wpX_goOn post (w, nI (d + 1), a1, a2, a3, a4, a5, a6, a7, a8) (nI d) := by
  have m6 : pg_m q c set < 6 := pg_m6 h.2.2.1
  have m2 : pg_m q c set % 2 < 2 := Nat.mod_lt _ (by omega)
  unfold wpX_goOn
  dsimp only
  rw [nI_clamp (show d < 2 ^ 31 by omega)]
  refine ⟨pk_in d 12 (by omega), nm_r h4 (pg_gr h (nm_r (pg_and1 _ m6) ?_))⟩
  rw [pg_1s _ m2, nI_clamp (show 1 - pg_m q c set % 2 < 2 ^ 31 by omega)]
  exact ⟨pk_in (1 - pg_m q c set % 2) 2 (by omega), nm_r h7 (br_f hl (hf _ ⟨pk_in d 12 (by omega), nm_e ⟨pk_in d 12 (by omega), nm_e (pg_push hd H)⟩⟩))⟩
theorem pg_fin {q o c f s d : Nat} {set : Int32} (h : pg_P q o c f s w a1 a2 a3) (hd : d < 12) (h4 : a4 d = set)
    (H : post (w, nI d, a1, a2, a3, a4, a5, a6, upd a7 (1 - pg_m q c set % 2) (a7 (1 - pg_m q c set % 2) ||| a6 d), a8)) :
    wpX_finish post (w, nI (d + 1), a1, a2, a3, a4, a5, a6, a7, a8) (nI d) := by
  have m6 : pg_m q c set < 6 := pg_m6 h.2.2.1
  have m2 : pg_m q c set % 2 < 2 := Nat.mod_lt _ (by omega)
  unfold wpX_finish
  dsimp only
  rw [nI_clamp (show d < 2 ^ 31 by omega), h4]
  refine ⟨pk_in d 12 hd, pg_gr h (nm_r (pg_and1 _ m6) ?_)⟩
  rw [pg_1s _ m2, nI_clamp (show 1 - pg_m q c set % 2 < 2 ^ 31 by omega)]
  exact ⟨pk_in (1 - pg_m q c set % 2) 2 (by omega), pk_in d 12 hd, pk_in (1 - pg_m q c set % 2) 2 (by omega), nm_e (nm_r (nI_pred d) H)⟩
/-- the loop of 'solve': one step each -/
theorem pg_s_exit {n x : Nat} (hx : x < 2000) (H : post (w, nI 0, a1, a2, a3, a4, a5, a6, a7, a8)) : wX_solve_14 post (n + 1) (nI x) w (nI 0) a1 a2 a3 a4 a5 a6 a7 a8 :=
  pk_le 2000 x (fun z => absurd z (by omega)) (fun _ => pk_le 0 0 (fun _ => H) (fun z => absurd z (by omega)))
theorem pg_s_empty {n x d : Nat} (hx : x < 2000) (hd : d < 12) (h5 : a5 d = 0) (h4 : a4 d = 0)
    (H : wX_solve_14 post n (nI (x + 1)) w (nI d) a1 a2 a3 a4 a5 a6 (upd (upd a7 0 0) 1 0) a8) :
    wX_solve_14 post (n + 1) (nI x) w (nI (d + 1)) a1 a2 a3 a4 a5 a6 a7 a8 :=
  pk_le 2000 x (fun z => absurd z (by omega)) (fun _ => pk_le (d + 1) 0 (fun z => absurd z (by omega)) (fun _ => nm_r (nI_pred d) ⟨pk_in d 12 hd, br_t (by rw [nI_clamp (show d < 2 ^ 31 by omega)]; exact h5) (pg_begin0 hd h4 (nm_r (nI_1 x) H))⟩))
theorem pg_s_begin {q o c f s n x d : Nat} {set top aside : Int32} (h : pg_P q o c f s w a1 a2 a3) (hx : x < 2000) (hd : d + 1 < 12) (h5 : a5 d = 0) (h4 : a4 d = set) (hs : ¬ set = 0)
    (ht : pg_acc 0 (fun k => pg_bt set k && decide (a1 k = nI (pg_m q c set))) 8 = top)
    (hf : ∀ P : Int32 → Prop, P aside → wpX_forced P (w, nI (d + 1), a1, a2, a3, a4, a5, a6, a7, a8) (nI (pg_m q c set) &&& 1) top set)
    (H : wX_solve_14 post n (nI (x + 1)) w (nI (d + 1 + 1)) a1 a2 a3 (upd a4 (d + 1) (set &&& (aside ^^^ (-1)))) (upd (upd a5 d 1) (d + 1) 0) a6 a7 a8) :
    wX_solve_14 post (n + 1) (nI x) w (nI (d + 1)) a1 a2 a3 a4 a5 a6 a7 a8 :=
  pk_le 2000 x (fun z => absurd z (by omega)) (fun _ => pk_le (d + 1) 0 (fun z => absurd z (by omega)) (fun _ => nm_r (nI_pred d) ⟨pk_in d 12 (by omega), br_t (by rw [nI_clamp (show d < 2 ^ 31 by omega)]; exact h5) (pg_begin1 h hd h4 hs ht hf (nm_r (nI_1 x) H))⟩))
theorem pg_s_goOn0 {q o c f s n x d : Nat} {set : Int32} (h : pg_P q o c f s w a1 a2 a3) (hx : x < 2000) (hd : d < 12) (h5 : a5 d = 1) (h4 : a4 d = set) (h7 : a7 (1 - pg_m q c set % 2) = 0)
    (H : wX_solve_14 post n (nI (x + 1)) w (nI d) a1 a2 a3 a4 a5 a6 (upd a7 (pg_m q c set % 2) set) a8) :
    wX_solve_14 post (n + 1) (nI x) w (nI (d + 1)) a1 a2 a3 a4 a5 a6 a7 a8 :=
  pk_le 2000 x (fun z => absurd z (by omega)) (fun _ => pk_le (d + 1) 0 (fun z => absurd z (by omega)) (fun _ => nm_r (nI_pred d) ⟨pk_in d 12 hd, br_f (by rw [nI_clamp (show d < 2 ^ 31 by omega), h5]; decide) ⟨pk_in d 12 hd, br_t (by rw [nI_clamp (show d < 2 ^ 31 by omega)]; exact h5) (pg_goOn0 h hd h4 h7 (nm_r (nI_1 x) H))⟩⟩))
theorem pg_s_goOn1 {q o c f s n x d : Nat} {set lost away : Int32} (h : pg_P q o c f s w a1 a2 a3) (hx : x < 2000) (hd : d + 1 < 12) (h5 : a5 d = 1) (h4 : a4 d = set) (h7 : a7 (1 - pg_m q c set % 2) = lost) (hl : ¬ lost = 0)
    (hf : ∀ P : Int32 → Prop, P away → wpX_forced P (w, nI (d + 1), a1, a2, a3, a4, a5, a6, a7, a8) (nI (1 - pg_m q c set % 2)) lost set)
    (H : wX_solve_14 post n (nI (x + 1)) w (nI (d + 1 + 1)) a1 a2 a3 (upd a4 (d + 1) (set &&& (away ^^^ (-1)))) (upd (upd a5 d 2) (d + 1) 0) (upd a6 d away) a7 a8) :
    wX_solve_14 post (n + 1) (nI x) w (nI (d + 1)) a1 a2 a3 a4 a5 a6 a7 a8 :=
  pk_le 2000 x (fun z => absurd z (by omega)) (fun _ => pk_le (d + 1) 0 (fun z => absurd z (by omega)) (fun _ => nm_r (nI_pred d) ⟨pk_in d 12 (by omega), br_f (by rw [nI_clamp (show d < 2 ^ 31 by omega), h5]; decide) ⟨pk_in d 12 (by omega), br_t (by rw [nI_clamp (show d < 2 ^ 31 by omega)]; exact h5) (pg_goOn1 h hd h4 h7 hl hf (nm_r (nI_1 x) H))⟩⟩))
theorem pg_s_fin {q o c f s n x d : Nat} {set : Int32} (h : pg_P q o c f s w a1 a2 a3) (hx : x < 2000) (hd : d < 12) (h5 : a5 d = 2) (h4 : a4 d = set)
    (H : wX_solve_14 post n (nI (x + 1)) w (nI d) a1 a2 a3 a4 a5 a6 (upd a7 (1 - pg_m q c set % 2) (a7 (1 - pg_m q c set % 2) ||| a6 d)) a8) :
    wX_solve_14 post (n + 1) (nI x) w (nI (d + 1)) a1 a2 a3 a4 a5 a6 a7 a8 :=
  pk_le 2000 x (fun z => absurd z (by omega)) (fun _ => pk_le (d + 1) 0 (fun z => absurd z (by omega)) (fun _ => nm_r (nI_pred d) ⟨pk_in d 12 hd, br_f (by rw [nI_clamp (show d < 2 ^ 31 by omega), h5]; decide) ⟨pk_in d 12 hd, br_f (by rw [nI_clamp (show d < 2 ^ 31 by omega), h5]; decide) (pg_fin h hd h4 (nm_r (nI_1 x) H))⟩⟩))
/-- a level that is its own top: three steps -/
theorem pg_full {q o c f s n x d : Nat} {set : Int32} (h : pg_P q o c f s w a1 a2 a3) (hx : x + 3 ≤ 2000) (hd : d + 1 < 12) (h5 : a5 d = 0) (h4 : a4 d = set) (hs : ¬ set = 0)
    (ht : pg_acc 0 (fun k => pg_bt set k && decide (a1 k = nI (pg_m q c set))) 8 = set)
    (hf : ∀ k, k < 8 → pg_bt set k = true → set ||| pg_b k = set) (hz : set &&& (set ^^^ (-1)) = 0)
    (H : ∀ a4' a5' a7', (∀ j, j ≤ d → a4' j = a4 j) → (∀ j, j < d → a5' j = a5 j) → a7' (pg_m q c set % 2) = set → a7' (1 - pg_m q c set % 2) = 0 → wX_solve_14 post n (nI (x + 3)) w (nI d) a1 a2 a3 a4' a5' a6 a7' a8) :
    wX_solve_14 post (n + 1 + 1 + 1) (nI x) w (nI (d + 1)) a1 a2 a3 a4 a5 a6 a7 a8 := by
  have m2 : pg_m q c set % 2 < 2 := Nat.mod_lt _ (by omega)
  refine pg_s_begin h (by omega) hd h5 h4 hs ht (aside := set) (fun P hP => pg_foS hs hf hP) ?_
  rw [hz]
  refine pg_s_empty (by omega) hd pk_us pk_us ?_
  have z7 : upd (upd a7 0 0) 1 0 (1 - pg_m q c set % 2) = 0 := by
    have : pg_m q c set % 2 = 0 ∨ pg_m q c set % 2 = 1 := by omega
    rcases this with e | e
    · rw [e]
      rfl
    · rw [e]
      rfl
  refine pg_s_goOn0 (set := set) h (by omega) (by omega) ?_ ?_ z7 (H _ _ _ ?_ ?_ pk_us ?_)
  · rw [pk_un (by omega), pk_us]
  · rw [pk_un (by omega), h4]
  · intro j hj
    rw [pk_un (by omega)]
  · intro j hj
    rw [pk_un (by omega), pk_un (by omega)]
  · rw [pk_un (by omega), z7]
end
end
section
section
variable {w : Int32} {a1 a2 a3 a4 a5 a6 a7 a8 : Nat → Int32}
theorem pg_topR {q o c f s : Nat} (h : pg_P q o c f s w a1 a2 a3) : pg_m q c (pg_R q) = 0 ∧ pg_acc 0 (fun k => pg_bt (pg_R q) k && decide (a1 k = nI (pg_m q c (pg_R q)))) 8 = pg_R q := by
  obtain ⟨h0, ho, hc, hf, hs, hw, g1, g2, g3⟩ := h
  have e : pg_m q c (pg_R q) = 0 := by
    unfold pg_m
    rw [pg_tR q h0 q h0, if_neg (by simp)]
  refine ⟨e, ?_⟩
  rw [e]
  refine (pg_acc_c 8 (fun k hk => ?_)).trans (pg_aR q h0)
  show (pg_bt (pg_R q) k && decide (a1 k = nI 0)) = decide (k ≠ q)
  rw [pg_tR q h0 k hk, g1 k hk]
  by_cases g : k = q
  · simp [g]
  · simp [g]
theorem pg_topQ {q o c f s : Nat} (h : pg_P q o c f s w a1 a2 a3) : pg_m q c (pg_Q q) = c ∧ pg_acc 0 (fun k => pg_bt (pg_Q q) k && decide (a1 k = nI (pg_m q c (pg_Q q)))) 8 = pg_Q q := by
  obtain ⟨h0, ho, hc, hf, hs, hw, g1, g2, g3⟩ := h
  have e : pg_m q c (pg_Q q) = c := by
    unfold pg_m
    rw [pg_tQ q h0 q h0, if_pos (by simp)]
  refine ⟨e, ?_⟩
  rw [e]
  refine (pg_acc_c 8 (fun k hk => ?_)).trans (pg_aQ q h0)
  show (pg_bt (pg_Q q) k && decide (a1 k = nI c)) = decide (k = q)
  rw [pg_tQ q h0 k hk, g1 k hk]
  by_cases g : k = q
  · simp [g]
  · simp [g]
theorem pg_top255 {q o c f s : Nat} (h : pg_P q o c f s w a1 a2 a3) : pg_m q c 255 = c ∧ pg_acc 0 (fun k => pg_bt 255 k && decide (a1 k = nI (pg_m q c 255))) 8 = (if c = 0 then 255 else pg_Q q) := by
  obtain ⟨h0, ho, hc, hf, hs, hw, g1, g2, g3⟩ := h
  have e : pg_m q c 255 = c := by
    unfold pg_m
    rw [pg_t255 q h0, if_pos rfl]
  refine ⟨e, ?_⟩
  rw [e]
  by_cases z : c = 0
  · rw [if_pos z]
    refine (pg_acc_c 8 (fun k hk => ?_)).trans pg_a255
    show (pg_bt 255 k && decide (a1 k = nI c)) = true
    rw [pg_t255 k hk, g1 k hk, z]
    by_cases g : k = q
    · simp [g]
    · simp [g]
  · rw [if_neg z]
    refine (pg_acc_c 8 (fun k hk => ?_)).trans (pg_aQ q h0)
    show (pg_bt 255 k && decide (a1 k = nI c)) = decide (k = q)
    rw [pg_t255 k hk, g1 k hk]
    by_cases g : k = q
    · simp [g]
    · have n : ¬ nI 0 = nI c := fun t => z ((nI_eq (by omega) (by omega)).mp t).symm
      simp [g, n]
/-- the whole of 'solve': what player 1 wins -/
theorem pg_solve {post : St2 → Prop} {d : Int32} {q o c f s : Nat} (h : pg_P q o c f s w a1 a2 a3) (H : ∀ d' a4' a5' a6' a7', a7' 1 = (if pg_lose q o c f s = true then pg_Q q else 0) → post (w, d', a1, a2, a3, a4', a5', a6', a7', a8)) :
    wpX_solve post (w, d, a1, a2, a3, a4, a5, a6, a7, a8) := by
  have h0 : q < 8 := h.1
  have hc : c < 6 := h.2.2.1
  have nl : c % 2 = 0 → ¬ pg_lose q o c f s = true := by
    intro z t
    unfold pg_lose at t
    exact absurd (of_decide_eq_true t).1 (by omega)
  have t255 := pg_top255 h
  have tR := pg_topR h
  have tQ := pg_topQ h
  have fR : ∀ k, k < 8 → pg_bt (pg_R q) k = true → pg_R q ||| pg_b k = pg_R q := by
    intro k hk hb
    rw [pg_tR q h0 k hk] at hb
    exact pg_eRk q h0 k hk (of_decide_eq_true hb)
  have fQ : ∀ k, k < 8 → pg_bt (pg_Q q) k = true → pg_Q q ||| pg_b k = pg_Q q := by
    intro k hk hb
    rw [pg_tQ q h0 k hk] at hb
    rw [of_decide_eq_true hb]
    exact pg_eQ q h0
  have key : ∃ n, wX_solve_14 post n (nI 0) w (nI (0 + 1)) a1 a2 a3 (upd a4 0 255) (upd a5 0 0) a6 a7 a8 := by
    by_cases z : c = 0
    · refine ⟨0 + 1 + 1 + 1 + 1, pg_full h (by omega) (by omega) pk_us pk_us pg_n255 ?_ (fun k hk _ => pg_e255 k hk) pg_z255 (fun a4' a5' a7' k4 k5 k7 k8 => pg_s_exit (by omega) (H _ _ _ _ _ ?_))⟩
      · rw [t255.2, if_pos z]
      · rw [t255.1, z] at k8
        rw [if_neg (nl (by omega))]
        exact k8
    · by_cases ev : c % 2 = 0
      · refine ⟨0 + 1 + 1 + 1 + 1 + 1 + 1, pg_s_begin h (by omega) (by omega) pk_us pk_us pg_n255 (by rw [t255.2, if_neg z]) (aside := pg_Q q) (fun P hP => pg_foQ h hP) ?_⟩
        rw [pg_nQ q h0]
        refine pg_full h (by omega) (by omega) pk_us pk_us (pg_n0R q h0) tR.2 fR (pg_zR q h0) (fun a4' a5' a7' k4 k5 k7 k8 => ?_)
        rw [tR.1] at k7 k8
        refine pg_s_goOn0 (set := 255) h (by omega) (by omega) ?_ ?_ ?_ (pg_s_exit (by omega) (H _ _ _ _ _ ?_))
        · rw [k5 0 (by omega), pk_un (by omega), pk_us]
        · rw [k4 0 (by omega), pk_un (by omega), pk_us]
        · rw [t255.1, ev]
          exact k8
        · rw [t255.1, ev, if_neg (nl ev), pk_un (by omega)]
          exact k8
      · have od : c % 2 = 1 := by omega
        by_cases ls : pg_lose q o c f s = true
        · refine ⟨0 + 1 + 1 + 1 + 1 + 1 + 1 + 1 + 1 + 1 + 1, pg_s_begin h (by omega) (by omega) pk_us pk_us pg_n255 (by rw [t255.2, if_neg z]) (aside := pg_Q q) (fun P hP => pg_foQ h hP) ?_⟩
          rw [pg_nQ q h0]
          refine pg_full h (by omega) (by omega) pk_us pk_us (pg_n0R q h0) tR.2 fR (pg_zR q h0) (fun a4' a5' a7' k4 k5 k7 k8 => ?_)
          rw [tR.1] at k7 k8
          refine pg_s_goOn1 (set := 255) (lost := pg_R q) (away := pg_R q) h (by omega) (by omega) ?_ ?_ ?_ (pg_n0R q h0) (fun P hP => ?_) ?_
          · rw [k5 0 (by omega), pk_un (by omega), pk_us]
          · rw [k4 0 (by omega), pk_un (by omega), pk_us]
          · rw [t255.1, od]
            exact k7
          · rw [t255.1, od]
            exact pg_foR h od (by rw [if_pos ls]; exact hP)
          · rw [pg_nR q h0]
            refine pg_full h (by omega) (by omega) pk_us pk_us (pg_n0Q q h0) tQ.2 fQ (pg_zQ q h0) (fun a4'' a5'' a7'' l4 l5 l7 l8 => ?_)
            rw [tQ.1, od] at l7 l8
            refine pg_s_fin (set := 255) h (by omega) (by omega) ?_ ?_ (pg_s_exit (by omega) (H _ _ _ _ _ ?_))
            · rw [l5 0 (by omega), pk_un (by omega), pk_us]
            · rw [l4 0 (by omega), pk_un (by omega), k4 0 (by omega), pk_un (by omega), pk_us]
            · rw [t255.1, od, if_pos ls, pk_un (by omega)]
              exact l7
        · refine ⟨0 + 1 + 1 + 1 + 1 + 1 + 1 + 1 + 1, pg_s_begin h (by omega) (by omega) pk_us pk_us pg_n255 (by rw [t255.2, if_neg z]) (aside := pg_Q q) (fun P hP => pg_foQ h hP) ?_⟩
          rw [pg_nQ q h0]
          refine pg_full h (by omega) (by omega) pk_us pk_us (pg_n0R q h0) tR.2 fR (pg_zR q h0) (fun a4' a5' a7' k4 k5 k7 k8 => ?_)
          rw [tR.1] at k7 k8
          refine pg_s_goOn1 (set := 255) (lost := pg_R q) (away := 255) h (by omega) (by omega) ?_ ?_ ?_ (pg_n0R q h0) (fun P hP => ?_) ?_
          · rw [k5 0 (by omega), pk_un (by omega), pk_us]
          · rw [k4 0 (by omega), pk_un (by omega), pk_us]
          · rw [t255.1, od]
            exact k7
          · rw [t255.1, od]
            exact pg_foR h od (by rw [if_neg ls]; exact hP)
          · rw [pg_z255]
            refine pg_s_empty (by omega) (by omega) pk_us pk_us ?_
            refine pg_s_fin (set := 255) h (by omega) (by omega) ?_ ?_ (pg_s_exit (by omega) (H _ _ _ _ _ ?_))
            · rw [pk_un (by omega), pk_us]
            · rw [pk_un (by omega), k4 0 (by omega), pk_un (by omega), pk_us]
            · rw [t255.1, od, if_neg ls, pk_un (by omega), pk_us]
  unfold wpX_solve
  dsimp only
  exact pg_push (d := 0) (by omega) key
end
end
section
section
variable {w d : Int32} {a1 a2 a3 a4 a5 a6 a7 a8 : Nat → Int32}
theorem pg_lo {post : Int32 → Prop} {x b : Int32} (H : ∀ r, post r) : wpX_lowOnly post (w, d, a1, a2, a3, a4, a5, a6, a7, a8) x b := by
  refine pk_loop (σ := Int32) (fun n i s => wX_lowOnly_5 post x b w d a1 a2 a3 a4 a5 a6 a7 a8 n s (nI i)) (fun _ _ => True) 8 0 0 (by omega) trivial ?_ ?_
  · intro n s _
    exact pk_le 8 8 (fun _ => H s) (fun z => absurd z (by omega))
  · intro n i s hi _ hw
    exact pk_le 8 i (fun z => absurd z (by omega)) (fun _ => br_c (fun _ => ⟨pk_in i 8 hi, br_c (fun _ => nm_r (nI_1 i) (hw _ trivial)) (fun _ => nm_e (nm_r (nI_1 i) (hw _ trivial)))⟩) (fun _ => nm_r (nI_1 i) (hw _ trivial)))
theorem pg_mb {post : Int32 → Prop} {i : Nat} {p c : Int32} (hi : i < 8) (H : ∀ r, post r) : wpX_movesBy post (w, d, a1, a2, a3, a4, a5, a6, a7, a8) (nI i) p c := by
  unfold wpX_movesBy wpX_owner
  dsimp only
  exact br_c (fun _ => br_c (fun _ => ⟨pk_in i 8 hi, H _⟩) (fun _ => ⟨pk_in i 8 hi, H _⟩)) (fun _ => pg_mv hi (H _))
theorem pg_cw72 {post : St2 → Prop} {J62 : Int32 → (Nat → Int32) → (Nat → Int32) → (Nat → Int32) → (Nat → Int32) → (Nat → Int32) → (Nat → Int32) → (Nat → Int32) → (Nat → Int32) → Prop} {k : Nat} (hk : k < 8) (H : ∀ a8', J62 (nI (k + 1)) a1 a2 a3 a4 a5 a6 a7 a8') : ∃ n, wX_closeWays_72 post J62 (nI k) w d n 0 a1 a2 a3 a4 a5 a6 a7 a8 :=
  pk_loop (σ := Nat → Int32) (fun n i s => wX_closeWays_72 post J62 (nI k) w d n (nI i) a1 a2 a3 a4 a5 a6 a7 s) (fun _ _ => True) 8 0 a8 (by omega) trivial
    (fun n s _ => pk_le 8 8 (fun _ => nm_r (nI_1 k) (H s)) (fun z => absurd z (by omega)))
    (fun n i s hi _ hw => pk_le 8 i (fun z => absurd z (by omega)) (fun _ => ⟨pk_in i 8 hi, br_c (fun _ => ⟨pk_in i 8 hi, pk_in k 8 hk, pk_in i 8 hi, nm_e (nm_r (nI_1 i) (hw _ trivial))⟩) (fun _ => nm_r (nI_1 i) (hw _ trivial))⟩))
theorem pg_cw62 {post : St2 → Prop} (H : ∀ a8', post (w, d, a1, a2, a3, a4, a5, a6, a7, a8')) : ∃ n, wX_closeWays_62 post w d n 0 a1 a2 a3 a4 a5 a6 a7 a8 :=
  pk_loop (σ := Nat → Int32) (fun n i s => wX_closeWays_62 post w d n (nI i) a1 a2 a3 a4 a5 a6 a7 s) (fun _ _ => True) 8 0 a8 (by omega) trivial
    (fun n s _ => pk_le 8 8 (fun _ => H s) (fun z => absurd z (by omega)))
    (fun n i s hi _ hw => pk_le 8 i (fun z => absurd z (by omega)) (fun _ => pg_cw72 hi (fun a8' => hw a8' trivial)))
theorem pg_cw {post : St2 → Prop} {p c b : Int32} (H : ∀ a8', post (w, d, a1, a2, a3, a4, a5, a6, a7, a8')) : wpX_closeWays post (w, d, a1, a2, a3, a4, a5, a6, a7, a8) p c b := by
  refine pk_loop (σ := Nat → Int32) (fun n i s => wX_closeWays_3 post p c b w d n (nI i) a1 a2 a3 a4 a5 a6 a7 s) (fun _ _ => True) 8 0 a8 (by omega) trivial ?_ ?_
  · intro n s _
    exact pk_le 8 8 (fun _ => pg_cw62 H) (fun z => absurd z (by omega))
  · intro n i s hi _ hw
    exact pk_le 8 i (fun z => absurd z (by omega)) (fun _ => ⟨pk_in i 8 hi, nm_e (pg_mb hi (fun r => ⟨pk_in i 8 hi, br_c (fun _ => nm_r (nI_1 i) (hw _ trivial)) (fun _ => pg_lo (fun r2 => ⟨pk_in i 8 hi, nm_e (nm_r (nI_1 i) (hw _ trivial))⟩))⟩))⟩)
theorem pg_bc24 {post : Int32 → St2 → Prop} {J7 : Int32 → Int32 → Int32 → Int32 → (Nat → Int32) → (Nat → Int32) → (Nat → Int32) → (Nat → Int32) → (Nat → Int32) → (Nat → Int32) → (Nat → Int32) → (Nat → Int32) → Prop} {x1 x2 x3 x4 : Int32} (H : ∀ r, J7 r (x4 + 2) w d a1 a2 a3 a4 a5 a6 a7 a8) : ∃ n, wX_badCircles_24 post J7 x1 x2 x4 w d a1 a2 a3 a4 a5 a6 a7 a8 n x3 0 :=
  pk_loop (σ := Int32) (fun n i s => wX_badCircles_24 post J7 x1 x2 x4 w d a1 a2 a3 a4 a5 a6 a7 a8 n s (nI i)) (fun _ _ => True) 8 0 x3 (by omega) trivial
    (fun n s _ => pk_le 8 8 (fun _ => nm_e (H s)) (fun z => absurd z (by omega)))
    (fun n i s hi _ hw => pk_le 8 i (fun z => absurd z (by omega)) (fun _ => ⟨pk_in i 8 hi, br_c (fun _ => ⟨pk_in i 8 hi, br_c (fun _ => nm_e (nm_r (nI_1 i) (hw _ trivial))) (fun _ => nm_r (nI_1 i) (hw _ trivial))⟩) (fun _ => nm_r (nI_1 i) (hw _ trivial))⟩))
theorem pg_bc {post : Int32 → St2 → Prop} {p : Nat} {c : Int32} (hp : p < 2) (H : ∀ r a8', post r (w, d, a1, a2, a3, a4, a5, a6, a7, a8')) : wpX_badCircles post (w, d, a1, a2, a3, a4, a5, a6, a7, a8) (nI p) c := by
  unfold wpX_badCircles
  dsimp only
  refine nm_r (pg_1s p hp) ?_
  refine pk_loop (σ := Int32 × (Nat → Int32)) (fun n j s => wX_badCircles_7 post (nI p) c n s.1 (nI (1 - p + 2 * j)) w d a1 a2 a3 a4 a5 a6 a7 s.2) (fun _ _ => True) 3 0 (0, a8) (by omega) trivial ?_ ?_
  · intro n s _
    exact pk_lt 5 (1 - p + 2 * 3) (fun _ => H s.1 s.2) (fun z => absurd z (by omega))
  · intro n j s hj _ hw
    refine pk_lt 5 (1 - p + 2 * j) (fun z => absurd z (by omega)) (fun _ => pg_cw (fun a8' => pg_bc24 (fun r => ?_)))
    have e : nI (1 - p + 2 * j) + 2 = nI (1 - p + 2 * (j + 1)) := by
      rw [show (2 : Int32) = nI 2 from rfl, nI_add]
      rfl
    rw [e]
    exact hw (r, a8') trivial
theorem pg_ig18 {post : Int32 → St2 → Prop} {x3 x4 : Int32} (H : ∀ r, post r (w, d, a1, a2, a3, a4, a5, a6, a7, a8)) : ∃ n, wX_isGood_18 post x3 x4 w d a1 a2 a3 a4 a5 a6 a7 a8 n 0 :=
  pk_loop (σ := Unit) (fun n i _ => wX_isGood_18 post x3 x4 w d a1 a2 a3 a4 a5 a6 a7 a8 n (nI i)) (fun _ _ => True) 8 0 () (by omega) trivial
    (fun n s _ => pk_le 8 8 (fun _ => H 1) (fun z => absurd z (by omega)))
    (fun n i s hi _ hw => pk_le 8 i (fun z => absurd z (by omega)) (fun _ => br_c (fun _ => ⟨pk_in i 8 hi, br_c (fun _ => nm_r (nI_1 i) (hw () trivial)) (fun _ => H 0)⟩) (fun _ => nm_r (nI_1 i) (hw () trivial))))
theorem pg_ig {post : Int32 → St2 → Prop} {p : Nat} {c r : Int32} (hp : p < 2) (H : ∀ b a8', post b (w, d, a1, a2, a3, a4, a5, a6, a7, a8')) : wpX_isGood post (w, d, a1, a2, a3, a4, a5, a6, a7, a8) (nI p) c r := by
  unfold wpX_isGood
  dsimp only
  exact pg_bc hp (fun r1 b8 => pg_cw (fun c8 => pg_ig18 (fun b => H b c8)))
theorem pg_pl20 {post : Int32 → St2 → Prop} {p : Nat} (hp : p < 2) (H : ∀ m a8', m ≤ 256 → post (nI m) (w, d, a1, a2, a3, a4, a5, a6, a7, a8')) : ∃ n, wX_plans_20 post (nI p) n 0 0 w d a1 a2 a3 a4 a5 a6 a7 a8 := by
  refine pk_loop (σ := Nat × (Nat → Int32)) (fun n i s => wX_plans_20 post (nI p) n (nI s.1) (nI i) w d a1 a2 a3 a4 a5 a6 a7 s.2) (fun i s => s.1 ≤ i) 256 0 (0, a8) (by omega) (Nat.le_refl 0) ?_ ?_
  · intro n s h
    exact pk_lt 255 256 (fun _ => H s.1 s.2 h) (fun z => absurd z (by omega))
  · intro n i s hi h hw
    refine pk_lt 255 i (fun z => absurd z (by omega)) (fun _ => ⟨pk_in p 2 hp, pg_ig hp (fun b b8 => br_c (fun _ => nm_r (nI_1 i) (hw (s.1, b8) ?_)) (fun _ => nm_r (nI_1 s.1) (nm_r (nI_1 i) (hw (s.1 + 1, b8) ?_))))⟩)
    · exact Nat.le_succ_of_le h
    · exact Nat.succ_le_succ h
theorem pg_plans {post : Int32 → St2 → Prop} {q o c f s : Nat} {x : Int32} (h : pg_P q o c f s w a1 a2 a3) (H0 : (x < 0 ∨ ¬ x ≤ 1) → ∀ u, post (-3) u) (H1 : ∀ p, p < 2 → x = nI p → ∀ m u, m ≤ 256 → post (nI m) u) : wpX_plans post (w, d, a1, a2, a3, a4, a5, a6, a7, a8) x := by
  unfold wpX_plans
  dsimp only
  refine br_c (fun h0 => H0 (Or.inl h0) _) (fun h0 => br_c (fun h1 => ?_) (fun h1 => H0 (Or.inr h1) _))
  obtain ⟨p, hp, rfl⟩ := nI_of2 (M := 1) (n := 1) (by decide) h0 h1
  exact pg_solve h (fun d' b4 b5 b6 b7 _ => pg_pl20 (by omega) (fun m b8 hm => H1 p (by omega) rfl m _ hm))
end
end
section
section
variable {w d : Int32} {a1 a2 a3 a4 a5 a6 a7 a8 : Nat → Int32}
theorem pg_bad0 {post : Int32 → Prop} {u : St0} {q : Nat} (hq : q < 8) (H : post 0) : wpX_bad post u (nI q) := by
  unfold wpX_bad
  exact br_f (nI_pos (by omega)) (pk_lt q 8 (fun _ => H) (fun z => absurd z (by omega)))
theorem pg_bad1 {post : Int32 → Prop} {u : St0} {x : Int32} (hx : x < 0 ∨ ¬ x ≤ 7) (H : post 1) : wpX_bad post u x := by
  unfold wpX_bad
  refine br_c (fun _ => H) (fun h0 => br_f (fun h8 => ?_) H)
  rcases hx with hx | hx
  · exact h0 hx
  · rw [Int32.lt_iff_toInt_lt] at h8
    rw [Int32.le_iff_toInt_le] at hx
    exact hx (Int.le_of_lt_add_one h8)
theorem pg_setB {post : Int32 → St2 → Prop} {x x1 x2 x3 : Int32} (hx : x < 0 ∨ ¬ x ≤ 7) (H : post (-1) (w, d, a1, a2, a3, a4, a5, a6, a7, a8)) : wpX_set post (w, d, a1, a2, a3, a4, a5, a6, a7, a8) x x1 x2 x3 := by
  unfold wpX_set
  dsimp only
  exact pg_bad1 hx (br_f (by decide) H)
theorem pg_setO {post : Int32 → St2 → Prop} {q : Nat} {x1 x2 x3 : Int32} (hq : q < 8) (hx : x1 < 0 ∨ ¬ x1 ≤ 1) (H : post (-3) (w, d, a1, a2, a3, a4, a5, a6, a7, a8)) : wpX_set post (w, d, a1, a2, a3, a4, a5, a6, a7, a8) (nI q) x1 x2 x3 := by
  unfold wpX_set
  dsimp only
  refine pg_bad0 hq (br_t rfl (br_c (fun _ => H) (fun h0 => br_f (fun h1 => ?_) H)))
  exact hx.elim h0 (fun t => t h1)
theorem pg_setC {post : Int32 → St2 → Prop} {q o : Nat} {x2 x3 : Int32} (hq : q < 8) (ho : o < 2) (hx : x2 < 0 ∨ ¬ x2 ≤ 5) (H : post (-2) (w, d, a1, a2, a3, a4, a5, a6, a7, a8)) : wpX_set post (w, d, a1, a2, a3, a4, a5, a6, a7, a8) (nI q) (nI o) x2 x3 := by
  unfold wpX_set
  dsimp only
  refine pg_bad0 hq (br_t rfl (br_f (nI_pos (by omega)) (pk_le o 1 (fun _ => br_c (fun _ => H) (fun h0 => br_f (fun h1 => ?_) H)) (fun z => absurd z (by omega)))))
  exact hx.elim h0 (fun t => t h1)
theorem pg_wset : ∀ q, q < 8 → ∀ o, o < 2 → ((nI (0 * 2 ^ q)) &&& (((1 : Int32) <<< (nI q &&& 31)) ^^^ (-1))) ||| (nI o <<< (nI q &&& 31)) = nI (o * 2 ^ q) := by decide +kernel
theorem pg_set1 {post : Int32 → St2 → Prop} {q o c : Nat} {x3 : Int32} (hD : pg_P q 0 0 q q w a1 a2 a3) (ho : o < 2) (hc : c < 6)
    (H : ∀ w' b1 b2 b3 f s, x3 &&& 7 = nI f → (x3 >>> ((3 : Int32) &&& 31)) &&& 7 = nI s → pg_P q o c f s w' b1 b2 b3 → post 0 (w', d, b1, b2, b3, a4, a5, a6, a7, a8)) :
    wpX_set post (w, d, a1, a2, a3, a4, a5, a6, a7, a8) (nI q) (nI o) (nI c) x3 := by
  obtain ⟨hq, _, _, _, _, hw, g1, g2, g3⟩ := hD
  obtain ⟨f, hf, ef⟩ := pk_andE x3 (m := 7) 3 (by decide)
  obtain ⟨s, hs, es⟩ := pk_andE (x3 >>> ((3 : Int32) &&& 31)) (m := 7) 3 (by decide)
  unfold wpX_set
  dsimp only
  rw [nI_clamp (show q < 2 ^ 31 by omega)]
  refine pg_bad0 hq (br_t rfl (br_f (nI_pos (by omega)) (pk_le o 1 (fun _ => br_f (nI_pos (by omega)) (pk_le c 5 (fun _ => nm_e ⟨pk_in q 8 hq, nm_e ⟨pk_in q 8 hq, nm_e ⟨pk_in q 8 hq, nm_e (H _ _ _ _ f s ef es ?_)⟩⟩⟩) (fun z => absurd z (by omega)))) (fun z => absurd z (by omega)))))
  refine ⟨hq, ho, hc, hf, hs, ?_, fun k hk => ?_, fun k hk => ?_, fun k hk => ?_⟩
  · rw [hw]
    exact pg_wset q hq o ho
  · by_cases e : k = q
    · rw [e, pk_us, if_pos rfl]
    · rw [pk_un e, g1 k hk, if_neg e, if_neg e]
  · by_cases e : k = q
    · rw [e, pk_us, if_pos rfl, ef]
    · rw [pk_un e, g2 k hk, if_neg e, if_neg e]
  · by_cases e : k = q
    · rw [e, pk_us, if_pos rfl, es]
    · rw [pk_un e, g3 k hk, if_neg e, if_neg e]
theorem pg_paintB {post : Int32 → St2 → Prop} {x x1 : Int32} (hx : x < 0 ∨ ¬ x ≤ 7) (H : post (-1) (w, d, a1, a2, a3, a4, a5, a6, a7, a8)) : wpX_paint post (w, d, a1, a2, a3, a4, a5, a6, a7, a8) x x1 := by
  unfold wpX_paint
  dsimp only
  exact pg_bad1 hx (br_f (by decide) H)
theorem pg_paintW {post : Int32 → St2 → Prop} {q : Nat} {x1 : Int32} (hq : q < 8) (hx : x1 < 0 ∨ ¬ x1 ≤ 5) (H : post (-2) (w, d, a1, a2, a3, a4, a5, a6, a7, a8)) : wpX_paint post (w, d, a1, a2, a3, a4, a5, a6, a7, a8) (nI q) x1 := by
  unfold wpX_paint
  dsimp only
  refine pg_bad0 hq (br_t rfl (br_c (fun _ => H) (fun h0 => br_f (fun h1 => ?_) H)))
  exact hx.elim h0 (fun t => t h1)
theorem pg_paint1 {post : Int32 → St2 → Prop} {q o c c' f s : Nat} (h : pg_P q o c f s w a1 a2 a3) (hc' : c' < 6) (H : ∀ b1, pg_P q o c' f s w b1 a2 a3 → post (nI c) (w, d, b1, a2, a3, a4, a5, a6, a7, a8)) :
    wpX_paint post (w, d, a1, a2, a3, a4, a5, a6, a7, a8) (nI q) (nI c') := by
  obtain ⟨hq, ho, hc, hf, hs, hw, g1, g2, g3⟩ := h
  unfold wpX_paint
  dsimp only
  rw [nI_clamp (show q < 2 ^ 31 by omega)]
  have e1 : a1 q = nI c := by rw [g1 q hq, if_pos rfl]
  refine pg_bad0 hq (br_t rfl (br_f (nI_pos (by omega)) (pk_le c' 5 (fun _ => ⟨pk_in q 8 hq, nm_r e1 ⟨pk_in q 8 hq, nm_e (H _ ⟨hq, ho, hc', hf, hs, hw, fun k hk => ?_, g2, g3⟩)⟩⟩) (fun z => absurd z (by omega)))))
  by_cases e : k = q
  · rw [e, pk_us, if_pos rfl]
  · rw [pk_un e, g1 k hk, if_neg e, if_neg e]
theorem pg_winB {post : Int32 → St2 → Prop} {x : Int32} (hx : x < 0 ∨ ¬ x ≤ 7) (H : post (-1) (w, d, a1, a2, a3, a4, a5, a6, a7, a8)) : wpX_winner post (w, d, a1, a2, a3, a4, a5, a6, a7, a8) x := by
  unfold wpX_winner
  dsimp only
  exact pg_bad1 hx (br_f (by decide) H)
theorem pg_win1 {post : Int32 → St2 → Prop} {q o c f s : Nat} (h : pg_P q o c f s w a1 a2 a3) (H : ∀ d' a4' a5' a6' a7', post (if pg_lose q o c f s = true then 1 else 0) (w, d', a1, a2, a3, a4', a5', a6', a7', a8)) :
    wpX_winner post (w, d, a1, a2, a3, a4, a5, a6, a7, a8) (nI q) := by
  unfold wpX_winner
  dsimp only
  refine pg_bad0 h.1 (br_t rfl (pg_solve h (fun d' a4' a5' a6' a7' e => ?_)))
  have t := H d' a4' a5' a6' a7'
  by_cases g : pg_lose q o c f s = true
  · rw [if_pos g] at t e
    dsimp only
    rw [e, pg_wQ q h.1]
    exact t
  · rw [if_neg g] at t e
    dsimp only
    rw [e, pg_w0 q h.1]
    exact t
theorem pg_handB {post : Int32 → St2 → Prop} {x : Int32} (hx : x < 0 ∨ ¬ x ≤ 7) (H : post (-1) (w, d, a1, a2, a3, a4, a5, a6, a7, a8)) : wpX_hand post (w, d, a1, a2, a3, a4, a5, a6, a7, a8) x := by
  unfold wpX_hand
  dsimp only
  exact pg_bad1 hx (br_f (by decide) H)
theorem pg_whand : ∀ q, q < 8 → ∀ o, o < 2 → nI (o * 2 ^ q) ^^^ ((1 : Int32) <<< (nI q &&& 31)) = nI ((1 - o) * 2 ^ q) ∧ ((nI ((1 - o) * 2 ^ q)) >>> (nI q &&& 31)) &&& 1 = nI (1 - o) := by decide +kernel
theorem pg_hand1 {post : Int32 → St2 → Prop} {q o c f s : Nat} (h : pg_P q o c f s w a1 a2 a3) (H : ∀ w', pg_P q (1 - o) c f s w' a1 a2 a3 → post (nI (1 - o)) (w', d, a1, a2, a3, a4, a5, a6, a7, a8)) :
    wpX_hand post (w, d, a1, a2, a3, a4, a5, a6, a7, a8) (nI q) := by
  obtain ⟨hq, ho, hc, hf, hs, rfl, g1, g2, g3⟩ := h
  have e := pg_whand q hq o ho
  have t := H _ ⟨hq, by omega, hc, hf, hs, rfl, g1, g2, g3⟩
  unfold wpX_hand wpX_owner
  dsimp only
  refine pg_bad0 hq (br_t rfl (nm_r e.1 ?_))
  rw [e.2]
  exact t
theorem pg_fill {s : Nat → Int32} {i : Nat} (h : ∀ j, j < i → s j = nI j) : ∀ j, j < i + 1 → upd s i (nI i) j = nI j := by
  intro j hj
  by_cases e : j = i
  · rw [e, pk_us]
  · rw [pk_un e]
    exact h j (by omega)
theorem pg_init {post : St2 → Prop} (H : ∀ w d b1 b2 b3 b4 b5 b6 b7 b8, (∀ q, q < 8 → pg_P q 0 0 q q w b1 b2 b3) → post (w, d, b1, b2, b3, b4, b5, b6, b7, b8)) : wpX_init post 8 70 (0, 0) := by
  unfold wpX_init
  dsimp only
  refine ⟨by omega, by omega, by omega, by omega, by omega, by omega, by omega, by omega, by omega, by omega, by omega, by omega, by omega, by omega, by omega, by omega, ?_⟩
  refine pk_loop (σ := (Nat → Int32) × (Nat → Int32)) (fun n i s => wX_init_69 post 8 70 8 70 0 0 n (nI i) (fun _ => 0) s.1 s.2 (fun _ => 0) (fun _ => 0) (fun _ => 0) (fun _ => 0) (fun _ => 0)) (fun i s => (∀ j, j < i → s.1 j = nI j) ∧ (∀ j, j < i → s.2 j = nI j)) 8 0 (fun _ => 0, fun _ => 0) (by omega) ⟨fun j hj => absurd hj (by omega), fun j hj => absurd hj (by omega)⟩ ?_ ?_
  · intro n s h
    refine pk_le 8 8 (fun _ => H _ _ _ _ _ _ _ _ _ _ (fun q hq => ⟨hq, by omega, by omega, hq, hq, ?_, fun k hk => ?_, fun k hk => ?_, fun k hk => ?_⟩)) (fun z => absurd z (by omega))
    · rw [Nat.zero_mul]
      rfl
    · by_cases e : k = q
      · rw [if_pos e]
        rfl
      · rw [if_neg e]
        rfl
    · by_cases e : k = q
      · rw [if_pos e, ← e]
        exact h.1 k hk
      · rw [if_neg e]
        exact h.1 k hk
    · by_cases e : k = q
      · rw [if_pos e, ← e]
        exact h.2 k hk
      · rw [if_neg e]
        exact h.2 k hk
  · intro n i s hi h hw
    refine pk_le 8 i (fun z => absurd z (by omega)) (fun _ => ⟨pk_in i 8 hi, nm_e ⟨pk_in i 8 hi, nm_e (nm_r (nI_1 i) ?_)⟩⟩)
    rw [nI_clamp (show i < 2 ^ 31 by omega)]
    exact hw (upd s.1 i (nI i), upd s.2 i (nI i)) ⟨pg_fill h.1, pg_fill h.2⟩
end
end
section
section
variable {post : Int32 → St0 → Prop} {mc ms kc ks : Nat} {w d x0 x1 x2 x3 x4 x6 x7 x10 x12 x13 x14 x15 : Int32} {a1 a2 a3 a4 a5 a6 a7 a8 : Nat → Int32}
/-- a boolean of the law -/
def pg_is (z : Int32) (D : Prop) : Prop := (z = 1 ∧ D) ∨ (z = 0 ∧ ¬ D)
theorem pg_isT {D : Prop} (h : D) : pg_is 1 D := Or.inl ⟨rfl, h⟩
theorem pg_isF {D : Prop} (h : ¬ D) : pg_is 0 D := Or.inr ⟨rfl, h⟩
theorem pg_is0 {z : Int32} {D : Prop} (h : pg_is z D) : z = 0 ↔ ¬ D := by
  rcases h with ⟨rfl, h⟩ | ⟨rfl, h⟩
  · exact iff_of_false (by decide) (fun t => t h)
  · exact iff_of_true rfl h
theorem pg_isN {z : Int32} {D : Prop} (h : pg_is z D) : ¬ z = 0 ↔ D := by
  rcases h with ⟨rfl, h⟩ | ⟨rfl, h⟩
  · exact iff_of_true (by decide) h
  · exact iff_of_false (fun t => t rfl) h
theorem pg_is_eq {z z' : Int32} {D D' : Prop} (h : pg_is z D) (h' : pg_is z' D') (e : D ↔ D') : z = z' := by
  rcases h with ⟨rfl, h⟩ | ⟨rfl, h⟩ <;> rcases h' with ⟨rfl, h'⟩ | ⟨rfl, h'⟩
  · rfl
  · exact absurd (e.mp h) h'
  · exact absurd (e.mpr h') h
  · rfl
theorem pg_368a {p : Nat} (hp : post 1 ()) (h : p < 2) : wL_lawOf_368 post mc ms (nI p) 0 kc ks := by
  unfold wL_lawOf_368 wL_lawOf_383 wL_lawOf_384
  refine pk_eq p 0 (fun _ => br_t rfl hp) (fun e => br_t ?_ (br_t rfl hp))
  rw [show p = 1 by omega]
  rfl
theorem pg_368b (hp : post 1 ()) (h : x4 < 0 ∨ ¬ x4 ≤ 1) : wL_lawOf_368 post mc ms x4 1 kc ks := by
  unfold wL_lawOf_368 wL_lawOf_383 wL_lawOf_384
  refine br_f ?_ (br_f ?_ (br_t rfl hp))
  · rintro rfl
    exact absurd h (by decide)
  · rintro rfl
    exact absurd h (by decide)
theorem pg_n3 {m : Nat} (hm : m ≤ 256) : ¬ nI m = -3 := by
  intro e
  have t : (nI m).toInt = (-3 : Int32).toInt := by rw [e]
  rw [nI_toInt (by omega), show (-3 : Int32).toInt = -3 from by decide] at t
  omega
theorem pg_346 {q o c f s : Nat} {z : Int32} (hp : post 1 ()) (h : pg_P q o c f s w a1 a2 a3) : wL_lawOf_346 post mc ms x4 z z kc ks w d a1 a2 a3 a4 a5 a6 a7 a8 := by
  unfold wL_lawOf_346
  refine br_t rfl (pg_plans h (fun hx u => ?_) (fun p hp2 hx m u hm => ?_))
  · obtain ⟨u1, u2, u3, u4, u5, u6, u7, u8, u9, u10⟩ := u
    exact br_t rfl (pg_368b hp hx)
  · obtain ⟨u1, u2, u3, u4, u5, u6, u7, u8, u9, u10⟩ := u
    subst hx
    exact br_f (pg_n3 hm) (pg_368a hp hp2)
theorem pg_316 {q o c f s : Nat} {z : Int32} (hp : post 1 ()) (h : pg_P q o c f s w a1 a2 a3) (h15 : pg_is x15 (o = 1)) : wL_lawOf_316 post mc ms (nI q) x4 0 x15 z z kc ks w d a1 a2 a3 a4 a5 a6 a7 a8 := by
  have ho := h.2.1
  unfold wL_lawOf_316
  refine br_t rfl (pg_hand1 h (fun w' h' => br_t rfl ?_))
  rcases h15 with ⟨rfl, e⟩ | ⟨rfl, e⟩
  · subst e
    exact br_f (by decide) (pg_346 (z := 0) hp h')
  · have e0 : o = 0 := by omega
    subst e0
    exact br_t rfl (pg_346 (z := 1) hp h')
theorem pg_316b {q o c f s : Nat} {z : Int32} (hp : post 1 ()) (h : pg_P q o c f s w a1 a2 a3) (hx : x0 < 0 ∨ ¬ x0 ≤ 7) : wL_lawOf_316 post mc ms x0 x4 1 x15 z z kc ks w d a1 a2 a3 a4 a5 a6 a7 a8 := by
  unfold wL_lawOf_316
  exact br_t rfl (pg_handB hx (br_f (by decide) (pg_346 hp h)))
theorem pg_297 {q o c f s : Nat} {z : Int32} (hp : post 1 ()) (h : pg_P q o c f s w a1 a2 a3) (h15 : pg_is x15 (o = 1)) (hz : pg_is z (pg_lose q o c f s = true)) : wL_lawOf_297 post mc ms (nI q) x4 0 x15 z kc ks w d a1 a2 a3 a4 a5 a6 a7 a8 := by
  unfold wL_lawOf_297
  refine pg_win1 h (fun d' b4 b5 b6 b7 => br_t rfl ?_)
  have e : (if pg_lose q o c f s = true then (1 : Int32) else 0) = z := by
    rcases hz with ⟨rfl, t⟩ | ⟨rfl, t⟩
    · rw [if_pos t]
    · rw [if_neg t]
  rw [e]
  exact pg_316 hp h h15
theorem pg_297b {q o c f s : Nat} {z : Int32} (hp : post 1 ()) (h : pg_P q o c f s w a1 a2 a3) (hx : x0 < 0 ∨ ¬ x0 ≤ 7) : wL_lawOf_297 post mc ms x0 x4 1 x15 z kc ks w d a1 a2 a3 a4 a5 a6 a7 a8 := by
  unfold wL_lawOf_297
  exact pg_winB hx (br_f (by decide) (pg_316b hp h hx))
/-- the law's 'loses' -/
def pg_D (x12 x13 x14 x15 : Int32) : Prop := (x12 - x12 / 2 * 2) = 1 ∧ ((¬ x13 = 0 ∧ ¬ x14 = 0) ∨ (¬ x15 = 0 ∧ (¬ x13 = 0 ∨ ¬ x14 = 0)))
theorem pg_257 (H : ∀ z, pg_is z (pg_D x12 x13 x14 x15) → wL_lawOf_297 post mc ms x0 x4 x6 x15 z kc ks w d a1 a2 a3 a4 a5 a6 a7 a8) : wL_lawOf_257 post mc ms x0 x4 x6 x12 x13 x14 x15 kc ks w d a1 a2 a3 a4 a5 a6 a7 a8 := by
  have T : pg_D x12 x13 x14 x15 → wL_lawOf_292 post mc ms x0 x4 x6 x15 kc ks w d a1 a2 a3 a4 a5 a6 a7 a8 := fun t => H 1 (pg_isT t)
  have F : ¬ pg_D x12 x13 x14 x15 → wL_lawOf_296 post mc ms x0 x4 x6 x15 kc ks w d a1 a2 a3 a4 a5 a6 a7 a8 := fun t => H 0 (pg_isF t)
  have K : (x12 - x12 / 2 * 2) = 1 → ¬ (¬ x13 = 0 ∧ ¬ x14 = 0) → wL_lawOf_277 post mc ms x0 x4 x6 x13 x14 x15 kc ks w d a1 a2 a3 a4 a5 a6 a7 a8 := by
    intro e n
    unfold wL_lawOf_277
    refine br_c (fun h => F (fun t => ?_)) (fun h => br_c (fun g => br_c (fun k => F (fun t => ?_)) (fun k => T ⟨e, Or.inr ⟨h, Or.inr k⟩⟩)) (fun g => T ⟨e, Or.inr ⟨h, Or.inl g⟩⟩))
    · rcases t.2 with t | t
      · exact n t
      · exact t.1 h
    · rcases t.2 with t | t
      · exact n t
      · rcases t.2 with t | t
        · exact t g
        · exact t k
  unfold wL_lawOf_257
  exact ⟨by decide, br_c (fun e => br_c (fun g => K e (fun t => t.1 g)) (fun g => br_c (fun k => K e (fun t => t.2 k)) (fun k => T ⟨e, Or.inl ⟨g, k⟩⟩))) (fun e => F (fun t => e t.1))⟩
theorem pg_240 (H : ∀ y15 z, pg_is y15 (¬ x10 = 0 ∧ x1 = 1) → pg_is z (pg_D x12 x13 x14 y15) → wL_lawOf_297 post mc ms x0 x4 x6 y15 z kc ks w d a1 a2 a3 a4 a5 a6 a7 a8) : wL_lawOf_240 post mc ms x0 x1 x4 x6 x10 x12 x13 x14 kc ks w d a1 a2 a3 a4 a5 a6 a7 a8 := by
  unfold wL_lawOf_240 wL_lawOf_256
  exact br_c (fun h => pg_257 (fun z hz => H 0 z (pg_isF (fun t => t.1 h)) hz)) (fun h => br_c (fun g => pg_257 (fun z hz => H 1 z (pg_isT ⟨h, g⟩) hz)) (fun g => pg_257 (fun z hz => H 0 z (pg_isF (fun t => g t.2)) hz)))
theorem pg_218 (H : ∀ y14 y15 z, pg_is y14 (x10 = 0 ∨ ((x3 >>> ((3 : Int32) &&& 31)) &&& 7) = x0) → pg_is y15 (¬ x10 = 0 ∧ x1 = 1) → pg_is z (pg_D x12 x13 y14 y15) → wL_lawOf_297 post mc ms x0 x4 x6 y15 z kc ks w d a1 a2 a3 a4 a5 a6 a7 a8) : wL_lawOf_218 post mc ms x0 x1 x3 x4 x6 x10 x12 x13 kc ks w d a1 a2 a3 a4 a5 a6 a7 a8 := by
  unfold wL_lawOf_218 wL_lawOf_235
  refine br_c (fun h => pg_240 (fun y z => H 1 y z (pg_isT (Or.inl h)))) (fun h => br_c (fun g => pg_240 (fun y z => H 1 y z (pg_isT (Or.inr g)))) (fun g => pg_240 (fun y z => H 0 y z (pg_isF (fun t => ?_)))))
  exact t.elim h g
theorem pg_198 (H : ∀ y13 y14 y15 z, pg_is y13 (x10 = 0 ∨ (x3 &&& 7) = x0) → pg_is y14 (x10 = 0 ∨ ((x3 >>> ((3 : Int32) &&& 31)) &&& 7) = x0) → pg_is y15 (¬ x10 = 0 ∧ x1 = 1) → pg_is z (pg_D x12 y13 y14 y15) → wL_lawOf_297 post mc ms x0 x4 x6 y15 z kc ks w d a1 a2 a3 a4 a5 a6 a7 a8) : wL_lawOf_198 post mc ms x0 x1 x3 x4 x6 x10 x12 kc ks w d a1 a2 a3 a4 a5 a6 a7 a8 := by
  unfold wL_lawOf_198 wL_lawOf_213
  refine br_c (fun h => pg_218 (fun y14 y z => H 1 y14 y z (pg_isT (Or.inl h)))) (fun h => br_c (fun g => pg_218 (fun y14 y z => H 1 y14 y z (pg_isT (Or.inr g)))) (fun g => pg_218 (fun y14 y z => H 0 y14 y z (pg_isF (fun t => ?_)))))
  exact t.elim h g
/-- how the script and the game go together: not set, or set -/
def pg_X (x10 x1 x2 x3 : Int32) (q o c f s : Nat) : Prop :=
  (x10 = 0 ∧ o = 0 ∧ c = 0 ∧ f = q ∧ s = q) ∨ (x10 = 1 ∧ x1 = nI o ∧ x2 = nI c ∧ x3 &&& 7 = nI f ∧ (x3 >>> ((3 : Int32) &&& 31)) &&& 7 = nI s)
theorem pg_n198 {q o c c0 f s : Nat} (hp : post 1 ()) (h : pg_P q o c f s w a1 a2 a3) (hX : pg_X x10 x1 x2 x3 q o c0 f s) : wL_lawOf_198 post mc ms (nI q) x1 x3 x4 0 x10 (nI c) kc ks w d a1 a2 a3 a4 a5 a6 a7 a8 := by
  refine pg_198 (fun y13 y14 y15 z h13 h14 h15 hz => ?_)
  have hq := h.1
  have ho := h.2.1
  have hc := h.2.2.1
  have hf := h.2.2.2.1
  have hs := h.2.2.2.2.1
  have k13 : (x10 = 0 ∨ (x3 &&& 7) = nI q) ↔ f = q := by
    rcases hX with ⟨e, _, _, e1, _⟩ | ⟨e, _, _, e1, _⟩
    · exact iff_of_true (Or.inl e) e1
    · rw [e1, nI_eq (by omega) (by omega), e]
      exact ⟨fun t => t.elim (fun u => absurd u (by decide)) id, Or.inr⟩
  have k14 : (x10 = 0 ∨ ((x3 >>> ((3 : Int32) &&& 31)) &&& 7) = nI q) ↔ s = q := by
    rcases hX with ⟨e, _, _, _, e1⟩ | ⟨e, _, _, _, e1⟩
    · exact iff_of_true (Or.inl e) e1
    · rw [e1, nI_eq (by omega) (by omega), e]
      exact ⟨fun t => t.elim (fun u => absurd u (by decide)) id, Or.inr⟩
  have k15 : (¬ x10 = 0 ∧ x1 = 1) ↔ o = 1 := by
    rcases hX with ⟨e, e1, _⟩ | ⟨e, e1, _⟩
    · exact iff_of_false (fun t => t.1 e) (by omega)
    · rw [e1, e, show (1 : Int32) = nI 1 from rfl, nI_eq (by omega) (by omega)]
      exact ⟨fun t => t.2, fun t => ⟨by decide, t⟩⟩
  have h15' : pg_is y15 (o = 1) := by
    unfold pg_is
    rw [← k15]
    exact h15
  have kz : pg_D (nI c) y13 y14 y15 ↔ pg_lose q o c f s = true := by
    unfold pg_D pg_lose
    rw [pg_isN h13, pg_isN h14, pg_isN h15, pg_rem2 c hc, k13, k14, k15, decide_eq_true_iff]
  have hz' : pg_is z (pg_lose q o c f s = true) := by
    unfold pg_is
    rw [← kz]
    exact hz
  exact pg_297 hp h h15' hz'
theorem pg_134w {q o c f s : Nat} (hp : post 1 ()) (h : pg_P q o c f s w a1 a2 a3) (hX : pg_X x10 x1 x2 x3 q o c f s) (hx : x4 < 0 ∨ ¬ x4 ≤ 5) : wL_lawOf_134 post mc ms (nI q) x1 x2 x3 x4 0 x10 1 kc ks w d a1 a2 a3 a4 a5 a6 a7 a8 := by
  unfold wL_lawOf_134 wL_lawOf_173
  have t : wL_lawOf_198 post mc ms (nI q) x1 x3 x4 0 x10 (nI c) kc ks w d a1 a2 a3 a4 a5 a6 a7 a8 := pg_n198 hp h hX
  refine pg_paintW h.1 hx (br_t rfl (br_f (by decide) (br_t rfl (br_f (by decide) ?_))))
  rcases hX with ⟨e, _, e1, _⟩ | ⟨e, _, e1, _⟩
  · subst e1
    exact br_t e t
  · rw [e1]
    exact br_f (by rw [e]; decide) t
theorem pg_134 {q o c c' f s : Nat} (hp : post 1 ()) (h : pg_P q o c f s w a1 a2 a3) (hX : pg_X x10 x1 x2 x3 q o c f s) (hc' : c' < 6) : wL_lawOf_134 post mc ms (nI q) x1 x2 x3 (nI c') 0 x10 0 kc ks w d a1 a2 a3 a4 a5 a6 a7 a8 := by
  unfold wL_lawOf_134 wL_lawOf_173
  refine pg_paint1 h hc' (fun b1 h' => br_t rfl (br_t rfl ?_))
  have t : wL_lawOf_198 post mc ms (nI q) x1 x3 (nI c') 0 x10 (nI c') kc ks w d b1 a2 a3 a4 a5 a6 a7 a8 := pg_n198 hp h' hX
  rcases hX with ⟨e, _, e1, _⟩ | ⟨e, _, e1, _⟩
  · subst e1
    exact br_t e (br_t rfl (br_t rfl t))
  · exact br_f (by rw [e]; decide) (br_t e1.symm (br_t rfl t))
theorem pg_116 {q o c f s : Nat} (hp : post 1 ()) (h : pg_P q o c f s w a1 a2 a3) (hX : pg_X x10 x1 x2 x3 q o c f s) : wL_lawOf_116 post mc ms (nI q) x1 x2 x3 x4 0 x10 kc ks w d a1 a2 a3 a4 a5 a6 a7 a8 := by
  unfold wL_lawOf_116 wL_lawOf_129
  refine br_c (fun h0 => pg_134w hp h hX (Or.inl h0)) (fun h0 => br_c (fun h1 => ?_) (fun h1 => pg_134w hp h hX (Or.inr h1)))
  obtain ⟨c', hc', rfl⟩ := nI_of2 (M := 5) (n := 5) (by decide) h0 h1
  exact pg_134 hp h hX (by omega)
theorem pg_116b {q o c f s : Nat} (hp : post 1 ()) (h : pg_P q o c f s w a1 a2 a3) (hx : x0 < 0 ∨ ¬ x0 ≤ 7) : wL_lawOf_116 post mc ms x0 x1 x2 x3 x4 1 x10 kc ks w d a1 a2 a3 a4 a5 a6 a7 a8 := by
  have t : ∀ y12 : Int32, wL_lawOf_198 post mc ms x0 x1 x3 x4 1 x10 y12 kc ks w d a1 a2 a3 a4 a5 a6 a7 a8 := fun y12 => pg_198 (fun y13 y14 y15 z _ _ _ _ => pg_297b hp h hx)
  have k : ∀ z : Int32, wL_lawOf_134 post mc ms x0 x1 x2 x3 x4 1 x10 z kc ks w d a1 a2 a3 a4 a5 a6 a7 a8 := by
    intro z
    unfold wL_lawOf_134 wL_lawOf_173
    exact pg_paintB hx (br_f (by decide) (br_t rfl (br_c (fun _ => t _) (fun _ => br_c (fun _ => t _) (fun _ => t _)))))
  unfold wL_lawOf_116 wL_lawOf_129
  exact br_c (fun _ => k 1) (fun _ => br_c (fun _ => k 0) (fun _ => k 1))
theorem pg_56b (hp : post 1 ()) (hD : ∀ q, q < 8 → pg_P q 0 0 q q w a1 a2 a3) (hx : x0 < 0 ∨ ¬ x0 ≤ 7) (z : Int32) : wL_lawOf_56 post mc ms x0 x1 x2 x3 x4 1 x7 z kc ks w d a1 a2 a3 a4 a5 a6 a7 a8 := by
  unfold wL_lawOf_56 wL_lawOf_88
  exact br_f (by decide) (pg_setB hx (br_t rfl (br_f (by decide) (pg_116b hp (hD 0 (by omega)) hx))))
theorem pg_56 {q : Nat} {z : Int32} (hp : post 1 ()) (hD : pg_P q 0 0 q q w a1 a2 a3) (h7 : pg_is x7 (x1 < 0 ∨ ¬ x1 ≤ 1)) (hz : pg_is z (x2 < 0 ∨ ¬ x2 ≤ 5)) : wL_lawOf_56 post mc ms (nI q) x1 x2 x3 x4 0 x7 z kc ks w d a1 a2 a3 a4 a5 a6 a7 a8 := by
  unfold wL_lawOf_56 wL_lawOf_88
  have X0 : pg_X 0 x1 x2 x3 q 0 0 q q := Or.inl ⟨rfl, rfl, rfl, rfl, rfl⟩
  refine br_t rfl (br_c (fun e7 => ?_) (fun e7 => pg_setO hD.1 ((pg_isN h7).mp e7) (br_t rfl (br_f (by decide) (pg_116 hp hD X0)))))
  have n7 := (pg_is0 h7).mp e7
  have n7a : ¬ x1 < 0 := fun t => n7 (Or.inl t)
  have n7b : x1 ≤ 1 := Decidable.byContradiction (fun t => n7 (Or.inr t))
  obtain ⟨o, ho, rfl⟩ := nI_of2 (M := 1) (n := 1) (by decide) n7a n7b
  refine br_c (fun ez => ?_) (fun ez => pg_setC hD.1 (by omega) ((pg_isN hz).mp ez) (br_t rfl (br_f (by decide) (pg_116 hp hD X0))))
  have nz := (pg_is0 hz).mp ez
  have nza : ¬ x2 < 0 := fun t => nz (Or.inl t)
  have nzb : x2 ≤ 5 := Decidable.byContradiction (fun t => nz (Or.inr t))
  obtain ⟨c, hc, rfl⟩ := nI_of2 (M := 5) (n := 5) (by decide) nza nzb
  exact pg_set1 hD (by omega) (by omega) (fun w' b1 b2 b3 f s ef es h => br_t rfl (br_t rfl (pg_116 hp h (Or.inr ⟨rfl, rfl, rfl, ef, es⟩))))
theorem pg_24 (H : ∀ y7 z, pg_is y7 (x1 < 0 ∨ ¬ x1 ≤ 1) → pg_is z (x2 < 0 ∨ ¬ x2 ≤ 5) → wL_lawOf_56 post mc ms x0 x1 x2 x3 x4 x6 y7 z kc ks w d a1 a2 a3 a4 a5 a6 a7 a8) : wL_lawOf_24 post mc ms x0 x1 x2 x3 x4 x6 kc ks w d a1 a2 a3 a4 a5 a6 a7 a8 := by
  have k : ∀ y7, pg_is y7 (x1 < 0 ∨ ¬ x1 ≤ 1) → wL_lawOf_40 post mc ms x0 x1 x2 x3 x4 x6 y7 kc ks w d a1 a2 a3 a4 a5 a6 a7 a8 := by
    intro y7 h7
    unfold wL_lawOf_40 wL_lawOf_51
    exact br_c (fun h => H y7 1 h7 (pg_isT (Or.inl h))) (fun h => br_c (fun g => H y7 0 h7 (pg_isF (fun t => t.elim h (fun u => u g)))) (fun g => H y7 1 h7 (pg_isT (Or.inr g))))
  unfold wL_lawOf_24 wL_lawOf_35
  exact br_c (fun h => k 1 (pg_isT (Or.inl h))) (fun h => br_c (fun g => k 0 (pg_isF (fun t => t.elim h (fun u => u g)))) (fun g => k 1 (pg_isT (Or.inr g))))
theorem pg_lawOf (hp : post 1 ()) : wpL_lawOf post 58 928 () x0 x1 x2 x3 x4 := by
  unfold wpL_lawOf wL_lawOf_19
  refine ⟨by omega, by omega, 8, 70, by omega, by omega, pg_init (fun w d b1 b2 b3 b4 b5 b6 b7 b8 hD => ?_)⟩
  refine br_c (fun h => pg_24 (fun y7 z _ _ => pg_56b hp hD (Or.inl h) z)) (fun h => br_c (fun g => ?_) (fun g => pg_24 (fun y7 z _ _ => pg_56b hp hD (Or.inr g) z)))
  obtain ⟨q, hq, rfl⟩ := nI_of2 (M := 7) (n := 7) (by decide) h g
  exact pg_24 (fun y7 z h7 hz => pg_56 hp (hD q (by omega)) h7 hz)
end
end
section
theorem pg_cell {post : Int32 → Prop} {L : Nat} {xs : Nat → Int32} {k : Nat} (hL : L ≤ 5) (hk : k < 5) (H : ∀ r, post r) : wpL_cellAt post L xs () (nI k) := by
  unfold wpL_cellAt
  exact pk_le L k (fun _ => H _) (fun z => ⟨pk_in k L z, H _⟩)
theorem i_vc (xs : Nat → Int32) (L : Nat) (hL : L ≤ 5) : wpL_law (fun r => r = 1) L xs := by
  unfold wpL_law
  exact pg_cell (k := 0) hL (by omega) (fun r1 => pg_cell (k := 1) hL (by omega) (fun r2 => pg_cell (k := 2) hL (by omega) (fun r3 => pg_cell (k := 3) hL (by omega) (fun r4 => pg_cell (k := 4) hL (by omega) (fun r5 => ⟨58, 928, by omega, by omega, pg_lawOf rfl⟩)))))
end
