section
section
variable {bl ba t : Int32} {a1 a2 a3 a4 a5 a6 a7 a8 a9 : Nat → Int32} {N : Nat}
/-- a value of a variable: none, false, true -/
def ms_tri (x : Int32) : Prop := x = -1 ∨ x = nI 0 ∨ x = nI 1
theorem ms_m1 : ∀ c, c < 2 → ¬ (-1 : Int32) = nI c := by decide
theorem ms_clr : ∀ i, i < 8 → ∀ c, c < 2 → ∀ l, l < 16 → nI (2 ^ l) &&& (((1 : Int32) <<< (((2 * nI i) + nI c) &&& 31)) ^^^ (-1)) = if l = 2 * i + c then 0 else nI (2 ^ l) := by decide +kernel
theorem ms_p0 : ∀ l, l < 16 → ¬ nI (2 ^ l) = 0 := by decide +kernel
theorem ms_pow : ∀ l, l < 16 → (nI (2 ^ l) &&& (nI (2 ^ l) - 1)) = 0 := by decide +kernel
theorem ms_here : ∀ l, l < 16 → ∀ i, i < 8 → ((((nI (2 ^ l)).toUInt32 >>> ((2 * nI i).toUInt32 &&& Int32.toUInt32 31)).toInt32 &&& 3) = 0 ↔ ¬ l / 2 = i) := by decide +kernel
theorem ms_sg : ∀ l, l < 16 → ((((nI (2 ^ l)).toUInt32 >>> ((2 * nI (l / 2)).toUInt32 &&& Int32.toUInt32 31)).toInt32 &&& 1) = 0 ↔ l % 2 = 1) := by decide +kernel
theorem ms_sh1 : ∀ i, i < 8 → ((1 : Int32) <<< (nI i &&& 31)) = nI (2 ^ i) := by decide +kernel
theorem ms_ol {post : Int32 → Prop} {c : Int32} {k l : Nat} (hk : k < 24) (hl : l < 16) (h1 : a1 k = nI (2 ^ l)) (h3 : ∀ x, x < 8 → ms_tri (a3 x))
    (H0 : a3 (l / 2) = nI (l % 2) → post 0) (H1 : ¬ a3 (l / 2) = nI (l % 2) → post (nI (2 ^ l))) : wpX_openLiterals post (c, bl, ba, t, a1, a2, a3, a4, a5, a6, a7, a8, a9) (nI k) := by
  refine ⟨pk_in k 24 hk, nm_r (e' := nI (2 ^ l)) (by rw [nI_clamp (by omega)]; exact h1) ?_⟩
  by_cases hf : a3 (l / 2) = nI (l % 2)
  · refine pk_loop (σ := Int32) (fun n i s => wX_openLiterals_10 post c bl ba t a1 a2 a3 a4 a5 a6 a7 a8 a9 n s (nI i)) (fun i s => s = if l / 2 < i then 0 else nI (2 ^ l)) 8 0 (nI (2 ^ l)) (by omega) (by rw [if_neg (by omega)]) ?_ ?_
    · intro n s hs
      rw [if_pos (by omega)] at hs
      exact pk_le 8 8 (fun _ => by rw [hs]; exact H0 hf) (fun z => absurd z (by omega))
    · intro n i s hi hs hw
      refine pk_le 8 i (fun z => absurd z (by omega)) (fun _ => ⟨pk_in i 8 hi, ?_⟩)
      rw [nI_clamp (show i < 2 ^ 31 by omega)]
      have key : ∀ d, d < 2 → a3 i = nI d → s &&& (((1 : Int32) <<< (((2 * nI i) + a3 i) &&& 31)) ^^^ (-1)) = if l / 2 < i + 1 then 0 else nI (2 ^ l) := by
        intro d hd e
        rw [e, hs]
        by_cases hlt : l / 2 < i
        · rw [if_pos hlt, if_pos (by omega), Int32.zero_and]
        · rw [if_neg hlt, ms_clr i hi d hd l hl]
          by_cases hq : l / 2 = i
          · rw [hq, e, nI_eq (by omega) (by omega)] at hf
            rw [if_pos (by omega), if_pos (by omega)]
          · rw [if_neg (by omega), if_neg (by omega)]
      rcases h3 i hi with e | e | e
      · refine br_t (by rw [e]; decide) (nm_r (nI_1 i) (hw _ ?_))
        have hq : ¬ l / 2 = i := fun q => by
          rw [q, e] at hf
          exact ms_m1 _ (by omega) hf
        rw [hs]
        by_cases hlt : l / 2 < i
        · rw [if_pos hlt, if_pos (by omega)]
        · rw [if_neg hlt, if_neg (by omega)]
      · exact br_f (by rw [e]; exact nI_pos (by omega)) ⟨pk_in i 8 hi, nm_e (nm_r (nI_1 i) (hw _ (key 0 (by omega) e)))⟩
      · exact br_f (by rw [e]; exact nI_pos (by omega)) ⟨pk_in i 8 hi, nm_e (nm_r (nI_1 i) (hw _ (key 1 (by omega) e)))⟩
  · refine pk_loop (σ := Int32) (fun n i s => wX_openLiterals_10 post c bl ba t a1 a2 a3 a4 a5 a6 a7 a8 a9 n s (nI i)) (fun i s => s = nI (2 ^ l)) 8 0 (nI (2 ^ l)) (by omega) rfl ?_ ?_
    · intro n s hs
      exact pk_le 8 8 (fun _ => by rw [hs]; exact H1 hf) (fun z => absurd z (by omega))
    · intro n i s hi hs hw
      refine pk_le 8 i (fun z => absurd z (by omega)) (fun _ => ⟨pk_in i 8 hi, ?_⟩)
      rw [nI_clamp (show i < 2 ^ 31 by omega)]
      have key : ∀ d, d < 2 → a3 i = nI d → s &&& (((1 : Int32) <<< (((2 * nI i) + a3 i) &&& 31)) ^^^ (-1)) = nI (2 ^ l) := by
        intro d hd e
        rw [e, hs, ms_clr i hi d hd l hl]
        refine if_neg (fun q => hf ?_)
        rw [show l / 2 = i by omega, show l % 2 = d by omega]
        exact e
      rcases h3 i hi with e | e | e
      · exact br_t (by rw [e]; decide) (nm_r (nI_1 i) (hw _ hs))
      · exact br_f (by rw [e]; exact nI_pos (by omega)) ⟨pk_in i 8 hi, nm_e (nm_r (nI_1 i) (hw _ (key 0 (by omega) e)))⟩
      · exact br_f (by rw [e]; exact nI_pos (by omega)) ⟨pk_in i 8 hi, nm_e (nm_r (nI_1 i) (hw _ (key 1 (by omega) e)))⟩
theorem ms_ol2 {post : Int32 → Prop} {c : Int32} {k l : Nat} (hk : k < 24) (hl : l < 16) (h1 : a1 k = nI (2 ^ l)) (h3 : ∀ x, x < 8 → ms_tri (a5 x))
    (H0 : a5 (l / 2) = nI (l % 2) → post 0) (H1 : ¬ a5 (l / 2) = nI (l % 2) → post (nI (2 ^ l))) : wpX_openLiterals_2 post (c, bl, ba, t, a1, a2, a3, a4, a5, a6, a7, a8, a9) (nI k) := by
  refine ⟨pk_in k 24 hk, nm_r (e' := nI (2 ^ l)) (by rw [nI_clamp (by omega)]; exact h1) ?_⟩
  by_cases hf : a5 (l / 2) = nI (l % 2)
  · refine pk_loop (σ := Int32) (fun n i s => wX_openLiterals_2_10 post c bl ba t a1 a2 a3 a4 a5 a6 a7 a8 a9 n s (nI i)) (fun i s => s = if l / 2 < i then 0 else nI (2 ^ l)) 8 0 (nI (2 ^ l)) (by omega) (by rw [if_neg (by omega)]) ?_ ?_
    · intro n s hs
      rw [if_pos (by omega)] at hs
      exact pk_le 8 8 (fun _ => by rw [hs]; exact H0 hf) (fun z => absurd z (by omega))
    · intro n i s hi hs hw
      refine pk_le 8 i (fun z => absurd z (by omega)) (fun _ => ⟨pk_in i 8 hi, ?_⟩)
      rw [nI_clamp (show i < 2 ^ 31 by omega)]
      have key : ∀ d, d < 2 → a5 i = nI d → s &&& (((1 : Int32) <<< (((2 * nI i) + a5 i) &&& 31)) ^^^ (-1)) = if l / 2 < i + 1 then 0 else nI (2 ^ l) := by
        intro d hd e
        rw [e, hs]
        by_cases hlt : l / 2 < i
        · rw [if_pos hlt, if_pos (by omega), Int32.zero_and]
        · rw [if_neg hlt, ms_clr i hi d hd l hl]
          by_cases hq : l / 2 = i
          · rw [hq, e, nI_eq (by omega) (by omega)] at hf
            rw [if_pos (by omega), if_pos (by omega)]
          · rw [if_neg (by omega), if_neg (by omega)]
      rcases h3 i hi with e | e | e
      · refine br_t (by rw [e]; decide) (nm_r (nI_1 i) (hw _ ?_))
        have hq : ¬ l / 2 = i := fun q => by
          rw [q, e] at hf
          exact ms_m1 _ (by omega) hf
        rw [hs]
        by_cases hlt : l / 2 < i
        · rw [if_pos hlt, if_pos (by omega)]
        · rw [if_neg hlt, if_neg (by omega)]
      · exact br_f (by rw [e]; exact nI_pos (by omega)) ⟨pk_in i 8 hi, nm_e (nm_r (nI_1 i) (hw _ (key 0 (by omega) e)))⟩
      · exact br_f (by rw [e]; exact nI_pos (by omega)) ⟨pk_in i 8 hi, nm_e (nm_r (nI_1 i) (hw _ (key 1 (by omega) e)))⟩
  · refine pk_loop (σ := Int32) (fun n i s => wX_openLiterals_2_10 post c bl ba t a1 a2 a3 a4 a5 a6 a7 a8 a9 n s (nI i)) (fun i s => s = nI (2 ^ l)) 8 0 (nI (2 ^ l)) (by omega) rfl ?_ ?_
    · intro n s hs
      exact pk_le 8 8 (fun _ => by rw [hs]; exact H1 hf) (fun z => absurd z (by omega))
    · intro n i s hi hs hw
      refine pk_le 8 i (fun z => absurd z (by omega)) (fun _ => ⟨pk_in i 8 hi, ?_⟩)
      rw [nI_clamp (show i < 2 ^ 31 by omega)]
      have key : ∀ d, d < 2 → a5 i = nI d → s &&& (((1 : Int32) <<< (((2 * nI i) + a5 i) &&& 31)) ^^^ (-1)) = nI (2 ^ l) := by
        intro d hd e
        rw [e, hs, ms_clr i hi d hd l hl]
        refine if_neg (fun q => hf ?_)
        rw [show l / 2 = i by omega, show l % 2 = d by omega]
        exact e
      rcases h3 i hi with e | e | e
      · exact br_t (by rw [e]; decide) (nm_r (nI_1 i) (hw _ hs))
      · exact br_f (by rw [e]; exact nI_pos (by omega)) ⟨pk_in i 8 hi, nm_e (nm_r (nI_1 i) (hw _ (key 0 (by omega) e)))⟩
      · exact br_f (by rw [e]; exact nI_pos (by omega)) ⟨pk_in i 8 hi, nm_e (nm_r (nI_1 i) (hw _ (key 1 (by omega) e)))⟩
/-- the table of clauses: each of one literal -/
def ms_cl (N : Nat) (lt wt : Nat → Nat) (a1 a2 : Nat → Int32) : Prop := N ≤ 3 ∧ ∀ k, k < N → lt k < 16 ∧ wt k ≤ 50 ∧ a1 k = nI (2 ^ lt k) ∧ a2 k = nI (wt k)
def ms_sum (f : Nat → Nat) : Nat → Nat
  | 0 => 0
  | n + 1 => ms_sum f n + f n
theorem ms_loss {post : Int32 → Prop} {lt wt : Nat → Nat} (hc : ms_cl N lt wt a1 a2) (h3 : ∀ x, x < 8 → ms_tri (a3 x))
    (H : post (nI (ms_sum (fun k => if a3 (lt k / 2) = nI (lt k % 2) then wt k else 0) N))) : wpX_lossSoFar post (nI N, bl, ba, t, a1, a2, a3, a4, a5, a6, a7, a8, a9) := by
  obtain ⟨hN, hc⟩ := hc
  refine pk_loop (σ := Int32) (fun n i s => wX_lossSoFar_4 post (nI N) bl ba t a1 a2 a3 a4 a5 a6 a7 a8 a9 n s (nI i)) (fun i s => s = nI (ms_sum (fun k => if a3 (lt k / 2) = nI (lt k % 2) then wt k else 0) i)) N 0 (nI 0) (by omega) rfl ?_ ?_
  · intro n s hs
    exact pk_le N N (fun _ => by rw [hs]; exact H) (fun z => absurd z (by omega))
  · intro n i s hi hs hw
    obtain ⟨h16, h50, e1, e2⟩ := hc i hi
    refine pk_le N i (fun z => absurd z (by omega)) (fun _ => ms_ol (by omega) h16 e1 h3 (fun e => br_t rfl ⟨pk_in i 24 (by omega), nm_r (e' := nI (ms_sum (fun k => if a3 (lt k / 2) = nI (lt k % 2) then wt k else 0) (i + 1))) ?_ (nm_r (nI_1 i) (hw _ rfl))⟩) (fun e => br_f (ms_p0 _ h16) (nm_r (e' := nI (ms_sum (fun k => if a3 (lt k / 2) = nI (lt k % 2) then wt k else 0) (i + 1))) ?_ (nm_r (nI_1 i) (hw _ rfl)))))
    · show _ = nI (ms_sum _ i + (if a3 (lt i / 2) = nI (lt i % 2) then wt i else 0))
      rw [nI_clamp (by omega), e2, hs, nI_add, if_pos e]
    · show _ = nI (ms_sum _ i + (if a3 (lt i / 2) = nI (lt i % 2) then wt i else 0))
      rw [hs, Int32.add_zero, if_neg e, Nat.add_zero]
theorem ms_vo {post : Int32 → Prop} {c : Int32} {k l : Nat} (hk : k < 24) (hl : l < 16) (h1 : a1 k = nI (2 ^ l)) (H : post (nI (2 ^ (l / 2)))) : wpX_variablesOf post (c, bl, ba, t, a1, a2, a3, a4, a5, a6, a7, a8, a9) (nI k) := by
  refine pk_loop (σ := Int32) (fun n i s => wX_variablesOf_4 post (nI k) c bl ba t a1 a2 a3 a4 a5 a6 a7 a8 a9 n s (nI i)) (fun i s => s = if l / 2 < i then nI (2 ^ (l / 2)) else 0) 8 0 0 (by omega) (by rw [if_neg (by omega)]) ?_ ?_
  · intro n s hs
    rw [if_pos (by omega)] at hs
    exact pk_le 8 8 (fun _ => by rw [hs]; exact H) (fun z => absurd z (by omega))
  · intro n i s hi hs hw
    refine pk_le 8 i (fun z => absurd z (by omega)) (fun _ => ⟨pk_in k 24 hk, ?_⟩)
    rw [nI_clamp (show k < 2 ^ 31 by omega), h1]
    by_cases hq : l / 2 = i
    · refine br_f (fun z => (ms_here l hl i hi).mp z hq) (nm_e (nm_r (nI_1 i) (hw _ ?_)))
      rw [hs, if_neg (by omega), if_pos (by omega), Int32.zero_or, ms_sh1 i hi, hq]
    · refine br_t ((ms_here l hl i hi).mpr hq) (nm_e (nm_r (nI_1 i) (hw _ ?_)))
      rw [hs, Int32.or_zero]
      by_cases hlt : l / 2 < i
      · rw [if_pos hlt, if_pos (by omega)]
      · rw [if_neg hlt, if_neg (by omega)]
theorem ms_step {post : Int32 → St2 → Prop} {k l T : Nat} (hl : l < 16) (hT : T < 8) (H0 : ¬ a5 (l / 2) < 0 → post 0 (nI N, bl, ba, nI T, a1, a2, a3, a4, a5, a6, a7, a8, a9))
    (H1 : a5 (l / 2) < 0 → post 1 (nI N, bl, ba, nI (T + 1), a1, a2, a3, a4, upd a5 (l / 2) (nI (1 - l % 2)), upd a6 (l / 2) (nI k), upd a7 T (nI (l / 2)), a8, a9)) : wpX_step post (nI N, bl, ba, nI T, a1, a2, a3, a4, a5, a6, a7, a8, a9) (nI k) (nI (2 ^ l)) := by
  refine br_t (ms_pow l hl) ?_
  have skip : ∀ n i, i < 8 → ¬ l / 2 = i → wX_step_12 post (nI k) (nI (2 ^ l)) (nI N) bl ba (nI T) a1 a2 a3 a4 a5 a6 a7 a8 a9 n (nI (i + 1)) → wX_step_12 post (nI k) (nI (2 ^ l)) (nI N) bl ba (nI T) a1 a2 a3 a4 a5 a6 a7 a8 a9 (n + 1) (nI i) := by
    intro n i hi hne hw
    exact pk_le 8 i (fun z => absurd z (by omega)) (fun _ => br_t ((ms_here l hl i hi).mpr hne) (br_t rfl (nm_r (nI_1 i) hw)))
  have hh : ¬ (((nI (2 ^ l)).toUInt32 >>> ((2 * nI (l / 2)).toUInt32 &&& Int32.toUInt32 31)).toInt32 &&& 3) = 0 := fun z => (ms_here l hl (l / 2) (by omega)).mp z rfl
  have h1 : ¬ (1 : Int32) = 0 := by decide
  by_cases hn : a5 (l / 2) < 0
  · refine pk_loop (σ := Unit) (fun n i _ => wX_step_12 post (nI k) (nI (2 ^ l)) (nI N) bl ba (nI T) a1 a2 a3 a4 a5 a6 a7 a8 a9 n (nI i)) (fun _ _ => True) (l / 2) 0 () (by omega) trivial ?_ (fun n i _ hi _ hw => skip n i (by omega) (by omega) (hw () trivial))
    intro n _ _
    refine pk_le 8 (l / 2) (fun z => absurd z (by omega)) (fun _ => br_f hh (br_f h1 ⟨pk_in (l / 2) 8 (by omega), ?_⟩))
    rw [nI_clamp (show l / 2 < 2 ^ 31 by omega)]
    refine br_f (Int32.not_le.mpr hn) ?_
    have H2 := H1 hn
    by_cases hs : l % 2 = 1
    · rw [hs] at H2
      exact br_t ((ms_sg l hl).mpr hs) ⟨pk_in (l / 2) 8 (by omega), nm_r (by rw [nI_clamp (by omega)]; rfl) ⟨pk_in (l / 2) 8 (by omega), nm_r (by rw [nI_clamp (by omega)]) ⟨pk_in T 8 hT, nm_r (by rw [nI_clamp (by omega)]) (nm_r (nI_1 T) H2)⟩⟩⟩
    · rw [show l % 2 = 0 by omega] at H2
      exact br_f (fun z => hs ((ms_sg l hl).mp z)) ⟨pk_in (l / 2) 8 (by omega), nm_r (by rw [nI_clamp (by omega)]; rfl) ⟨pk_in (l / 2) 8 (by omega), nm_r (by rw [nI_clamp (by omega)]) ⟨pk_in T 8 hT, nm_r (by rw [nI_clamp (by omega)]) (nm_r (nI_1 T) H2)⟩⟩⟩
  · refine pk_loop (σ := Unit) (fun n i _ => wX_step_12 post (nI k) (nI (2 ^ l)) (nI N) bl ba (nI T) a1 a2 a3 a4 a5 a6 a7 a8 a9 n (nI i)) (fun _ _ => True) 8 0 () (by omega) trivial (fun n _ _ => pk_le 8 8 (fun _ => H0 hn) (fun z => absurd z (by omega))) ?_
    intro n i _ hi _ hw
    by_cases hq : l / 2 = i
    · subst hq
      refine pk_le 8 (l / 2) (fun z => absurd z (by omega)) (fun _ => br_f hh (br_f h1 ⟨pk_in (l / 2) 8 (by omega), ?_⟩))
      rw [nI_clamp (show l / 2 < 2 ^ 31 by omega)]
      exact br_t (Int32.not_lt.mp hn) (nm_r (nI_1 _) (hw () trivial))
    · exact skip n i hi hq (hw () trivial)
end
end
section
section
variable {bl ba t : Int32} {a1 a2 a3 a4 a5 a6 a7 a8 a9 : Nat → Int32} {N : Nat} {lt wt U : Nat → Nat}
/-- a clause that unit steps follow -/
def ms_act (wt U : Nat → Nat) (k : Nat) : Prop := wt k = 0 ∨ 0 < U k
/-- no two active clauses below M oppose each other -/
def ms_nc (M : Nat) (lt wt U : Nat → Nat) : Prop := ∀ i j, i < M → j < M → ms_act wt U i → ms_act wt U j → lt i / 2 = lt j / 2 → lt i = lt j
/-- k is the first active clause that an earlier active one, j, opposes -/
def ms_conf (N : Nat) (lt wt U : Nat → Nat) (k j : Nat) : Prop := j < k ∧ k < N ∧ ms_act wt U j ∧ ms_act wt U k ∧ lt j / 2 = lt k / 2 ∧ lt j ≠ lt k ∧ ms_nc k lt wt U
def ms_tr (v j T : Nat) (a6 a7 : Nat → Int32) : Prop := T ≤ 8 ∧ a6 v = nI j ∧ (∃ s, s < T ∧ a7 s = nI v) ∧ ∀ s, s < T → ∃ x, x < 8 ∧ a7 s = nI x
/-- the unit steps' state ahead of clause k in the first pass -/
def ms_us (k T : Nat) (lt wt U : Nat → Nat) (a3 a5 a6 a7 : Nat → Int32) : Prop := T ≤ k ∧ (∀ s, s < T → ∃ x, x < 8 ∧ a7 s = nI x) ∧ ∀ x, x < 8 → (a5 x = a3 x ∧ (a3 x = -1 → ∀ j, j < k → ms_act wt U j → lt j / 2 ≠ x)) ∨ (∃ j, j < k ∧ ms_act wt U j ∧ lt j / 2 = x ∧ a5 x = nI (1 - lt j % 2) ∧ a6 x = nI j ∧ (∃ s, s < T ∧ a7 s = nI x) ∧ ∀ i, i < k → ms_act wt U i → lt i / 2 = x → lt i = lt j)
theorem ms_usA {k T : Nat} (h : ms_us k T lt wt U a3 a5 a6 a7) (hn : ¬ ms_act wt U k) : ms_us (k + 1) T lt wt U a3 a5 a6 a7 := by
  obtain ⟨h1, h2, h4⟩ := h
  have aux : ∀ j, j < k + 1 → ms_act wt U j → j < k := fun j hj ha => by
    rcases Nat.lt_or_ge j k with q | q
    · exact q
    · have e : j = k := by omega
      rw [e] at ha
      exact absurd ha hn
  refine ⟨by omega, h2, fun x hx => ?_⟩
  rcases h4 x hx with ⟨e, f⟩ | ⟨j, hj, ha, hv, h5, h6, hs, hu⟩
  · exact Or.inl ⟨e, fun q j hj ha => f q j (aux j hj ha) ha⟩
  · exact Or.inr ⟨j, by omega, ha, hv, h5, h6, hs, fun i hi hai => hu i (aux i hi hai) hai⟩
theorem ms_neg1 {x : Int32} (h : ms_tri x) (hn : x < 0) : x = -1 := by
  rcases h with e | e | e
  · exact e
  · rw [e] at hn
    exact absurd hn (nI_pos (by omega))
  · rw [e] at hn
    exact absurd hn (nI_pos (by omega))
theorem ms_usB {k T : Nat} (h : ms_us k T lt wt U a3 a5 a6 a7) (hp : ¬ a5 (lt k / 2) < 0) (hf : ¬ a5 (lt k / 2) = nI (lt k % 2)) : ms_us (k + 1) T lt wt U a3 a5 a6 a7 := by
  obtain ⟨h1, h2, h4⟩ := h
  refine ⟨by omega, h2, fun x hx => ?_⟩
  rcases h4 x hx with ⟨e, f⟩ | ⟨j, hj, ha, hv, h5, h6, hs, hu⟩
  · refine Or.inl ⟨e, fun q j hj ha z => ?_⟩
    rcases Nat.lt_or_ge j k with y | y
    · exact f q j y ha z
    · have ej : j = k := by omega
      rw [ej] at z
      rw [z, e, q] at hp
      exact hp (by decide)
  · refine Or.inr ⟨j, by omega, ha, hv, h5, h6, hs, fun i hi hai z => ?_⟩
    rcases Nat.lt_or_ge i k with y | y
    · exact hu i y hai z
    · have ei : i = k := by omega
      rw [ei] at z ⊢
      rw [z, h5, nI_eq (by omega) (by omega)] at hf
      omega
theorem ms_usC {k T : Nat} (h : ms_us k T lt wt U a3 a5 a6 a7) (ha : ms_act wt U k) (hl : lt k < 16) (h3 : ∀ x, x < 8 → ms_tri (a3 x)) (hn : a5 (lt k / 2) < 0) :
    ms_us (k + 1) (T + 1) lt wt U a3 (upd a5 (lt k / 2) (nI (1 - lt k % 2))) (upd a6 (lt k / 2) (nI k)) (upd a7 T (nI (lt k / 2))) := by
  obtain ⟨h1, h2, h4⟩ := h
  have none : ∀ j, j < k → ms_act wt U j → lt j / 2 ≠ lt k / 2 := by
    rcases h4 (lt k / 2) (by omega) with ⟨e, f⟩ | ⟨j, hj, haj, hv, h5, h6, hs, hu⟩
    · rw [e] at hn
      exact f (ms_neg1 (h3 _ (by omega)) hn)
    · rw [h5] at hn
      exact absurd hn (nI_pos (by omega))
  refine ⟨by omega, fun s hs => ?_, fun x hx => ?_⟩
  · by_cases q : s = T
    · rw [q, pk_us]
      exact ⟨lt k / 2, by omega, rfl⟩
    · rw [pk_un q]
      exact h2 s (by omega)
  · by_cases q : x = lt k / 2
    · subst q
      refine Or.inr ⟨k, by omega, ha, rfl, pk_us, pk_us, ⟨T, by omega, pk_us⟩, fun i hi hai z => ?_⟩
      rcases Nat.lt_or_ge i k with y | y
      · exact absurd z (none i y hai)
      · rw [show i = k by omega]
    · rcases h4 x hx with ⟨e, f⟩ | ⟨j, hj, haj, hv, h5, h6, ⟨s, hs, hsv⟩, hu⟩
      · refine Or.inl ⟨by rw [pk_un q]; exact e, fun z j hj haj => ?_⟩
        rcases Nat.lt_or_ge j k with y | y
        · exact f z j y haj
        · rw [show j = k by omega]
          exact fun z => q z.symm
      · refine Or.inr ⟨j, by omega, haj, hv, by rw [pk_un q]; exact h5, by rw [pk_un q]; exact h6, ⟨s, by omega, by rw [pk_un (by omega)]; exact hsv⟩, fun i hi hai z => ?_⟩
        rcases Nat.lt_or_ge i k with y | y
        · exact hu i y hai z
        · rw [show i = k by omega] at z
          exact absurd z.symm q
theorem ms_usT {k T : Nat} (h : ms_us k T lt wt U a3 a5 a6 a7) (h3 : ∀ x, x < 8 → ms_tri (a3 x)) : ∀ x, x < 8 → ms_tri (a5 x) := by
  intro x hx
  rcases h.2.2 x hx with ⟨e, _⟩ | ⟨j, _, _, _, h5, _⟩
  · rw [e]
    exact h3 x hx
  · rw [h5]
    rcases Nat.mod_two_eq_zero_or_one (lt j) with q | q
    · rw [q]
      exact Or.inr (Or.inr rfl)
    · rw [q]
      exact Or.inr (Or.inl rfl)
/-- what an active clause finds at its variable, if the values leave it open -/
theorem ms_usV {k T i : Nat} (h : ms_us k T lt wt U a3 a5 a6 a7) (h3 : ∀ x, x < 8 → ms_tri (a3 x)) (hl : lt i < 16) (hs : ¬ a3 (lt i / 2) = nI (lt i % 2)) (hi : i < k) (ha : ms_act wt U i) : a5 (lt i / 2) = nI (1 - lt i % 2) := by
  rcases h.2.2 (lt i / 2) (by omega) with ⟨e, f⟩ | ⟨j, hj, haj, hv, h5, h6, _, hu⟩
  · rw [e]
    rcases h3 (lt i / 2) (by omega) with q | q | q
    · exact absurd rfl (f q i hi ha)
    · rw [q, nI_eq (by omega) (by omega)] at hs
      rw [q, show lt i % 2 = 1 by omega]
    · rw [q, nI_eq (by omega) (by omega)] at hs
      rw [q, show lt i % 2 = 0 by omega]
  · rw [h5, hu i hi ha rfl]
theorem ms_usN {k T : Nat} (h : ms_us k T lt wt U a3 a5 a6 a7) (h3 : ∀ x, x < 8 → ms_tri (a3 x)) (hl : ∀ i, i < k → lt i < 16) (hs : ∀ i, i < k → ms_act wt U i → ¬ a3 (lt i / 2) = nI (lt i % 2)) : ms_nc k lt wt U := by
  intro i j hi hj hai haj e
  have e1 := ms_usV h h3 (hl i hi) (hs i hi hai) hi hai
  have e2 := ms_usV h h3 (hl j hj) (hs j hj haj) hj haj
  rw [e, e2, nI_eq (by omega) (by omega)] at e1
  omega
theorem ms_usX {k T : Nat} (h : ms_us k T lt wt U a3 a5 a6 a7) (h3 : ∀ x, x < 8 → ms_tri (a3 x)) (hN : N ≤ 3) (hl : ∀ i, i < N → lt i < 16) (hs : ∀ i, i < N → ms_act wt U i → ¬ a3 (lt i / 2) = nI (lt i % 2)) (hk : k < N) (ha : ms_act wt U k)
    (hf : a5 (lt k / 2) = nI (lt k % 2)) : ∃ j, ms_conf N lt wt U k j ∧ ms_tr (lt k / 2) j T a6 a7 := by
  have hn := ms_usN h h3 (fun i hi => hl i (by omega)) (fun i hi => hs i (by omega))
  have hlk := hl k hk
  obtain ⟨h1, h2, h4⟩ := h
  rcases h4 (lt k / 2) (by omega) with ⟨e, f⟩ | ⟨j, hj, haj, hv, h5, h6, hex, hu⟩
  · rw [e] at hf
    exact absurd hf (hs k hk ha)
  · refine ⟨j, ⟨hj, hk, haj, ha, hv, fun q => ?_, hn⟩, by omega, h6, hex, h2⟩
    rw [h5, q, nI_eq (by omega) (by omega)] at hf
    omega
theorem ms_fill {f s : Nat → Int32} {i : Nat} {x : Int32} (h : ∀ j, j < i → s j = f j) (hx : x = f i) : ∀ j, j < i + 1 → upd s i x j = f j := by
  intro j hj
  by_cases e : j = i
  · rw [e, pk_us, hx]
  · rw [pk_un e]
    exact h j (by omega)
theorem ms_pass1 {post : Int32 → St2 → Prop} {J : Int32 → Int32 → Int32 → Int32 → Int32 → Int32 → (Nat → Int32) → (Nat → Int32) → (Nat → Int32) → (Nat → Int32) → (Nat → Int32) → (Nat → Int32) → (Nat → Int32) → (Nat → Int32) → (Nat → Int32) → Prop} {x2 : Int32}
    (hc : ms_cl N lt wt a1 a2) (hu : ∀ k, k < N → a8 k = nI (U k) ∧ U k ≤ 50) (h3 : ∀ x, x < 8 → ms_tri (a3 x)) (hs : ∀ i, i < N → ms_act wt U i → ¬ a3 (lt i / 2) = nI (lt i % 2))
    (H1 : ∀ k j T a5 a6 a7, ms_conf N lt wt U k j → ms_tr (lt k / 2) j T a6 a7 → post (nI k) (nI N, bl, ba, nI T, a1, a2, a3, a4, a5, a6, a7, a8, a9))
    (H2 : ∀ x1 T a5 a6 a7, ms_us N T lt wt U a3 a5 a6 a7 → J x1 (x2 + 1) (nI N) bl ba (nI T) a1 a2 a3 a4 a5 a6 a7 a8 a9)
    (h5 : ∀ x, x < 8 → a5 x = a3 x) : ∃ n, wX_unitSteps_56 post J x2 n 0 0 (nI N) bl ba 0 a1 a2 a3 a4 a5 a6 a7 a8 a9 := by
  obtain ⟨hN, hc⟩ := hc
  refine pk_loop (σ := Int32 × Nat × (Nat → Int32) × (Nat → Int32) × (Nat → Int32)) (fun n i s => wX_unitSteps_56 post J x2 n s.1 (nI i) (nI N) bl ba (nI s.2.1) a1 a2 a3 a4 s.2.2.1 s.2.2.2.1 s.2.2.2.2 a8 a9)
    (fun i s => ms_us i s.2.1 lt wt U a3 s.2.2.1 s.2.2.2.1 s.2.2.2.2) N 0 (0, 0, a5, a6, a7) (by omega) ?_ ?_ ?_
  · exact ⟨Nat.le_refl 0, fun s q => absurd q (Nat.not_lt_zero s), fun x hx => Or.inl ⟨h5 x hx, fun _ j hj => absurd hj (by omega)⟩⟩
  · intro n s hI
    obtain ⟨x1, T, b5, b6, b7⟩ := s
    exact pk_le N N (fun _ => nm_e (H2 x1 T b5 b6 b7 hI)) (fun z => absurd z (by omega))
  · intro n i s hi hI hw
    obtain ⟨x1, T, b5, b6, b7⟩ := s
    have hI' : ms_us i T lt wt U a3 b5 b6 b7 := hI
    have hw' : ∀ x1 T b5 b6 b7, ms_us (i + 1) T lt wt U a3 b5 b6 b7 → wX_unitSteps_56 post J x2 n x1 (nI (i + 1)) (nI N) bl ba (nI T) a1 a2 a3 a4 b5 b6 b7 a8 a9 := fun x1 T b5 b6 b7 q => hw (x1, T, b5, b6, b7) q
    have hT : T ≤ i := hI'.1
    obtain ⟨h16, h50, e1, e2⟩ := hc i hi
    obtain ⟨e8, hU⟩ := hu i hi
    have main : ms_act wt U i → wX_unitSteps_82 post J (wX_unitSteps_56 post J x2 n) x1 x2 (nI i) (nI N) bl ba (nI T) a1 a2 a3 a4 b5 b6 b7 a8 a9 := by
      intro ha
      unfold wX_unitSteps_82
      refine ms_ol2 (by omega) h16 e1 (ms_usT hI' h3) (fun e => br_t rfl ?_) (fun e => br_f (ms_p0 _ h16) ?_)
      · obtain ⟨j, hcf, htr⟩ := ms_usX hI' h3 hN (fun q hq => (hc q hq).1) hs hi ha e
        exact H1 i j T b5 b6 b7 hcf htr
      · refine ms_step h16 (by omega) (fun hp => br_t rfl ?_) (fun hn => br_f (by decide) (nm_r (nI_1 i) (hw' 1 (T + 1) _ _ _ (ms_usC hI' ha h16 h3 hn))))
        by_cases hx : x1 = 0
        · exact br_t hx (nm_r (nI_1 i) (hw' 0 T b5 b6 b7 (ms_usB hI' hp e)))
        · exact br_f hx (nm_r (nI_1 i) (hw' 1 T b5 b6 b7 (ms_usB hI' hp e)))
    show wX_unitSteps_56 post J x2 (n + 1) x1 (nI i) (nI N) bl ba (nI T) a1 a2 a3 a4 b5 b6 b7 a8 a9
    refine pk_le N i (fun z => absurd z (by omega)) (fun _ => ⟨pk_in i 24 (by omega), ?_⟩)
    rw [nI_clamp (show i < 2 ^ 31 by omega)]
    by_cases hw0 : wt i = 0
    · exact br_t (by rw [e2, hw0]; rfl) (main (Or.inl hw0))
    · refine br_f (by rw [e2]; exact nI_ne0 (by omega) (by omega)) ⟨pk_in i 24 (by omega), ?_⟩
      by_cases hU0 : U i = 0
      · have hna : ¬ ms_act wt U i := fun q => by
          rcases q with q | q
          · exact hw0 q
          · omega
        exact br_t (by rw [e8, hU0]; decide) (nm_r (nI_1 i) (hw' _ _ _ _ _ (ms_usA hI' hna)))
      · exact br_f (by rw [e8]; exact nI_nle (by omega) (by omega)) (main (Or.inr (by omega)))
theorem ms_pass2 {post : Int32 → St2 → Prop} {J : Int32 → Int32 → Int32 → Int32 → Int32 → Int32 → (Nat → Int32) → (Nat → Int32) → (Nat → Int32) → (Nat → Int32) → (Nat → Int32) → (Nat → Int32) → (Nat → Int32) → (Nat → Int32) → (Nat → Int32) → Prop} {x2 : Int32} {T : Nat}
    (hc : ms_cl N lt wt a1 a2) (hu : ∀ k, k < N → a8 k = nI (U k) ∧ U k ≤ 50) (h5 : ∀ x, x < 8 → ms_tri (a5 x)) (hT : T < 8) (hs : ∀ i, i < N → ms_act wt U i → a5 (lt i / 2) = nI (1 - lt i % 2))
    (H : J 0 (x2 + 1) (nI N) bl ba (nI T) a1 a2 a3 a4 a5 a6 a7 a8 a9) : ∃ n, wX_unitSteps_56 post J x2 n 0 0 (nI N) bl ba (nI T) a1 a2 a3 a4 a5 a6 a7 a8 a9 := by
  obtain ⟨hN, hc⟩ := hc
  refine pk_loop (σ := Unit) (fun n i _ => wX_unitSteps_56 post J x2 n 0 (nI i) (nI N) bl ba (nI T) a1 a2 a3 a4 a5 a6 a7 a8 a9) (fun _ _ => True) N 0 () (by omega) trivial (fun n _ _ => pk_le N N (fun _ => nm_e H) (fun z => absurd z (by omega))) ?_
  intro n i _ hi _ hw
  have hw' := hw () trivial
  obtain ⟨h16, h50, e1, e2⟩ := hc i hi
  obtain ⟨e8, hU⟩ := hu i hi
  have main : ms_act wt U i → wX_unitSteps_82 post J (wX_unitSteps_56 post J x2 n) 0 x2 (nI i) (nI N) bl ba (nI T) a1 a2 a3 a4 a5 a6 a7 a8 a9 := by
    intro ha
    have ha5 := hs i hi ha
    unfold wX_unitSteps_82
    refine ms_ol2 (by omega) h16 e1 h5 (fun e => ?_) (fun e => br_f (ms_p0 _ h16) ?_)
    · rw [ha5, nI_eq (by omega) (by omega)] at e
      exact absurd e (by omega)
    · refine ms_step h16 hT (fun hp => br_t rfl (br_t rfl (nm_r (nI_1 i) hw'))) (fun hn => ?_)
      rw [ha5] at hn
      exact absurd hn (nI_pos (by omega))
  show wX_unitSteps_56 post J x2 (n + 1) 0 (nI i) (nI N) bl ba (nI T) a1 a2 a3 a4 a5 a6 a7 a8 a9
  refine pk_le N i (fun z => absurd z (by omega)) (fun _ => ⟨pk_in i 24 (by omega), ?_⟩)
  rw [nI_clamp (show i < 2 ^ 31 by omega)]
  by_cases hw0 : wt i = 0
  · exact br_t (by rw [e2, hw0]; rfl) (main (Or.inl hw0))
  · refine br_f (by rw [e2]; exact nI_ne0 (by omega) (by omega)) ⟨pk_in i 24 (by omega), ?_⟩
    by_cases hU0 : U i = 0
    · exact br_t (by rw [e8, hU0]; decide) (nm_r (nI_1 i) hw')
    · exact br_f (by rw [e8]; exact nI_nle (by omega) (by omega)) (main (Or.inr (by omega)))
/-- unitSteps: a conflict, or none at all -/
theorem ms_unit {post : Int32 → St2 → Prop} (hc : ms_cl N lt wt a1 a2) (hu : ∀ k, k < N → a8 k = nI (U k) ∧ U k ≤ 50) (h3 : ∀ x, x < 8 → ms_tri (a3 x)) (hs : ∀ i, i < N → ms_act wt U i → ¬ a3 (lt i / 2) = nI (lt i % 2))
    (H1 : ∀ k j T a5 a6 a7, ms_conf N lt wt U k j → ms_tr (lt k / 2) j T a6 a7 → post (nI k) (nI N, bl, ba, nI T, a1, a2, a3, a4, a5, a6, a7, a8, a9))
    (H2 : ms_nc N lt wt U → ∀ t a5 a6 a7, post (-1) (nI N, bl, ba, t, a1, a2, a3, a4, a5, a6, a7, a8, a9)) : wpX_unitSteps post (nI N, bl, ba, t, a1, a2, a3, a4, a5, a6, a7, a8, a9) := by
  refine pk_loop (σ := (Nat → Int32) × (Nat → Int32)) (fun n i s => wX_unitSteps_2 post (nI N) bl ba t n (nI i) a1 a2 a3 a4 s.1 s.2 a7 a8 a9) (fun i s => ∀ x, x < i → s.1 x = a3 x) 8 0 (a5, a6) (by omega) (fun x hx => absurd hx (by omega)) ?_ ?_
  · intro n s hI
    obtain ⟨b5, b6⟩ := s
    refine pk_le 8 8 (fun _ => ⟨3, ?_⟩) (fun z => absurd z (by omega))
    refine pk_le 9 0 (fun z => absurd z (by omega)) (fun _ => br_f (by decide) ?_)
    refine ms_pass1 hc hu h3 hs H1 (fun x1 T c5 c6 c7 hus => ?_) hI
    have hn := ms_usN hus h3 (fun i hi => (hc.2 i hi).1) hs
    refine pk_le 9 1 (fun z => absurd z (by omega)) (fun _ => ?_)
    by_cases hx : x1 = 0
    · exact br_t hx (H2 hn _ _ _ _)
    · refine br_f hx (ms_pass2 hc hu (ms_usT hus h3) (by have h1 := hus.1; have h2 := hc.1; omega) (fun i hi ha => ms_usV hus h3 (hc.2 i hi).1 (hs i hi ha) hi ha) ?_)
      exact pk_le 9 2 (fun z => absurd z (by omega)) (fun _ => br_t rfl (H2 hn _ _ _ _))
  · intro n i s hi hI hw
    obtain ⟨b5, b6⟩ := s
    refine pk_le 8 i (fun z => absurd z (by omega)) (fun _ => ⟨pk_in i 8 hi, pk_in i 8 hi, nm_r (e' := upd b5 i (a3 i)) (by rw [nI_clamp (by omega)]) ⟨pk_in i 8 hi, nm_e (nm_r (nI_1 i) (hw (_, _) ?_))⟩⟩)
    exact ms_fill hI rfl
end
end
section
section
variable {bl ba t : Int32} {a1 a2 a3 a4 a5 a6 a7 a8 a9 : Nat → Int32} {N : Nat} {lt wt U : Nat → Nat}
theorem ms_bt : ∀ v, v < 8 → ∀ x, x < 8 → ((((nI (2 ^ v)).toUInt32 >>> ((nI x).toUInt32 &&& Int32.toUInt32 31)).toInt32 &&& 1) = 0 ↔ ¬ v = x) := by decide +kernel
/-- the least weight left of the soft clauses among k and j -/
def ms_least (k j : Nat) (wt U : Nat → Nat) : Nat → Nat
  | 0 => 0
  | i + 1 => if (i = k ∨ i = j) ∧ 0 < wt i ∧ (ms_least k j wt U i = 0 ∨ U i < ms_least k j wt U i) then U i else ms_least k j wt U i
theorem ms_leastS (k j : Nat) (wt U : Nat → Nat) (i : Nat) : ms_least k j wt U (i + 1) = if (i = k ∨ i = j) ∧ 0 < wt i ∧ (ms_least k j wt U i = 0 ∨ U i < ms_least k j wt U i) then U i else ms_least k j wt U i := rfl
theorem ms_leastB {k j n : Nat} (h : ∀ i, i < n → U i ≤ 50) : ms_least k j wt U n ≤ 50 := by
  induction n with
  | zero => exact Nat.zero_le 50
  | succ n ih =>
    rw [ms_leastS]
    by_cases q : (n = k ∨ n = j) ∧ 0 < wt n ∧ (ms_least k j wt U n = 0 ∨ U n < ms_least k j wt U n)
    · rw [if_pos q]
      exact h n (by omega)
    · rw [if_neg q]
      exact ih (fun i hi => h i (by omega))
theorem ms_b181 {post : Int32 → St2 → Prop} {k j m : Nat} (hc : ms_cl N lt wt a1 a2) (hu : ∀ k, k < N → a8 k = nI (U k) ∧ U k ≤ 50) (h9 : ∀ i, i < N → a9 i = if i = k ∨ i = j then 1 else 0)
    (H : ∀ b8, (∀ i, i < N → b8 i = nI (U i) - (if (i = k ∨ i = j) ∧ 0 < wt i then nI m else 0)) → post (nI m) (nI N, bl, ba, t, a1, a2, a3, a4, a5, a6, a7, b8, a9)) : ∃ n, wX_book_181 post (nI m) (nI N) bl ba t n 0 a1 a2 a3 a4 a5 a6 a7 a8 a9 := by
  obtain ⟨hN, hc⟩ := hc
  refine pk_loop (σ := Nat → Int32) (fun n i s => wX_book_181 post (nI m) (nI N) bl ba t n (nI i) a1 a2 a3 a4 a5 a6 a7 s a9) (fun i s => (∀ x, x < i → s x = nI (U x) - (if (x = k ∨ x = j) ∧ 0 < wt x then nI m else 0)) ∧ ∀ x, i ≤ x → x < N → s x = nI (U x)) N 0 a8 (by omega) ⟨fun x hx => absurd hx (by omega), fun x _ hx => (hu x hx).1⟩ ?_ ?_
  · intro n s hI
    exact pk_le N N (fun _ => H s hI.1) (fun z => absurd z (by omega))
  · intro n i s hi hI hw
    obtain ⟨h16, h50, e1, e2⟩ := hc i hi
    have es : s i = nI (U i) := hI.2 i (by omega) hi
    have aux : ∀ y, y = nI (U i) - (if (i = k ∨ i = j) ∧ 0 < wt i then nI m else 0) → (∀ x, x < i + 1 → upd s i y x = nI (U x) - (if (x = k ∨ x = j) ∧ 0 < wt x then nI m else 0)) ∧ ∀ x, i + 1 ≤ x → x < N → upd s i y x = nI (U x) := by
      intro y hy
      refine ⟨ms_fill (f := fun x => nI (U x) - (if (x = k ∨ x = j) ∧ 0 < wt x then nI m else 0)) hI.1 hy, fun x hx hxN => ?_⟩
      rw [pk_un (by omega)]
      exact hI.2 x (by omega) hxN
    refine pk_le N i (fun z => absurd z (by omega)) (fun _ => ⟨pk_in i 24 (by omega), pk_in i 24 (by omega), ?_⟩)
    rw [nI_clamp (show i < 2 ^ 31 by omega)]
    by_cases q : i = k ∨ i = j
    · refine br_f (by rw [h9 i hi, if_pos q]; decide) ⟨pk_in i 24 (by omega), ?_⟩
      by_cases w : 0 < wt i
      · refine br_f (by rw [e2]; exact nI_nle w (by omega)) ⟨pk_in i 24 (by omega), nm_e (nm_r (nI_1 i) (hw _ (aux _ ?_)))⟩
        rw [es, if_pos ⟨q, w⟩]
      · refine br_t (by rw [e2, show wt i = 0 by omega]; decide) ⟨pk_in i 24 (by omega), nm_e (nm_r (nI_1 i) (hw _ (aux _ ?_)))⟩
        rw [es, if_neg (fun z => w z.2)]
    · refine br_t (by rw [h9 i hi, if_neg q]) ⟨pk_in i 24 (by omega), nm_e (nm_r (nI_1 i) (hw _ (aux _ ?_)))⟩
      rw [es, if_neg (fun z => q z.1)]
theorem ms_b104 {post : Int32 → St2 → Prop} {k j : Nat} (hc : ms_cl N lt wt a1 a2) (hu : ∀ k, k < N → a8 k = nI (U k) ∧ U k ≤ 50) (h9 : ∀ i, i < N → a9 i = if i = k ∨ i = j then 1 else 0)
    (H : ∃ n, wX_book_181 post (nI (ms_least k j wt U N)) (nI N) bl ba t n 0 a1 a2 a3 a4 a5 a6 a7 a8 a9) : ∃ n, wX_book_104 post (nI N) bl ba t a1 a2 a3 a4 a5 a6 a7 a8 a9 n 0 0 := by
  obtain ⟨hN, hc⟩ := hc
  refine pk_loop (σ := Int32) (fun n i s => wX_book_104 post (nI N) bl ba t a1 a2 a3 a4 a5 a6 a7 a8 a9 n s (nI i)) (fun i s => s = nI (ms_least k j wt U i)) N 0 0 (by omega) rfl ?_ ?_
  · intro n s hs
    exact pk_le N N (fun _ => by rw [hs]; exact H) (fun z => absurd z (by omega))
  · intro n i s hi hs hw
    obtain ⟨h16, h50, e1, e2⟩ := hc i hi
    obtain ⟨e8, hU⟩ := hu i hi
    have hB : ms_least k j wt U i ≤ 50 := ms_leastB (fun x hx => (hu x (by omega)).2)
    have keep : ¬ ((i = k ∨ i = j) ∧ 0 < wt i ∧ (ms_least k j wt U i = 0 ∨ U i < ms_least k j wt U i)) → wX_book_104 post (nI N) bl ba t a1 a2 a3 a4 a5 a6 a7 a8 a9 n s (nI (i + 1)) := fun q => hw s (by rw [hs, ms_leastS, if_neg q])
    have take : ((i = k ∨ i = j) ∧ 0 < wt i ∧ (ms_least k j wt U i = 0 ∨ U i < ms_least k j wt U i)) → wX_book_160 post (wX_book_104 post (nI N) bl ba t a1 a2 a3 a4 a5 a6 a7 a8 a9 n) (nI i) (nI N) bl ba t a1 a2 a3 a4 a5 a6 a7 a8 a9 := fun q =>
      ⟨pk_in i 24 (by omega), nm_r (e' := nI (U i)) (by rw [nI_clamp (by omega)]; exact e8) (nm_r (nI_1 i) (hw _ (by rw [ms_leastS, if_pos q])))⟩
    refine pk_le N i (fun z => absurd z (by omega)) (fun _ => ⟨pk_in i 24 (by omega), ?_⟩)
    rw [nI_clamp (show i < 2 ^ 31 by omega)]
    by_cases q : i = k ∨ i = j
    · refine br_f (by rw [h9 i hi, if_pos q]; decide) ⟨pk_in i 24 (by omega), ?_⟩
      by_cases w : 0 < wt i
      · refine br_f (by rw [e2]; exact nI_nle w (by omega)) ?_
        unfold wX_book_138
        refine br_f (by decide) ?_
        by_cases p : ms_least k j wt U i = 0
        · exact br_t (by rw [hs, p]; rfl) (take ⟨q, w, Or.inl p⟩)
        · refine br_f (by rw [hs]; exact nI_ne0 (by omega) (by omega)) ⟨pk_in i 24 (by omega), ?_⟩
          rw [nI_clamp (show i < 2 ^ 31 by omega), e8]
          exact pk_le (ms_least k j wt U i) (U i) (fun z => nm_r (nI_1 i) (keep (fun y => by have := y.2.2; omega))) (fun z => take ⟨q, w, Or.inr z⟩) hs
      · exact br_t (by rw [e2, show wt i = 0 by omega]; decide) (br_t rfl (nm_r (nI_1 i) (keep (fun y => w y.2.1))))
    · exact br_t (by rw [h9 i hi, if_neg q]) (br_t rfl (nm_r (nI_1 i) (keep (fun y => q y.1))))
theorem ms_b45 {post : Int32 → St2 → Prop} {k j T : Nat} (hc : ms_cl N lt wt a1 a2) (hk : k < N) (hj : j < N) (hv : lt j / 2 = lt k / 2) (htr : ms_tr (lt k / 2) j T a6 a7) (h9 : ∀ i, i < N → a9 i = if i = k then 1 else 0)
    (H : ∀ b9, (∀ i, i < N → b9 i = if i = k ∨ i = j then 1 else 0) → ∃ n, wX_book_104 post (nI N) bl ba (nI T) a1 a2 a3 a4 a5 a6 a7 a8 b9 n 0 0) : ∃ n, wX_book_45 post (nI N) bl ba (nI T) n (nI (2 ^ (lt k / 2))) (nI T - 1) a1 a2 a3 a4 a5 a6 a7 a8 a9 := by
  obtain ⟨hT, h6, ⟨p, hp, hpv⟩, htr⟩ := htr
  obtain ⟨hN, hc⟩ := hc
  obtain ⟨h16, h50, e1, e2⟩ := hc j hj
  have hk16 := (hc k hk).1
  refine ⟨T + 1, pk_loopD (σ := Nat → Int32) (fun n d s => wX_book_45 post (nI N) bl ba (nI T) n (nI (2 ^ (lt k / 2))) (nI d - 1) a1 a2 a3 a4 a5 a6 a7 a8 s) (fun d s => d ≤ T ∧ (∀ i, i < N → i ≠ j → s i = if i = k then 1 else 0) ∧ ((∃ q, d ≤ q ∧ q < T ∧ a7 q = nI (lt k / 2)) → s j = 1)) ?_ ?_ T a9 ⟨Nat.le_refl T, fun i hi _ => h9 i hi, fun ⟨q, h1, h2, _⟩ => absurd h1 (by omega)⟩⟩
  · intro n s hI
    refine br_t (by decide) (H s (fun i hi => ?_))
    by_cases q : i = j
    · rw [if_pos (Or.inr q), q]
      exact hI.2.2 ⟨p, by omega, hp, hpv⟩
    · rw [hI.2.1 i hi q]
      by_cases y : i = k
      · rw [if_pos y, if_pos (Or.inl y)]
      · rw [if_neg y, if_neg (fun z => by rcases z with z | z; exact y z; exact q z)]
  · intro n d s hI hw
    obtain ⟨hd, hA, hB⟩ := hI
    obtain ⟨x, hx, hxv⟩ := htr d (by omega)
    have em : nI d + (-1) = nI d - 1 := (Int32.sub_eq_add_neg (nI d) 1).symm
    show wX_book_45 post (nI N) bl ba (nI T) (n + 1) (nI (2 ^ (lt k / 2))) (nI (d + 1) - 1) a1 a2 a3 a4 a5 a6 a7 a8 s
    rw [nI_pred]
    refine br_f (nI_pos (by omega)) ⟨pk_in d 8 (by omega), nm_r (e' := nI x) (by rw [nI_clamp (by omega)]; exact hxv) ?_⟩
    by_cases q : lt k / 2 = x
    · refine br_f (fun z => (ms_bt _ (by omega) x hx).mp z q) ⟨pk_in x 8 hx, ?_⟩
      rw [nI_clamp (show x < 2 ^ 31 by omega), ← q, h6]
      refine ⟨pk_in j 24 (by omega), nm_r (e' := upd s j 1) (by rw [nI_clamp (by omega)]) ⟨pk_in (lt k / 2) 8 (by omega), ms_vo (by omega) h16 e1 (nm_r (e' := nI (2 ^ (lt k / 2))) (by rw [hv, Int32.or_self]) (nm_r em (hw _ ?_)))⟩⟩
      refine ⟨by omega, fun i hi hij => ?_, fun _ => pk_us⟩
      rw [pk_un hij]
      exact hA i hi hij
    · refine br_t ((ms_bt _ (by omega) x hx).mpr q) (nm_r em (hw s ⟨by omega, hA, fun ⟨y, h1, h2, h4⟩ => hB ⟨y, ?_, h2, h4⟩⟩))
      rcases Nat.lt_or_ge d y with z | z
      · exact z
      · rw [show y = d by omega, hxv, nI_eq (by omega) (by omega)] at h4
        exact absurd h4.symm q
theorem ms_book {post : Int32 → St2 → Prop} {k j T : Nat} (hc : ms_cl N lt wt a1 a2) (hu : ∀ k, k < N → a8 k = nI (U k) ∧ U k ≤ 50) (hk : k < N) (hj : j < N) (hv : lt j / 2 = lt k / 2) (htr : ms_tr (lt k / 2) j T a6 a7)
    (H : ∀ b8 b9, (∀ i, i < N → b8 i = nI (U i) - (if (i = k ∨ i = j) ∧ 0 < wt i then nI (ms_least k j wt U N) else 0)) → post (nI (ms_least k j wt U N)) (nI N, bl, ba, nI T, a1, a2, a3, a4, a5, a6, a7, b8, b9)) : wpX_book post (nI N, bl, ba, nI T, a1, a2, a3, a4, a5, a6, a7, a8, a9) (nI k) := by
  have hN := hc.1
  obtain ⟨h16, h50, e1, e2⟩ := hc.2 k hk
  refine pk_loop (σ := Nat → Int32) (fun n i s => wX_book_2 post (nI k) (nI N) bl ba (nI T) n (nI i) a1 a2 a3 a4 a5 a6 a7 a8 s) (fun i s => ∀ x, x < i → s x = if x = k then 1 else 0) N 0 a9 (by omega) (fun x hx => absurd hx (by omega)) ?_ ?_
  · intro n s hI
    refine pk_le N N (fun _ => ms_vo (by omega) h16 e1 (nm_r (e' := nI T - 1) rfl ?_)) (fun z => absurd z (by omega))
    exact ms_b45 hc hk hj hv htr hI (fun b9 h9 => ms_b104 hc hu h9 (ms_b181 hc hu h9 (fun b8 h8 => H b8 b9 h8)))
  · intro n i s hi hI hw
    refine pk_le N i (fun z => absurd z (by omega)) (fun _ => pk_eq i k (fun q => ⟨pk_in i 24 (by omega), nm_r (e' := upd s i 1) (by rw [nI_clamp (by omega)]) (nm_r (nI_1 i) (hw _ ?_))⟩) (fun q => ⟨pk_in i 24 (by omega), nm_r (e' := upd s i 0) (by rw [nI_clamp (by omega)]) (nm_r (nI_1 i) (hw _ ?_))⟩))
    · exact ms_fill (f := fun x => if x = k then 1 else 0) hI (by rw [if_pos q])
    · exact ms_fill (f := fun x => if x = k then 1 else 0) hI (by rw [if_neg q])
end
end
section
section
variable {bl ba t : Int32} {a1 a2 a3 a4 a5 a6 a7 a8 a9 : Nat → Int32} {N : Nat} {lt wt U : Nat → Nat}
theorem ms_ww7 {post : Int32 → St2 → Prop} {x1 : Int32} (hc : ms_cl N lt wt a1 a2) (h3 : ∀ x, x < 8 → ms_tri (a3 x))
    (H0 : ∀ k, k < N → wt k = 0 → a3 (lt k / 2) = nI (lt k % 2) → ∀ a8, post 0 (nI N, bl, ba, t, a1, a2, a3, a4, a5, a6, a7, a8, a9))
    (H1 : (∀ k, k < N → wt k = 0 → ¬ a3 (lt k / 2) = nI (lt k % 2)) → ∀ a8, (∀ i, i < N → a8 i = nI (if a3 (lt i / 2) = nI (lt i % 2) then 0 else wt i)) → ∃ n, wX_worthwhile_93 post n x1 0 (nI N) bl ba t a1 a2 a3 a4 a5 a6 a7 a8 a9) :
    ∃ n, wX_worthwhile_7 post x1 (nI N) bl ba t n 0 a1 a2 a3 a4 a5 a6 a7 a8 a9 := by
  obtain ⟨hN, hc⟩ := hc
  refine pk_loop (σ := Nat → Int32) (fun n i s => wX_worthwhile_7 post x1 (nI N) bl ba t n (nI i) a1 a2 a3 a4 a5 a6 a7 s a9) (fun i s => (∀ x, x < i → s x = nI (if a3 (lt x / 2) = nI (lt x % 2) then 0 else wt x)) ∧ ∀ k, k < i → wt k = 0 → ¬ a3 (lt k / 2) = nI (lt k % 2)) N 0 a8 (by omega) ⟨fun x hx => absurd hx (by omega), fun x hx => absurd hx (by omega)⟩ ?_ ?_
  · intro n s hI
    exact pk_le N N (fun _ => H1 hI.2 s hI.1) (fun z => absurd z (by omega))
  · intro n i s hi hI hw
    obtain ⟨h16, h50, e1, e2⟩ := hc i hi
    have inv : ∀ y, y = nI (if a3 (lt i / 2) = nI (lt i % 2) then 0 else wt i) → (wt i = 0 → ¬ a3 (lt i / 2) = nI (lt i % 2)) → wX_worthwhile_7 post x1 (nI N) bl ba t n (nI (i + 1)) a1 a2 a3 a4 a5 a6 a7 (upd s i y) a9 := fun y hy hq =>
      hw (upd s i y) ⟨ms_fill (f := fun x => nI (if a3 (lt x / 2) = nI (lt x % 2) then 0 else wt x)) hI.1 hy, lt_s (p := fun k => wt k = 0 → ¬ a3 (lt k / 2) = nI (lt k % 2)) hI.2 hq⟩
    have put0 : (if a3 (lt i / 2) = nI (lt i % 2) then 0 else wt i) = 0 → (wt i = 0 → ¬ a3 (lt i / 2) = nI (lt i % 2)) → wX_worthwhile_63 post (wX_worthwhile_7 post x1 (nI N) bl ba t n) x1 (nI i) (nI N) bl ba t a1 a2 a3 a4 a5 a6 a7 s a9 := fun q hq =>
      br_t rfl ⟨pk_in i 24 (by omega), nm_r (e' := upd s i 0) (by rw [nI_clamp (by omega)]) (nm_r (nI_1 i) (inv 0 (by rw [q]; rfl) hq))⟩
    have w38 : (wt i = 0 → ¬ a3 (lt i / 2) = nI (lt i % 2)) → wX_worthwhile_38 post (wX_worthwhile_7 post x1 (nI N) bl ba t n) x1 (nI i) (nI N) bl ba t a1 a2 a3 a4 a5 a6 a7 s a9 := by
      intro hq
      unfold wX_worthwhile_38
      refine ⟨pk_in i 24 (by omega), ?_⟩
      rw [nI_clamp (show i < 2 ^ 31 by omega)]
      by_cases w : wt i = 0
      · exact br_t (by rw [e2, w]; decide) (put0 (by rw [if_neg (hq w)]; exact w) hq)
      · refine br_f (by rw [e2]; exact nI_nle (by omega) (by omega)) (ms_ol (by omega) h16 e1 h3 (fun e => br_t rfl (put0 (if_pos e) hq)) (fun e => br_f (ms_p0 _ h16) (br_f (by decide) ⟨pk_in i 24 (by omega), pk_in i 24 (by omega), nm_r (e' := upd s i (nI (wt i))) (by rw [nI_clamp (by omega), e2]) (nm_r (nI_1 i) (inv _ (by rw [if_neg e]) hq))⟩)))
    refine pk_le N i (fun z => absurd z (by omega)) (fun _ => ⟨pk_in i 24 (by omega), ?_⟩)
    rw [nI_clamp (show i < 2 ^ 31 by omega)]
    by_cases w : wt i = 0
    · exact br_t (by rw [e2, w]; rfl) (ms_ol (by omega) h16 e1 h3 (fun e => br_t rfl (H0 i hi w e s)) (fun e => br_f (ms_p0 _ h16) (w38 (fun _ => e))))
    · exact br_f (by rw [e2]; exact nI_ne0 (by omega) (by omega)) (w38 (fun q => absurd q w))
theorem ms_rA {post : Int32 → St2 → Prop} {n r loss best : Nat} (hc : ms_cl N lt wt a1 a2) (hu : ∀ k, k < N → a8 k = nI (U k) ∧ U k ≤ 50) (h3 : ∀ x, x < 8 → ms_tri (a3 x)) (hs : ∀ i, i < N → ms_act wt U i → ¬ a3 (lt i / 2) = nI (lt i % 2))
    (hn : ms_nc N lt wt U) (hr : r < 25) (hl : loss ≤ 2000) (hb : best ≤ 2000)
    (H0 : best ≤ loss → ∀ t a5 a6 a7, post 0 (nI N, nI best, ba, t, a1, a2, a3, a4, a5, a6, a7, a8, a9)) (H1 : loss < best → ∀ t a5 a6 a7, post 1 (nI N, nI best, ba, t, a1, a2, a3, a4, a5, a6, a7, a8, a9)) : wX_worthwhile_93 post (n + 1) (nI loss) (nI r) (nI N) (nI best) ba t a1 a2 a3 a4 a5 a6 a7 a8 a9 := by
  refine pk_le 25 r (fun z => absurd z (by omega)) (fun _ => pk_le best loss (fun z => br_t (nI_le z (by omega)) (H0 z _ _ _ _)) (fun z => ms_unit hc hu h3 hs (fun k j T b5 b6 b7 hcf _ => ?_) (fun _ t b5 b6 b7 => br_f (by decide) (H1 z _ _ _ _))))
  obtain ⟨c1, c2, c3, c4, c5, c6, c7⟩ := hcf
  exact absurd (hn j k (by omega) c2 c3 c4 c5) c6
theorem ms_rB {post : Int32 → St2 → Prop} {n r loss best k j m : Nat} (hc : ms_cl N lt wt a1 a2) (hu : ∀ k, k < N → a8 k = nI (U k) ∧ U k ≤ 50) (h3 : ∀ x, x < 8 → ms_tri (a3 x)) (hs : ∀ i, i < N → ms_act wt U i → ¬ a3 (lt i / 2) = nI (lt i % 2))
    (hn : ¬ ms_nc N lt wt U) (hcf : ∀ k' j', ms_conf N lt wt U k' j' → k' = k ∧ j' = j) (hm : ms_least k j wt U N = m) (hm0 : 0 < m) (hm50 : m ≤ 50) (hr : r < 25) (hl : loss ≤ 2000) (hb : best ≤ 2000)
    (H0 : best ≤ loss → ∀ t a5 a6 a7, post 0 (nI N, nI best, ba, t, a1, a2, a3, a4, a5, a6, a7, a8, a9))
    (H1 : loss < best → ∀ t a5 a6 a7 b8 a9, (∀ i, i < N → b8 i = nI (U i) - (if (i = k ∨ i = j) ∧ 0 < wt i then nI m else 0)) → wX_worthwhile_93 post n (nI (loss + m)) (nI (r + 1)) (nI N) (nI best) ba t a1 a2 a3 a4 a5 a6 a7 b8 a9) : wX_worthwhile_93 post (n + 1) (nI loss) (nI r) (nI N) (nI best) ba t a1 a2 a3 a4 a5 a6 a7 a8 a9 := by
  refine pk_le 25 r (fun z => absurd z (by omega)) (fun _ => pk_le best loss (fun z => br_t (nI_le z (by omega)) (H0 z _ _ _ _)) (fun z => ms_unit hc hu h3 hs (fun k' j' T b5 b6 b7 hq htr => ?_) (fun hnc => absurd hnc hn)))
  obtain ⟨ek, ej⟩ := hcf k' j' hq
  subst ek ej
  obtain ⟨c1, c2, c3, c4, c5, c6, c7⟩ := hq
  have hN := hc.1
  refine br_t (nI_pos' (by omega)) (ms_book hc hu c2 (by omega) c5 htr (fun b8 b9 h8 => ?_))
  rw [hm] at h8 ⊢
  exact br_f (nI_ne0 hm0 (by omega)) (nm_r (nI_add loss m) (nm_r (nI_1 r) (H1 z _ _ _ _ _ _ h8)))
theorem ms_l01 (h0 : 0 < wt 0) (h1 : 0 < wt 1) (u0 : 0 < U 0) (hN : N = 2 ∨ N = 3) : ms_least 1 0 wt U N = min (U 0) (U 1) := by
  have s0 : ms_least 1 0 wt U 1 = U 0 := if_pos ⟨Or.inr rfl, h0, Or.inl rfl⟩
  have s1 : ms_least 1 0 wt U 2 = min (U 0) (U 1) := by
    rw [ms_leastS, s0]
    by_cases q : U 1 < U 0
    · rw [if_pos ⟨Or.inl rfl, h1, Or.inr q⟩]
      omega
    · rw [if_neg (fun z => by have := z.2.2; omega)]
      omega
  rcases hN with e | e
  · rw [e]
    exact s1
  · rw [e, ms_leastS, if_neg (fun z => by have := z.1; omega)]
    exact s1
theorem ms_l02 (h0 : 0 < wt 0) (h2 : wt 2 = 0) : ms_least 2 0 wt U 3 = U 0 := by
  have s0 : ms_least 2 0 wt U 1 = U 0 := if_pos ⟨Or.inr rfl, h0, Or.inl rfl⟩
  rw [ms_leastS, if_neg (fun z => by have := z.2.1; omega), ms_leastS, if_neg (fun z => by have := z.1; omega)]
  exact s0
theorem ms_l12 (h1 : 0 < wt 1) (h2 : wt 2 = 0) : ms_least 2 1 wt U 3 = U 1 := by
  have s0 : ms_least 2 1 wt U 1 = 0 := by
    rw [ms_leastS, if_neg (fun z => by have := z.1; omega)]
    rfl
  rw [ms_leastS, if_neg (fun z => by have := z.2.1; omega)]
  exact if_pos ⟨Or.inr rfl, h1, Or.inl s0⟩
end
section
variable {bl ba t : Int32} {a1 a2 a3 a4 a5 a6 a7 a8 a9 : Nat → Int32} {N v h a b u0 u1 : Nat}
def ms_lt (v h : Nat) (k : Nat) : Nat := if k = 0 then 2 * v else if k = 1 then 2 * v + 1 else h
def ms_wt (a b : Nat) (k : Nat) : Nat := if k = 0 then a else if k = 1 then b else 0
/-- the law's table of clauses: two soft ones on v, perhaps a hard one h -/
def ms_set (N v h a b : Nat) (a1 a2 : Nat → Int32) : Prop := (N = 2 ∨ N = 3) ∧ v < 8 ∧ h < 16 ∧ 1 ≤ a ∧ a ≤ 50 ∧ 1 ≤ b ∧ b ≤ 50 ∧ ms_cl N (ms_lt v h) (ms_wt a b) a1 a2
theorem ms_k3 {i : Nat} (S : ms_set N v h a b a1 a2) (hi : i < N) : i = 0 ∨ i = 1 ∨ (i = 2 ∧ 2 < N) := by
  have := S.1
  omega
theorem ms_acts (S : ms_set N v h a b a1 a2) : (ms_act (ms_wt a b) (ms_wt u0 u1) 0 ↔ 0 < u0) ∧ (ms_act (ms_wt a b) (ms_wt u0 u1) 1 ↔ 0 < u1) ∧ ms_act (ms_wt a b) (ms_wt u0 u1) 2 := by
  obtain ⟨hN, hv, hh, ha, ha', hb, hb', hc⟩ := S
  refine ⟨⟨fun q => ?_, fun q => Or.inr q⟩, ⟨fun q => ?_, fun q => Or.inr q⟩, Or.inl rfl⟩
  · have q' : a = 0 ∨ 0 < u0 := q
    omega
  · have q' : b = 0 ∨ 0 < u1 := q
    omega
theorem ms_hs (S : ms_set N v h a b a1 a2) (c0 : 0 < u0 → ¬ a3 v = nI 0) (c1 : 0 < u1 → ¬ a3 v = nI 1) (c2 : 2 < N → ¬ a3 (h / 2) = nI (h % 2)) :
    ∀ i, i < N → ms_act (ms_wt a b) (ms_wt u0 u1) i → ¬ a3 (ms_lt v h i / 2) = nI (ms_lt v h i % 2) := by
  obtain ⟨A0, A1, A2⟩ := ms_acts (u0 := u0) (u1 := u1) S
  intro i hi ha
  rcases ms_k3 S hi with e | e | ⟨e, e'⟩
  · subst e
    rw [show ms_lt v h 0 = 2 * v from rfl, show 2 * v / 2 = v by omega, show 2 * v % 2 = 0 by omega]
    exact c0 (A0.mp ha)
  · subst e
    rw [show ms_lt v h 1 = 2 * v + 1 from rfl, show (2 * v + 1) / 2 = v by omega, show (2 * v + 1) % 2 = 1 by omega]
    exact c1 (A1.mp ha)
  · subst e
    exact c2 e'
theorem ms_ncI (S : ms_set N v h a b a1 a2) (n0 : 0 < u0 → 0 < u1 → False) (n1 : 2 < N → 0 < u0 → h / 2 = v → h = 2 * v) (n2 : 2 < N → 0 < u1 → h / 2 = v → h = 2 * v + 1) : ms_nc N (ms_lt v h) (ms_wt a b) (ms_wt u0 u1) := by
  obtain ⟨A0, A1, A2⟩ := ms_acts (u0 := u0) (u1 := u1) S
  have e0 : ms_lt v h 0 = 2 * v := rfl
  have e1 : ms_lt v h 1 = 2 * v + 1 := rfl
  have e2 : ms_lt v h 2 = h := rfl
  intro i j hi hj hai haj e
  rcases ms_k3 S hi with q | q | ⟨q, q'⟩
  · subst q
    rcases ms_k3 S hj with p | p | ⟨p, p'⟩
    · subst p
      rfl
    · subst p
      exact absurd (A1.mp haj) (fun y => n0 (A0.mp hai) y)
    · subst p
      rw [e0, e2] at e ⊢
      exact (n1 p' (A0.mp hai) (by omega)).symm
  · subst q
    rcases ms_k3 S hj with p | p | ⟨p, p'⟩
    · subst p
      exact absurd (A1.mp hai) (fun y => n0 (A0.mp haj) y)
    · subst p
      rfl
    · subst p
      rw [e1, e2] at e ⊢
      exact (n2 p' (A1.mp hai) (by omega)).symm
  · subst q
    rcases ms_k3 S hj with p | p | ⟨p, p'⟩
    · subst p
      rw [e0, e2] at e ⊢
      exact n1 q' (A0.mp haj) (by omega)
    · subst p
      rw [e1, e2] at e ⊢
      exact n2 q' (A1.mp haj) (by omega)
    · subst p
      rfl
theorem ms_u50 (h0 : u0 ≤ 50) (h1 : u1 ≤ 50) (i : Nat) : ms_wt u0 u1 i ≤ 50 := by
  unfold ms_wt
  by_cases e : i = 0
  · rw [if_pos e]
    exact h0
  · rw [if_neg e]
    by_cases e' : i = 1
    · rw [if_pos e']
      exact h1
    · rw [if_neg e']
      exact Nat.zero_le 50
/-- the rounds' end: no conflict is left -/
theorem ms_wA {post : Int32 → St2 → Prop} {n r loss best : Nat} (S : ms_set N v h a b a1 a2) (hu0 : u0 ≤ 50) (hu1 : u1 ≤ 50) (h8 : ∀ i, i < N → a8 i = nI (ms_wt u0 u1 i)) (h3 : ∀ x, x < 8 → ms_tri (a3 x))
    (c0 : 0 < u0 → ¬ a3 v = nI 0) (c1 : 0 < u1 → ¬ a3 v = nI 1) (c2 : 2 < N → ¬ a3 (h / 2) = nI (h % 2))
    (n0 : 0 < u0 → 0 < u1 → False) (n1 : 2 < N → 0 < u0 → h / 2 = v → h = 2 * v) (n2 : 2 < N → 0 < u1 → h / 2 = v → h = 2 * v + 1) (hr : r < 25) (hl : loss ≤ 2000) (hb : best ≤ 2000)
    (H0 : best ≤ loss → ∀ t a5 a6 a7 a8 a9, post 0 (nI N, nI best, ba, t, a1, a2, a3, a4, a5, a6, a7, a8, a9)) (H1 : loss < best → ∀ t a5 a6 a7 a8 a9, post 1 (nI N, nI best, ba, t, a1, a2, a3, a4, a5, a6, a7, a8, a9)) : wX_worthwhile_93 post (n + 1) (nI loss) (nI r) (nI N) (nI best) ba t a1 a2 a3 a4 a5 a6 a7 a8 a9 :=
  ms_rA (U := ms_wt u0 u1) S.2.2.2.2.2.2.2 (fun k hk => ⟨h8 k hk, ms_u50 hu0 hu1 k⟩) h3 (ms_hs S c0 c1 c2) (ms_ncI S n0 n1 n2) hr hl hb (fun z t a5 a6 a7 => H0 z t a5 a6 a7 a8 a9) (fun z t a5 a6 a7 => H1 z t a5 a6 a7 a8 a9)
/-- a round that books the two soft clauses against each other -/
theorem ms_wB01 {post : Int32 → St2 → Prop} {n r loss best : Nat} (S : ms_set N v h a b a1 a2) (hu0 : u0 ≤ 50) (hu1 : u1 ≤ 50) (h8 : ∀ i, i < N → a8 i = nI (ms_wt u0 u1 i)) (h3 : ∀ x, x < 8 → ms_tri (a3 x))
    (hv3 : a3 v = -1) (c2 : 2 < N → ¬ a3 (h / 2) = nI (h % 2)) (p0 : 0 < u0) (p1 : 0 < u1) (hr : r < 25) (hl : loss ≤ 2000) (hb : best ≤ 2000)
    (H0 : best ≤ loss → ∀ t a5 a6 a7 a8 a9, post 0 (nI N, nI best, ba, t, a1, a2, a3, a4, a5, a6, a7, a8, a9))
    (H1 : loss < best → ∀ t a5 a6 a7 b8 a9, (∀ i, i < N → b8 i = nI (ms_wt (u0 - min u0 u1) (u1 - min u0 u1) i)) → wX_worthwhile_93 post n (nI (loss + min u0 u1)) (nI (r + 1)) (nI N) (nI best) ba t a1 a2 a3 a4 a5 a6 a7 b8 a9) : wX_worthwhile_93 post (n + 1) (nI loss) (nI r) (nI N) (nI best) ba t a1 a2 a3 a4 a5 a6 a7 a8 a9 := by
  obtain ⟨A0, A1, A2⟩ := ms_acts (u0 := u0) (u1 := u1) S
  have S' := S
  obtain ⟨hN, hv, hh, ha, ha', hb1, hb', hc⟩ := S'
  have e0 : ms_lt v h 0 = 2 * v := rfl
  have e1 : ms_lt v h 1 = 2 * v + 1 := rfl
  have bad : ¬ ms_lt v h 0 = ms_lt v h 1 := by omega
  refine ms_rB (U := ms_wt u0 u1) (k := 1) (j := 0) (m := min u0 u1) hc (fun k hk => ⟨h8 k hk, ms_u50 hu0 hu1 k⟩) h3 (ms_hs S (fun _ q => ms_m1 0 (by omega) (hv3 ▸ q)) (fun _ q => ms_m1 1 (by omega) (hv3 ▸ q)) c2)
    (fun q => bad (q 0 1 (by omega) (by omega) (A0.mpr p0) (A1.mpr p1) (by omega))) (fun k j q => ?_) (ms_l01 (wt := ms_wt a b) (U := ms_wt u0 u1) ha hb1 p0 hN) (by omega) (by omega) hr hl hb (fun z t a5 a6 a7 => H0 z t a5 a6 a7 a8 a9) (fun z t a5 a6 a7 b8 a9 q => H1 z t a5 a6 a7 b8 a9 (fun i hi => ?_))
  · obtain ⟨q1, q2, q3, q4, q5, q6, q7⟩ := q
    rcases ms_k3 S q2 with z | z | ⟨z, z'⟩
    · omega
    · omega
    · exact absurd (q7 0 1 (by omega) (by omega) (A0.mpr p0) (A1.mpr p1) (by omega)) bad
  · rw [q i hi]
    rcases ms_k3 S hi with z | z | ⟨z, z'⟩
    · subst z
      rw [if_pos ⟨Or.inr rfl, ha⟩]
      exact pk_sub (Nat.min_le_left u0 u1)
    · subst z
      rw [if_pos ⟨Or.inl rfl, hb1⟩]
      exact pk_sub (Nat.min_le_right u0 u1)
    · subst z
      rw [if_neg (fun y => by have := y.1; omega)]
      exact Int32.sub_zero (nI 0)
/-- a round that books the soft clause 0 against the hard one -/
theorem ms_wB02 {post : Int32 → St2 → Prop} {n r loss best : Nat} (S : ms_set N v h a b a1 a2) (hu0 : u0 ≤ 50) (h8 : ∀ i, i < N → a8 i = nI (ms_wt u0 0 i)) (h3 : ∀ x, x < 8 → ms_tri (a3 x))
    (hv3 : a3 v = -1) (hN3 : N = 3) (eh : h = 2 * v + 1) (p0 : 0 < u0) (hr : r < 25) (hl : loss ≤ 2000) (hb : best ≤ 2000)
    (H0 : best ≤ loss → ∀ t a5 a6 a7 a8 a9, post 0 (nI N, nI best, ba, t, a1, a2, a3, a4, a5, a6, a7, a8, a9))
    (H1 : loss < best → ∀ t a5 a6 a7 b8 a9, (∀ i, i < N → b8 i = nI (ms_wt 0 0 i)) → wX_worthwhile_93 post n (nI (loss + u0)) (nI (r + 1)) (nI N) (nI best) ba t a1 a2 a3 a4 a5 a6 a7 b8 a9) : wX_worthwhile_93 post (n + 1) (nI loss) (nI r) (nI N) (nI best) ba t a1 a2 a3 a4 a5 a6 a7 a8 a9 := by
  obtain ⟨A0, A1, A2⟩ := ms_acts (u0 := u0) (u1 := 0) S
  have S' := S
  obtain ⟨hN, hv, hh, ha, ha', hb1, hb', hc⟩ := S'
  have e0 : ms_lt v h 0 = 2 * v := rfl
  have e1 : ms_lt v h 1 = 2 * v + 1 := rfl
  have e2 : ms_lt v h 2 = h := rfl
  have bad : ¬ ms_lt v h 0 = ms_lt v h 2 := by omega
  have hm : ms_least 2 0 (ms_wt a b) (ms_wt u0 0) N = u0 := by
    rw [hN3]
    exact ms_l02 (wt := ms_wt a b) (U := ms_wt u0 0) ha rfl
  refine ms_rB (U := ms_wt u0 0) (k := 2) (j := 0) (m := u0) hc (fun k hk => ⟨h8 k hk, ms_u50 hu0 (by omega) k⟩) h3 (ms_hs S (fun _ q => ms_m1 0 (by omega) (hv3 ▸ q)) (fun _ q => ms_m1 1 (by omega) (hv3 ▸ q)) (fun _ q => ?_))
    (fun q => bad (q 0 2 (by omega) (by omega) (A0.mpr p0) A2 (by omega))) (fun k j q => ?_) hm (by omega) (by omega) hr hl hb (fun z t a5 a6 a7 => H0 z t a5 a6 a7 a8 a9) (fun z t a5 a6 a7 b8 a9 q => H1 z t a5 a6 a7 b8 a9 (fun i hi => ?_))
  · rw [show h / 2 = v by omega, hv3] at q
    exact ms_m1 _ (by omega) q
  · obtain ⟨q1, q2, q3, q4, q5, q6, q7⟩ := q
    rcases ms_k3 S q2 with z | z | ⟨z, z'⟩
    · omega
    · subst z
      exact absurd (A1.mp q4) (by omega)
    · subst z
      rcases ms_k3 S (show j < N by omega) with y | y | ⟨y, y'⟩
      · exact ⟨rfl, y⟩
      · subst y
        exact absurd (A1.mp q3) (by omega)
      · omega
  · rw [q i hi]
    rcases ms_k3 S hi with z | z | ⟨z, z'⟩
    · subst z
      rw [if_pos ⟨Or.inr rfl, ha⟩]
      show nI u0 - nI u0 = nI 0
      rw [pk_sub (Nat.le_refl u0), Nat.sub_self]
    · subst z
      rw [if_neg (fun y => by have := y.1; omega)]
      exact Int32.sub_zero (nI 0)
    · subst z
      rw [if_neg (fun y => absurd (show 0 < 0 from y.2) (by omega))]
      exact Int32.sub_zero (nI 0)
/-- a round that books the soft clause 1 against the hard one -/
theorem ms_wB12 {post : Int32 → St2 → Prop} {n r loss best : Nat} (S : ms_set N v h a b a1 a2) (hu1 : u1 ≤ 50) (h8 : ∀ i, i < N → a8 i = nI (ms_wt 0 u1 i)) (h3 : ∀ x, x < 8 → ms_tri (a3 x))
    (hv3 : a3 v = -1) (hN3 : N = 3) (eh : h = 2 * v) (p1 : 0 < u1) (hr : r < 25) (hl : loss ≤ 2000) (hb : best ≤ 2000)
    (H0 : best ≤ loss → ∀ t a5 a6 a7 a8 a9, post 0 (nI N, nI best, ba, t, a1, a2, a3, a4, a5, a6, a7, a8, a9))
    (H1 : loss < best → ∀ t a5 a6 a7 b8 a9, (∀ i, i < N → b8 i = nI (ms_wt 0 0 i)) → wX_worthwhile_93 post n (nI (loss + u1)) (nI (r + 1)) (nI N) (nI best) ba t a1 a2 a3 a4 a5 a6 a7 b8 a9) : wX_worthwhile_93 post (n + 1) (nI loss) (nI r) (nI N) (nI best) ba t a1 a2 a3 a4 a5 a6 a7 a8 a9 := by
  obtain ⟨A0, A1, A2⟩ := ms_acts (u0 := 0) (u1 := u1) S
  have S' := S
  obtain ⟨hN, hv, hh, ha, ha', hb1, hb', hc⟩ := S'
  have e0 : ms_lt v h 0 = 2 * v := rfl
  have e1 : ms_lt v h 1 = 2 * v + 1 := rfl
  have e2 : ms_lt v h 2 = h := rfl
  have bad : ¬ ms_lt v h 1 = ms_lt v h 2 := by omega
  have hm : ms_least 2 1 (ms_wt a b) (ms_wt 0 u1) N = u1 := by
    rw [hN3]
    exact ms_l12 (wt := ms_wt a b) (U := ms_wt 0 u1) hb1 rfl
  refine ms_rB (U := ms_wt 0 u1) (k := 2) (j := 1) (m := u1) hc (fun k hk => ⟨h8 k hk, ms_u50 (by omega) hu1 k⟩) h3 (ms_hs S (fun _ q => ms_m1 0 (by omega) (hv3 ▸ q)) (fun _ q => ms_m1 1 (by omega) (hv3 ▸ q)) (fun _ q => ?_))
    (fun q => bad (q 1 2 (by omega) (by omega) (A1.mpr p1) A2 (by omega))) (fun k j q => ?_) hm (by omega) (by omega) hr hl hb (fun z t a5 a6 a7 => H0 z t a5 a6 a7 a8 a9) (fun z t a5 a6 a7 b8 a9 q => H1 z t a5 a6 a7 b8 a9 (fun i hi => ?_))
  · rw [show h / 2 = v by omega, hv3] at q
    exact ms_m1 _ (by omega) q
  · obtain ⟨q1, q2, q3, q4, q5, q6, q7⟩ := q
    rcases ms_k3 S q2 with z | z | ⟨z, z'⟩
    · omega
    · rcases ms_k3 S (show j < N by omega) with y | y | ⟨y, y'⟩
      · subst y
        exact absurd (A0.mp q3) (by omega)
      · omega
      · omega
    · subst z
      rcases ms_k3 S (show j < N by omega) with y | y | ⟨y, y'⟩
      · subst y
        exact absurd (A0.mp q3) (by omega)
      · exact ⟨rfl, y⟩
      · omega
  · rw [q i hi]
    rcases ms_k3 S hi with z | z | ⟨z, z'⟩
    · subst z
      rw [if_neg (fun y => by have := y.1; omega)]
      exact Int32.sub_zero (nI 0)
    · subst z
      rw [if_pos ⟨Or.inr rfl, hb1⟩]
      show nI u1 - nI u1 = nI 0
      rw [pk_sub (Nat.le_refl u1), Nat.sub_self]
    · subst z
      rw [if_neg (fun y => absurd (show 0 < 0 from y.2) (by omega))]
      exact Int32.sub_zero (nI 0)
theorem ms_lossV (S : ms_set N v h a b a1 a2) : ms_sum (fun k => if a3 (ms_lt v h k / 2) = nI (ms_lt v h k % 2) then ms_wt a b k else 0) N = (if a3 v = nI 0 then a else 0) + (if a3 v = nI 1 then b else 0) := by
  have f0 : (if a3 (ms_lt v h 0 / 2) = nI (ms_lt v h 0 % 2) then ms_wt a b 0 else 0) = (if a3 v = nI 0 then a else 0) := by
    rw [show ms_lt v h 0 = 2 * v from rfl, show 2 * v / 2 = v by omega, show 2 * v % 2 = 0 by omega]
    rfl
  have f1 : (if a3 (ms_lt v h 1 / 2) = nI (ms_lt v h 1 % 2) then ms_wt a b 1 else 0) = (if a3 v = nI 1 then b else 0) := by
    rw [show ms_lt v h 1 = 2 * v + 1 from rfl, show (2 * v + 1) / 2 = v by omega, show (2 * v + 1) % 2 = 1 by omega]
    rfl
  have f2 : (if a3 (ms_lt v h 2 / 2) = nI (ms_lt v h 2 % 2) then ms_wt a b 2 else 0) = 0 := by
    by_cases q : a3 (ms_lt v h 2 / 2) = nI (ms_lt v h 2 % 2)
    · rw [if_pos q]
      rfl
    · rw [if_neg q]
  rcases S.1 with e | e
  · rw [e]
    show 0 + (if a3 (ms_lt v h 0 / 2) = nI (ms_lt v h 0 % 2) then ms_wt a b 0 else 0) + (if a3 (ms_lt v h 1 / 2) = nI (ms_lt v h 1 % 2) then ms_wt a b 1 else 0) = _
    rw [f0, f1, Nat.zero_add]
  · rw [e]
    show 0 + (if a3 (ms_lt v h 0 / 2) = nI (ms_lt v h 0 % 2) then ms_wt a b 0 else 0) + (if a3 (ms_lt v h 1 / 2) = nI (ms_lt v h 1 % 2) then ms_wt a b 1 else 0) + (if a3 (ms_lt v h 2 / 2) = nI (ms_lt v h 2 % 2) then ms_wt a b 2 else 0) = _
    rw [f0, f1, f2, Nat.zero_add, Nat.add_zero]
/-- what must be lost, v's value being x -/
def ms_lb (N v h a b : Nat) (x : Int32) : Nat := if x = nI 0 then a else if x = nI 1 then b else if 2 < N ∧ h / 2 = v then (if h % 2 = 0 then b else a) else min a b
def ms_good (N v h a b : Nat) (a3 : Nat → Int32) (best : Nat) : Prop := (2 < N → ¬ a3 (h / 2) = nI (h % 2)) ∧ ms_lb N v h a b (a3 v) < best
theorem ms_worth {post : Int32 → St2 → Prop} {best : Nat} (S : ms_set N v h a b a1 a2) (h3 : ∀ x, x < 8 → ms_tri (a3 x)) (hb : best ≤ 2000)
    (H1 : ms_good N v h a b a3 best → ∀ t a5 a6 a7 a8 a9, post 1 (nI N, nI best, ba, t, a1, a2, a3, a4, a5, a6, a7, a8, a9)) (H0 : ¬ ms_good N v h a b a3 best → ∀ t a5 a6 a7 a8 a9, post 0 (nI N, nI best, ba, t, a1, a2, a3, a4, a5, a6, a7, a8, a9)) : wpX_worthwhile post (nI N, nI best, ba, t, a1, a2, a3, a4, a5, a6, a7, a8, a9) := by
  have S' := S
  obtain ⟨hN, hv, hh, ha, ha', hb1, hb', hc⟩ := S'
  refine ms_loss hc h3 ?_
  rw [ms_lossV S]
  refine ms_ww7 hc h3 (fun k hk hw hf a8 => H0 (fun g => ?_) _ _ _ _ _ _) (fun hnf b8 h8 => ?_)
  · rcases ms_k3 S hk with z | z | ⟨z, z'⟩
    · subst z
      exact absurd (show a = 0 from hw) (by omega)
    · subst z
      exact absurd (show b = 0 from hw) (by omega)
    · subst z
      exact g.1 z' hf
  · have c2 : 2 < N → ¬ a3 (h / 2) = nI (h % 2) := fun z => hnf 2 z rfl
    have g8 : ∀ u0 u1, u0 = (if a3 v = nI 0 then 0 else a) → u1 = (if a3 v = nI 1 then 0 else b) → ∀ i, i < N → b8 i = nI (ms_wt u0 u1 i) := by
      intro u0 u1 q0 q1 i hi
      rw [h8 i hi]
      rcases ms_k3 S hi with z | z | ⟨z, z'⟩
      · subst z
        rw [show ms_lt v h 0 = 2 * v from rfl, show 2 * v / 2 = v by omega, show 2 * v % 2 = 0 by omega, q0]
        rfl
      · subst z
        rw [show ms_lt v h 1 = 2 * v + 1 from rfl, show (2 * v + 1) / 2 = v by omega, show (2 * v + 1) % 2 = 1 by omega, q1]
        rfl
      · subst z
        rw [show ms_lt v h 2 = h from rfl, if_neg (c2 z')]
        rfl
    have n10 : ¬ nI 1 = nI 0 := by decide
    have n01 : ¬ nI 0 = nI 1 := by decide
    rcases h3 v hv with e | e | e
    · have n0 : ¬ a3 v = nI 0 := fun q => ms_m1 0 (by omega) (e ▸ q)
      have n1 : ¬ a3 v = nI 1 := fun q => ms_m1 1 (by omega) (e ▸ q)
      rw [if_neg n0, if_neg n1]
      have G : ms_lb N v h a b (a3 v) = if 2 < N ∧ h / 2 = v then (if h % 2 = 0 then b else a) else min a b := by
        unfold ms_lb
        rw [if_neg n0, if_neg n1]
      have G1 : ms_lb N v h a b (a3 v) < best → ms_good N v h a b a3 best := fun q => ⟨c2, q⟩
      have G0 : best ≤ ms_lb N v h a b (a3 v) → ¬ ms_good N v h a b a3 best := fun q g => absurd g.2 (by omega)
      have Gm : min a b ≤ ms_lb N v h a b (a3 v) := by
        rw [G]
        by_cases q : 2 < N ∧ h / 2 = v
        · rw [if_pos q]
          by_cases p : h % 2 = 0
          · rw [if_pos p]
            omega
          · rw [if_neg p]
            omega
        · rw [if_neg q]
          exact Nat.le_refl _
      refine ⟨3, ms_wB01 (u0 := a) (u1 := b) (loss := 0) (r := 0) S ha' hb' (g8 a b (by rw [if_neg n0]) (by rw [if_neg n1])) h3 e c2 (by omega) (by omega) (by omega) (by omega) hb (fun z => H0 (G0 (by omega))) (fun z t a5 a6 a7 b8 a9 h8 => ?_)⟩
      rw [Nat.zero_add]
      by_cases q : 2 < N ∧ h / 2 = v
      · rw [if_pos q] at G
        by_cases p : h % 2 = 0
        · rw [if_pos p] at G
          by_cases w : a < b
          · rw [show a - min a b = 0 by omega] at h8
            refine ms_wB12 (u1 := b - min a b) S (by omega) h8 h3 e (by omega) (by omega) (by omega) (by omega) (by omega) hb (fun z => H0 (G0 (by omega))) (fun z t a5 a6 a7 b8 a9 h8 => ?_)
            rw [show min a b + (b - min a b) = b by omega]
            exact ms_wA (u0 := 0) (u1 := 0) S (by omega) (by omega) h8 h3 (fun z => absurd z (by omega)) (fun z => absurd z (by omega)) c2 (fun z => absurd z (by omega)) (fun _ z => absurd z (by omega)) (fun _ z => absurd z (by omega)) (by omega) (by omega) hb (fun z => H0 (G0 (by omega))) (fun z => H1 (G1 (by omega)))
          · exact ms_wA (u0 := a - min a b) (u1 := b - min a b) S (by omega) (by omega) h8 h3 (fun _ => n0) (fun _ => n1) c2 (fun z y => by omega) (fun _ z y => by omega) (fun _ z y => by omega) (by omega) (by omega) hb (fun z => H0 (G0 (by omega))) (fun z => H1 (G1 (by omega)))
        · rw [if_neg p] at G
          by_cases w : b < a
          · rw [show b - min a b = 0 by omega] at h8
            refine ms_wB02 (u0 := a - min a b) S (by omega) h8 h3 e (by omega) (by omega) (by omega) (by omega) (by omega) hb (fun z => H0 (G0 (by omega))) (fun z t a5 a6 a7 b8 a9 h8 => ?_)
            rw [show min a b + (a - min a b) = a by omega]
            exact ms_wA (u0 := 0) (u1 := 0) S (by omega) (by omega) h8 h3 (fun z => absurd z (by omega)) (fun z => absurd z (by omega)) c2 (fun z => absurd z (by omega)) (fun _ z => absurd z (by omega)) (fun _ z => absurd z (by omega)) (by omega) (by omega) hb (fun z => H0 (G0 (by omega))) (fun z => H1 (G1 (by omega)))
          · exact ms_wA (u0 := a - min a b) (u1 := b - min a b) S (by omega) (by omega) h8 h3 (fun _ => n0) (fun _ => n1) c2 (fun z y => by omega) (fun _ z y => by omega) (fun _ z y => by omega) (by omega) (by omega) hb (fun z => H0 (G0 (by omega))) (fun z => H1 (G1 (by omega)))
      · rw [if_neg q] at G
        exact ms_wA (u0 := a - min a b) (u1 := b - min a b) S (by omega) (by omega) h8 h3 (fun _ => n0) (fun _ => n1) c2 (fun z y => by omega) (fun y1 _ y2 => absurd ⟨y1, y2⟩ q) (fun y1 _ y2 => absurd ⟨y1, y2⟩ q) (by omega) (by omega) hb (fun z => H0 (G0 (by omega))) (fun z => H1 (G1 (by omega)))
    · have n1 : ¬ a3 v = nI 1 := by
        rw [e]
        exact n01
      have G : ms_lb N v h a b (a3 v) = a := by
        unfold ms_lb
        rw [if_pos e]
      rw [if_pos e, if_neg n1, Nat.add_zero]
      refine ⟨1, ms_wA (u0 := 0) (u1 := b) (r := 0) S (by omega) hb' (g8 0 b (by rw [if_pos e]) (by rw [if_neg n1])) h3 (fun z => absurd z (by omega)) (fun _ => n1) c2 (fun z => absurd z (by omega)) (fun _ z => absurd z (by omega)) (fun y1 _ y2 => ?_) (by omega) (by omega) hb (fun z => H0 (fun g => absurd g.2 (by omega))) (fun z => H1 ⟨c2, by omega⟩)⟩
      have q := c2 y1
      rw [y2, e, nI_eq (by omega) (by omega)] at q
      omega
    · have n0 : ¬ a3 v = nI 0 := by
        rw [e]
        exact n10
      have G : ms_lb N v h a b (a3 v) = b := by
        unfold ms_lb
        rw [if_neg n0, if_pos e]
      rw [if_neg n0, if_pos e, Nat.zero_add]
      refine ⟨1, ms_wA (u0 := a) (u1 := 0) (r := 0) S ha' (by omega) (g8 a 0 (by rw [if_neg n0]) (by rw [if_pos e])) h3 (fun _ => n0) (fun z => absurd z (by omega)) c2 (fun _ z => absurd z (by omega)) (fun y1 _ y2 => ?_) (fun _ z => absurd z (by omega)) (by omega) (by omega) hb (fun z => H0 (fun g => absurd g.2 (by omega))) (fun z => H1 ⟨c2, by omega⟩)⟩
      have q := c2 y1
      rw [y2, e, nI_eq (by omega) (by omega)] at q
      omega
end
end
section
section
variable {a1 a2 a3 a4 : Nat → Int32} {N v h a b : Nat}
def ms_al (g : Int32) (c : Nat) : Prop := g < 0 ∨ g = nI c
/-- the values: those of the number X from lev on, none below -/
def ms_mt (lev X : Nat) (a3 : Nat → Int32) : Prop := ∀ x, x < 8 → a3 x = if x < lev then -1 else nI (X / 2 ^ x % 2)
def ms_nd (lev X : Nat) (a3 : Nat → Int32) : Prop := ∀ x, x < 8 → x ≠ lev → a3 x = if x < lev then -1 else nI (X / 2 ^ x % 2)
theorem ms_t2 (n : Nat) : ms_tri (nI (n % 2)) := by
  rcases Nat.mod_two_eq_zero_or_one n with q | q
  · rw [q]
    exact Or.inr (Or.inl rfl)
  · rw [q]
    exact Or.inr (Or.inr rfl)
theorem ms_mtT {lev X : Nat} (hm : ms_mt lev X a3) : ∀ x, x < 8 → ms_tri (a3 x) := by
  intro x hx
  rw [hm x hx]
  by_cases q : x < lev
  · rw [if_pos q]
    exact Or.inl rfl
  · rw [if_neg q]
    exact ms_t2 _
theorem ms_ar {X lev x e : Nat} (hX : X % 2 ^ (lev + 1) = 0) (he : e < 2) (hx : lev < x) : (X + e * 2 ^ lev) / 2 ^ x = X / 2 ^ x := by
  obtain ⟨y, rfl⟩ : ∃ y, x = (lev + 1) + y := ⟨x - (lev + 1), by omega⟩
  obtain ⟨q, rfl⟩ := Nat.dvd_of_mod_eq_zero hX
  have hp : 0 < 2 ^ (lev + 1) := Nat.two_pow_pos _
  have hlt : e * 2 ^ lev < 2 ^ (lev + 1) := by
    rw [Nat.pow_succ]
    have hq : 0 < 2 ^ lev := Nat.two_pow_pos _
    have : e = 0 ∨ e = 1 := by omega
    rcases this with z | z
    · subst z
      omega
    · subst z
      omega
  rw [Nat.pow_add 2 (lev + 1) y, ← Nat.div_div_eq_div_mul, ← Nat.div_div_eq_div_mul, Nat.mul_add_div hp, Nat.div_eq_of_lt hlt, Nat.add_zero, Nat.mul_div_cancel_left _ hp]
theorem ms_ar0 {X lev e : Nat} (hX : X % 2 ^ (lev + 1) = 0) (he : e < 2) : (X + e * 2 ^ lev) / 2 ^ lev % 2 = e := by
  obtain ⟨q, rfl⟩ := Nat.dvd_of_mod_eq_zero hX
  have hp : 0 < 2 ^ lev := Nat.two_pow_pos _
  rw [Nat.pow_succ, Nat.mul_assoc, Nat.mul_comm e, ← Nat.mul_add, Nat.mul_div_cancel_left _ hp]
  omega
theorem ms_in {X lev x y : Nat} (hX : X % 2 ^ lev = 0) (h1 : X ≤ y) (h2 : y < X + 2 ^ lev) (hx : lev ≤ x) : y / 2 ^ x = X / 2 ^ x := by
  obtain ⟨z, rfl⟩ : ∃ z, x = lev + z := ⟨x - lev, by omega⟩
  obtain ⟨q, rfl⟩ := Nat.dvd_of_mod_eq_zero hX
  have hp : 0 < 2 ^ lev := Nat.two_pow_pos _
  obtain ⟨r, rfl⟩ : ∃ r, y = 2 ^ lev * q + r := ⟨y - 2 ^ lev * q, by omega⟩
  rw [Nat.pow_add, ← Nat.div_div_eq_div_mul, ← Nat.div_div_eq_div_mul, Nat.mul_add_div hp, Nat.div_eq_of_lt (show r < 2 ^ lev by omega), Nat.add_zero, Nat.mul_div_cancel_left _ hp]
theorem ms_mod {X lev e : Nat} (hX : X % 2 ^ (lev + 1) = 0) : (X + e * 2 ^ lev) % 2 ^ lev = 0 := by
  obtain ⟨q, rfl⟩ := Nat.dvd_of_mod_eq_zero hX
  rw [Nat.pow_succ, Nat.mul_assoc, Nat.mul_comm e, ← Nat.mul_add, Nat.mul_mod_right]
theorem ms_nd0 {lev X : Nat} (hl : lev < 8) (hm : ms_mt (lev + 1) X a3) : ms_nd lev X a3 ∧ a3 lev = -1 := by
  refine ⟨fun x hx hne => ?_, by rw [hm lev hl, if_pos (by omega)]⟩
  rw [hm x hx]
  by_cases q : x < lev
  · rw [if_pos q, if_pos (by omega)]
  · rw [if_neg q, if_neg (by omega)]
theorem ms_nd1 {lev X e : Nat} (hl : lev < 8) (hX : X % 2 ^ (lev + 1) = 0) (he : e < 2) (hm : ms_mt lev (X + e * 2 ^ lev) a3) : ms_nd lev X a3 ∧ a3 lev = nI e := by
  refine ⟨fun x hx hne => ?_, by rw [hm lev hl, if_neg (by omega), ms_ar0 hX he]⟩
  rw [hm x hx]
  by_cases q : x < lev
  · rw [if_pos q, if_pos q]
  · rw [if_neg q, if_neg q, ms_ar hX he (by omega)]
theorem ms_ndU {lev X e : Nat} (hX : X % 2 ^ (lev + 1) = 0) (he : e < 2) (hn : ms_nd lev X a3) : ms_mt lev (X + e * 2 ^ lev) (upd a3 lev (nI e)) := by
  intro x hx
  by_cases q : x = lev
  · subst q
    rw [pk_us, if_neg (by omega), ms_ar0 hX he]
  · rw [pk_un q, hn x hx q]
    by_cases p : x < lev
    · rw [if_pos p, if_pos p]
    · rw [if_neg p, if_neg p, ms_ar hX he (by omega)]
theorem ms_ndM {lev X : Nat} (hn : ms_nd lev X a3) : ms_mt (lev + 1) X (upd a3 lev (-1)) := by
  intro x hx
  by_cases q : x = lev
  · subst q
    rw [pk_us, if_pos (by omega)]
  · rw [pk_un q, hn x hx q]
    by_cases p : x < lev
    · rw [if_pos p, if_pos (by omega)]
    · rw [if_neg p, if_neg (by omega)]
/-- the assignments that the search may take, and what each loses -/
def ms_ok (N h : Nat) (a4 : Nat → Int32) (y : Nat) : Prop := (∀ z, z < 8 → ms_al (a4 z) (y / 2 ^ z % 2)) ∧ (2 < N → ¬ y / 2 ^ (h / 2) % 2 = h % 2)
def ms_ls (v a b y : Nat) : Nat := if y / 2 ^ v % 2 = 0 then a else b
def ms_Sp (N v h a b : Nat) (a4 : Nat → Int32) (lo hi L : Nat) (A : Int32) (L' : Nat) (A' : Int32) : Prop :=
  (L' = L ∧ A' = A ∧ ∀ y, lo ≤ y → y < hi → ms_ok N h a4 y → L ≤ ms_ls v a b y) ∨
  (∃ x, lo ≤ x ∧ x < hi ∧ ms_ok N h a4 x ∧ A' = nI x ∧ L' = ms_ls v a b x ∧ ms_ls v a b x < L ∧ ∀ y, lo ≤ y → y < hi → ms_ok N h a4 y → ms_ls v a b x ≤ ms_ls v a b y ∧ (y < x → ms_ls v a b x < ms_ls v a b y))
theorem ms_SpN {lo hi L : Nat} {A : Int32} (hq : ∀ y, lo ≤ y → y < hi → ms_ok N h a4 y → L ≤ ms_ls v a b y) : ms_Sp N v h a b a4 lo hi L A L A := Or.inl ⟨rfl, rfl, hq⟩
theorem ms_SpC {lo mid hi L L1 L2 : Nat} {A A1 A2 : Int32} (h1 : lo ≤ mid) (h2 : mid ≤ hi) (p : ms_Sp N v h a b a4 lo mid L A L1 A1) (q : ms_Sp N v h a b a4 mid hi L1 A1 L2 A2) : ms_Sp N v h a b a4 lo hi L A L2 A2 := by
  rcases p with ⟨e1, f1, g1⟩ | ⟨x, x1, x2, x3, x4, x5, x6, x7⟩
  · subst e1 f1
    rcases q with ⟨e2, f2, g2⟩ | ⟨x, x1, x2, x3, x4, x5, x6, x7⟩
    · refine Or.inl ⟨e2, f2, fun y y1 y2 y3 => ?_⟩
      rcases Nat.lt_or_ge y mid with z | z
      · exact g1 y y1 z y3
      · exact g2 y z y2 y3
    · refine Or.inr ⟨x, by omega, x2, x3, x4, x5, x6, fun y y1 y2 y3 => ?_⟩
      rcases Nat.lt_or_ge y mid with z | z
      · have := g1 y y1 z y3
        exact ⟨by omega, fun _ => by omega⟩
      · exact x7 y z y2 y3
  · rcases q with ⟨e2, f2, g2⟩ | ⟨w, w1, w2, w3, w4, w5, w6, w7⟩
    · refine Or.inr ⟨x, x1, by omega, x3, f2.trans x4, e2.trans x5, x6, fun y y1 y2 y3 => ?_⟩
      rcases Nat.lt_or_ge y mid with z | z
      · exact x7 y y1 z y3
      · have := g2 y z y2 y3
        exact ⟨by omega, fun _ => by omega⟩
    · refine Or.inr ⟨w, by omega, w2, w3, w4, w5, by omega, fun y y1 y2 y3 => ?_⟩
      rcases Nat.lt_or_ge y mid with z | z
      · have := (x7 y y1 z y3).1
        exact ⟨by omega, fun _ => by omega⟩
      · exact w7 y z y2 y3
/-- what is left out isn't better -/
theorem ms_cut {lev X L : Nat} (hv : v < 8) (hh : h < 16) (hX : X % 2 ^ lev = 0) (hm : ms_mt lev X a3) (hg : ¬ ms_good N v h a b a3 L) : ∀ y, X ≤ y → y < X + 2 ^ lev → ms_ok N h a4 y → L ≤ ms_ls v a b y := by
  intro y y1 y2 y3
  rcases Nat.lt_or_ge (ms_ls v a b y) L with q | q
  · refine absurd ⟨fun hN e => ?_, ?_⟩ hg
    · rw [hm (h / 2) (by omega)] at e
      by_cases p : h / 2 < lev
      · rw [if_pos p] at e
        exact ms_m1 _ (by omega) e
      · rw [if_neg p, ← ms_in hX y1 y2 (by omega), nI_eq (by omega) (by omega)] at e
        exact y3.2 hN e
    · refine Nat.lt_of_le_of_lt ?_ q
      unfold ms_lb ms_ls
      rw [hm v hv]
      by_cases p : v < lev
      · rw [if_pos p, if_neg (ms_m1 0 (by omega)), if_neg (ms_m1 1 (by omega))]
        by_cases w : 2 < N ∧ h / 2 = v
        · have y4 := y3.2 w.1
          rw [w.2] at y4
          rw [if_pos w]
          by_cases z : h % 2 = 0
          · rw [if_pos z, if_neg (by omega)]
            exact Nat.le_refl b
          · rw [if_neg z, if_pos (by omega)]
            exact Nat.le_refl a
        · rw [if_neg w]
          by_cases z : y / 2 ^ v % 2 = 0
          · rw [if_pos z]
            omega
          · rw [if_neg z]
            omega
      · rw [if_neg p, ← ms_in hX y1 y2 (by omega)]
        by_cases z : y / 2 ^ v % 2 = 0
        · rw [z, if_pos rfl, if_pos rfl]
          exact Nat.le_refl a
        · rw [show y / 2 ^ v % 2 = 1 by omega, if_neg (by decide), if_pos rfl, if_neg (by decide)]
          exact Nat.le_refl b
  · exact q
/-- a value that isn't allowed: none of its assignments is -/
theorem ms_skip {lev X e : Nat} (hl : lev < 8) (hX : X % 2 ^ (lev + 1) = 0) (he : e < 2) (hn : ¬ ms_al (a4 lev) e) : ∀ y, X + e * 2 ^ lev ≤ y → y < X + e * 2 ^ lev + 2 ^ lev → ¬ ms_ok N h a4 y := by
  intro y y1 y2 y3
  have q := y3.1 lev hl
  rw [ms_in (ms_mod hX) y1 y2 (Nat.le_refl lev), ms_ar0 hX he] at q
  exact hn q
/-- a whole assignment that is worthwhile -/
theorem ms_leaf {X L : Nat} (hv : v < 8) (hh : h < 16) (hm : ms_mt 0 X a3) (hg : ms_good N v h a b a3 L) : (2 < N → ¬ X / 2 ^ (h / 2) % 2 = h % 2) ∧ ms_ls v a b X < L ∧ (if a3 v = nI 0 then a else 0) + (if a3 v = nI 1 then b else 0) = ms_ls v a b X := by
  obtain ⟨g1, g2⟩ := hg
  rw [hm (h / 2) (by omega), if_neg (by omega), nI_eq (by omega) (by omega)] at g1
  unfold ms_lb at g2
  unfold ms_ls
  have ev : a3 v = nI (X / 2 ^ v % 2) := by rw [hm v hv, if_neg (Nat.not_lt_zero v)]
  rw [ev] at g2 ⊢
  refine ⟨g1, ?_⟩
  by_cases z : X / 2 ^ v % 2 = 0
  · rw [z, if_pos rfl] at g2
    rw [z, if_pos rfl, if_pos rfl, if_neg (by decide)]
    exact ⟨g2, rfl⟩
  · rw [show X / 2 ^ v % 2 = 1 by omega] at g2 ⊢
    rw [if_neg (by decide), if_pos rfl] at g2
    rw [if_neg (by decide), if_neg (by decide), if_pos rfl]
    exact ⟨g2, by omega⟩
end
end
section
section
variable {bl ba t : Int32} {a1 a2 a3 a4 a5 a6 a7 a8 a9 : Nat → Int32} {N v h a b : Nat}
theorem ms_nv {post : Int32 → Prop} {c : Int32} {lev d : Nat} (hl : lev < 8) (hd : d ≤ 2) (hcur : a3 lev + 1 = nI d)
    (H : ∀ e, e < 2 → d ≤ e → ms_al (a4 lev) e → (∀ e', d ≤ e' → e' < e → ¬ ms_al (a4 lev) e') → post (nI e)) (H2 : (∀ e', d ≤ e' → e' < 2 → ¬ ms_al (a4 lev) e') → post (-1)) : wpX_nextValue post (c, bl, ba, t, a1, a2, a3, a4, a5, a6, a7, a8, a9) (nI lev) := by
  refine ⟨pk_in lev 8 hl, nm_r (e' := nI d) (by rw [nI_clamp (by omega)]; exact hcur) ?_⟩
  refine pk_loop (σ := Unit) (fun n i _ => wX_nextValue_9 post (nI lev) c bl ba t a1 a2 a3 a4 a5 a6 a7 a8 a9 n (nI i)) (fun i _ => d ≤ i ∧ ∀ e', d ≤ e' → e' < i → ¬ ms_al (a4 lev) e') 2 d () hd ⟨Nat.le_refl d, fun e' h1 h2 => absurd h1 (by omega)⟩ (fun n _ hI => pk_le 2 2 (fun _ => H2 hI.2) (fun z => absurd z (by omega))) ?_
  intro n i _ hi hI hw
  refine pk_le 2 i (fun z => absurd z (by omega)) (fun _ => ⟨pk_in lev 8 hl, ?_⟩)
  rw [nI_clamp (show lev < 2 ^ 31 by omega)]
  by_cases g : a4 lev < 0
  · exact br_t g (H i hi hI.1 (Or.inl g) hI.2)
  · refine br_f g ⟨pk_in lev 8 hl, ?_⟩
    by_cases g2 : a4 lev = nI i
    · exact br_t g2 (H i hi hI.1 (Or.inr g2) hI.2)
    · refine br_f g2 (nm_r (nI_1 i) (hw () ⟨by omega, fun e' h1 h2 => ?_⟩))
      rcases Nat.lt_or_ge e' i with z | z
      · exact hI.2 e' h1 z
      · rw [show e' = i by omega]
        intro y
        rcases y with y | y
        · exact g y
        · exact g2 y
theorem ms_or : ∀ i, i < 8 → ∀ X, X < 256 → nI (X % 2 ^ i) ||| (nI (X / 2 ^ i % 2) <<< (nI i &&& 31)) = nI (X % 2 ^ (i + 1)) := by decide +kernel
theorem ms_tl {post : Int32 → St2 → Prop} {X L : Nat} (S : ms_set N v h a b a1 a2) (hm : ms_mt 0 X a3) (hX : X < 256) (hg : ms_good N v h a b a3 L) (H : post 0 (nI N, nI (ms_ls v a b X), nI X, t, a1, a2, a3, a4, a5, a6, a7, a8, a9)) : wpX_takeLeaf post (nI N, bl, ba, t, a1, a2, a3, a4, a5, a6, a7, a8, a9) := by
  have S' := S
  obtain ⟨hN, hv, hh, ha, ha', hb1, hb', hc⟩ := S'
  refine ms_loss hc (ms_mtT hm) ?_
  rw [ms_lossV S, (ms_leaf hv hh hm hg).2.2]
  refine pk_loop (σ := Int32) (fun n i s => wX_takeLeaf_15 post (nI N) (nI (ms_ls v a b X)) t a1 a2 a3 a4 a5 a6 a7 a8 a9 n (nI i) s) (fun i s => s = nI (X % 2 ^ i)) 8 0 0 (by omega) (by rw [Nat.pow_zero, Nat.mod_one]; rfl) ?_ ?_
  · intro n s hs
    rw [Nat.mod_eq_of_lt (show X < 2 ^ 8 by omega)] at hs
    exact pk_le 8 8 (fun _ => by rw [hs]; exact H) (fun z => absurd z (by omega))
  · intro n i s hi hs hw
    refine pk_le 8 i (fun z => absurd z (by omega)) (fun _ => ⟨pk_in i 8 hi, nm_e (nm_r (nI_1 i) (hw _ ?_))⟩)
    rw [nI_clamp (by omega), hm i hi, if_neg (by omega), hs]
    exact ms_or i hi X hX
/-- the search's loop, the fuel by the step -/
def ms_W (post : St2 → Prop) (N step : Nat) (x1 bl ba t : Int32) (a1 a2 a3 a4 a5 a6 a7 a8 a9 : Nat → Int32) : Prop := wX_search_38 post (2001 - step) x1 (nI step) (nI N) bl ba t a1 a2 a3 a4 a5 a6 a7 a8 a9
theorem ms_s1 {post : St2 → Prop} {step X L : Nat} (S : ms_set N v h a b a1 a2) (hs : step < 2000) (hm : ms_mt 0 X a3) (hX : X < 256) (hg : ms_good N v h a b a3 L) (H : ms_W post N (step + 1) (nI 0) (nI (ms_ls v a b X)) (nI X) t a1 a2 a3 a4 a5 a6 a7 a8 a9) : ms_W post N step (-1) bl ba t a1 a2 a3 a4 a5 a6 a7 a8 a9 := by
  obtain ⟨n, e1, e2⟩ : ∃ n, 2001 - step = n + 1 ∧ 2001 - (step + 1) = n := ⟨2000 - step, by omega, by omega⟩
  unfold ms_W at H ⊢
  rw [e2] at H
  rw [e1]
  refine pk_le 2000 step (fun z => absurd z (by omega)) (fun _ => br_f (by decide) (br_f (by decide) (ms_tl S hm hX hg (nm_r (nI_1 step) H))))
theorem ms_s {post : St2 → Prop} {step L lev d : Nat} (S : ms_set N v h a b a1 a2) (hs : step < 2000) (hl : lev < 8) (hd : d ≤ 2) (hL : L ≤ 2000) (hcur : a3 lev + 1 = nI d) (h3 : ∀ e, e < 2 → ∀ x, x < 8 → ms_tri (upd a3 lev (nI e) x))
    (H1 : ∀ e, e < 2 → d ≤ e → ms_al (a4 lev) e → (∀ e', d ≤ e' → e' < e → ¬ ms_al (a4 lev) e') → ms_good N v h a b (upd a3 lev (nI e)) L → ∀ t a5 a6 a7 a8 a9, ms_W post N (step + 1) (nI lev - 1) (nI L) ba t a1 a2 (upd a3 lev (nI e)) a4 a5 a6 a7 a8 a9)
    (H0 : ∀ e, e < 2 → d ≤ e → ms_al (a4 lev) e → (∀ e', d ≤ e' → e' < e → ¬ ms_al (a4 lev) e') → ¬ ms_good N v h a b (upd a3 lev (nI e)) L → ∀ t a5 a6 a7 a8 a9, ms_W post N (step + 1) (nI lev) (nI L) ba t a1 a2 (upd a3 lev (nI e)) a4 a5 a6 a7 a8 a9)
    (H2 : (∀ e', d ≤ e' → e' < 2 → ¬ ms_al (a4 lev) e') → ms_W post N (step + 1) (nI (lev + 1)) (nI L) ba t a1 a2 (upd a3 lev (-1)) a4 a5 a6 a7 a8 a9) : ms_W post N step (nI lev) (nI L) ba t a1 a2 a3 a4 a5 a6 a7 a8 a9 := by
  obtain ⟨n, e1, e2⟩ : ∃ n, 2001 - step = n + 1 ∧ 2001 - (step + 1) = n := ⟨2000 - step, by omega, by omega⟩
  unfold ms_W at H1 H0 H2 ⊢
  rw [e2] at H1 H0 H2
  rw [e1]
  refine pk_le 2000 step (fun z => absurd z (by omega)) (fun _ => pk_le 8 lev (fun z => absurd z (by omega)) (fun _ => br_t (nI_pos' (by omega)) (ms_nv hl hd hcur (fun e he hde hal hsk => ?_) (fun hsk => ?_))))
  · refine ⟨pk_in lev 8 hl, nm_r (e' := upd a3 lev (nI e)) (by rw [nI_clamp (by omega)]) ⟨pk_in lev 8 hl, br_t (by rw [nI_clamp (by omega), pk_us]; exact nI_pos' (by omega)) ?_⟩⟩
    exact ms_worth S (h3 e he) hL (fun g t a5 a6 a7 a8 a9 => br_f (by decide) (nm_r (e' := nI lev - 1) rfl (nm_r (nI_1 step) (H1 e he hde hal hsk g t a5 a6 a7 a8 a9)))) (fun g t a5 a6 a7 a8 a9 => br_t rfl (nm_r (nI_1 step) (H0 e he hde hal hsk g t a5 a6 a7 a8 a9)))
  · exact ⟨pk_in lev 8 hl, nm_r (e' := upd a3 lev (-1)) (by rw [nI_clamp (by omega)]) ⟨pk_in lev 8 hl, br_f (by rw [nI_clamp (by omega), pk_us]; decide) (nm_r (nI_1 lev) (nm_r (nI_1 step) (H2 hsk)))⟩⟩
def ms_T : Nat → Nat
  | 0 => 1
  | l + 1 => 3 + 2 * ms_T l
/-- a subtree of the search: from lev's variables all open to the same, with the best of it taken -/
def ms_sub (post : St2 → Prop) (N v h a b : Nat) (a1 a2 a4 : Nat → Int32) (lev : Nat) : Prop := ∀ (step X L : Nat) (A t : Int32) (a3 a5 a6 a7 a8 a9 : Nat → Int32), X % 2 ^ lev = 0 → X + 2 ^ lev ≤ 256 → step + ms_T lev ≤ 2000 → L ≤ 2000 → ms_mt lev X a3 → (∀ y, lev ≤ y → y < 8 → ms_al (a4 y) (X / 2 ^ y % 2)) → ms_good N v h a b a3 L →
  (∀ (step' L' : Nat) (A' t : Int32) (a3 a5 a6 a7 a8 a9 : Nat → Int32), step' ≤ step + ms_T lev → L' ≤ 2000 → ms_mt lev X a3 → ms_Sp N v h a b a4 X (X + 2 ^ lev) L A L' A' → ms_W post N step' (nI lev) (nI L') A' t a1 a2 a3 a4 a5 a6 a7 a8 a9) → ms_W post N step (nI lev - 1) (nI L) A t a1 a2 a3 a4 a5 a6 a7 a8 a9
def ms_node (post : St2 → Prop) (N v h a b : Nat) (a1 a2 a4 : Nat → Int32) (lev X d : Nat) : Prop := ∀ (step L : Nat) (A t : Int32) (a3 a5 a6 a7 a8 a9 : Nat → Int32), step + ((2 - d) * (1 + ms_T lev) + 1) ≤ 2000 → L ≤ 2000 → ms_nd lev X a3 → a3 lev + 1 = nI d →
  (∀ (step' L' : Nat) (A' t : Int32) (a3 a5 a6 a7 a8 a9 : Nat → Int32), step' ≤ step + ((2 - d) * (1 + ms_T lev) + 1) → L' ≤ 2000 → ms_mt (lev + 1) X a3 → ms_Sp N v h a b a4 (X + d * 2 ^ lev) (X + 2 * 2 ^ lev) L A L' A' → ms_W post N step' (nI (lev + 1)) (nI L') A' t a1 a2 a3 a4 a5 a6 a7 a8 a9) → ms_W post N step (nI lev) (nI L) A t a1 a2 a3 a4 a5 a6 a7 a8 a9
theorem ms_SpK {lev X d e L : Nat} {A : Int32} (hl : lev < 8) (hX : X % 2 ^ (lev + 1) = 0) (he : e ≤ 2) (hde : d ≤ e) (hsk : ∀ e', d ≤ e' → e' < e → ¬ ms_al (a4 lev) e') : ms_Sp N v h a b a4 (X + d * 2 ^ lev) (X + e * 2 ^ lev) L A L A := by
  refine ms_SpN (fun y y1 y2 y3 => ?_)
  have p1 : ¬ ms_al (a4 lev) 0 → y < X + 1 * 2 ^ lev → X + 0 * 2 ^ lev ≤ y → False := fun q z1 z2 => ms_skip hl hX (by omega) q y z2 (by omega) y3
  have p2 : ¬ ms_al (a4 lev) 1 → y < X + 2 * 2 ^ lev → X + 1 * 2 ^ lev ≤ y → False := fun q z1 z2 => ms_skip hl hX (by omega) q y z2 (by omega) y3
  exfalso
  rcases (show (d = e) ∨ (d = 0 ∧ e = 1) ∨ (d = 0 ∧ e = 2) ∨ (d = 1 ∧ e = 2) by omega) with z | ⟨z, w⟩ | ⟨z, w⟩ | ⟨z, w⟩
  · subst z
    omega
  · subst z w
    exact p1 (hsk 0 (by omega) (by omega)) y2 y1
  · subst z w
    rcases Nat.lt_or_ge y (X + 1 * 2 ^ lev) with q | q
    · exact p1 (hsk 0 (by omega) (by omega)) q y1
    · exact p2 (hsk 1 (by omega) (by omega)) y2 q
  · subst z w
    exact p2 (hsk 1 (by omega) (by omega)) y2 y1
theorem ms_nodeS {post : St2 → Prop} {lev X d : Nat} (S : ms_set N v h a b a1 a2) (hl : lev < 8) (hd : d ≤ 2) (hX : X % 2 ^ (lev + 1) = 0) (hX2 : X + 2 * 2 ^ lev ≤ 256) (hal : ∀ y, lev + 1 ≤ y → y < 8 → ms_al (a4 y) (X / 2 ^ y % 2))
    (IH : ms_sub post N v h a b a1 a2 a4 lev) (K : ∀ e, d ≤ e → e < 2 → ms_node post N v h a b a1 a2 a4 lev X (e + 1)) : ms_node post N v h a b a1 a2 a4 lev X d := by
  intro step L A t a3 a5 a6 a7 a8 a9 hst hL hnd hcur Q
  have cost : ∀ e, d ≤ e → e < 2 → (2 - (e + 1)) * (1 + ms_T lev) + 1 + (1 + ms_T lev) ≤ (2 - d) * (1 + ms_T lev) + 1 := by
    intro e h1 h2
    rcases (show (d = 0 ∧ e = 0) ∨ (d = 0 ∧ e = 1) ∨ (d = 1 ∧ e = 1) by omega) with ⟨z, w⟩ | ⟨z, w⟩ | ⟨z, w⟩ <;> subst z w <;> omega
  have top : ∀ e, e < 2 → X + e * 2 ^ lev + 2 ^ lev ≤ 256 ∧ X + (e + 1) * 2 ^ lev ≤ X + 2 * 2 ^ lev ∧ X + e * 2 ^ lev + 2 ^ lev = X + (e + 1) * 2 ^ lev := by
    intro e he
    rcases (show e = 0 ∨ e = 1 by omega) with z | z <;> subst z <;> omega
  have low : ∀ e, d ≤ e → X + d * 2 ^ lev ≤ X + e * 2 ^ lev := fun e he => Nat.add_le_add_left (Nat.mul_le_mul_right _ he) X
  have inc : ∀ e, nI e + 1 = nI (e + 1) := fun e => nI_1 e
  have joinS : ∀ e, d ≤ e → e < 2 → (∀ e', d ≤ e' → e' < e → ¬ ms_al (a4 lev) e') → ∀ L1 A1 L2 A2, ms_Sp N v h a b a4 (X + e * 2 ^ lev) (X + e * 2 ^ lev + 2 ^ lev) L A L1 A1 → ms_Sp N v h a b a4 (X + (e + 1) * 2 ^ lev) (X + 2 * 2 ^ lev) L1 A1 L2 A2 → ms_Sp N v h a b a4 (X + d * 2 ^ lev) (X + 2 * 2 ^ lev) L A L2 A2 := by
    intro e h1 h2 hsk L1 A1 L2 A2 s1 s2
    obtain ⟨_, t2, t3⟩ := top e h2
    rw [t3] at s1
    exact ms_SpC (low e h1) (by omega) (ms_SpK hl hX (by omega) h1 hsk) (ms_SpC (by omega) t2 s1 s2)
  refine ms_s S (by omega) hl hd hL hcur (fun e he => ms_mtT (ms_ndU hX he hnd)) (fun e he hde ha hsk hg t a5 a6 a7 a8 a9 => ?_) (fun e he hde ha hsk hg t a5 a6 a7 a8 a9 => ?_) (fun hsk => ?_)
  · have c1 := cost e hde he
    obtain ⟨t1, t2, t3⟩ := top e he
    refine IH (step + 1) (X + e * 2 ^ lev) L A t _ a5 a6 a7 a8 a9 (ms_mod hX) t1 (by omega) hL (ms_ndU hX he hnd) (fun y y1 y2 => ?_) hg (fun step' L' A' t a3 a5 a6 a7 a8 a9 g1 g2 g3 g4 => ?_)
    · by_cases z : y = lev
      · subst z
        rw [ms_ar0 hX he]
        exact ha
      · rw [ms_ar hX he (by omega)]
        exact hal y (by omega) y2
    · obtain ⟨n1, n2⟩ := ms_nd1 hl hX he g3
      exact K e hde he step' L' A' t a3 a5 a6 a7 a8 a9 (by omega) g2 n1 (by rw [n2]; exact inc e) (fun step'' L'' A'' t a3 a5 a6 a7 a8 a9 k1 k2 k3 k4 => Q step'' L'' A'' t a3 a5 a6 a7 a8 a9 (by omega) k2 k3 (joinS e hde he hsk L' A' L'' A'' g4 k4))
  · have c1 := cost e hde he
    have m := ms_ndU hX he hnd
    obtain ⟨n1, n2⟩ := ms_nd1 hl hX he m
    exact K e hde he (step + 1) L A t _ a5 a6 a7 a8 a9 (by omega) hL n1 (by rw [n2]; exact inc e) (fun step'' L'' A'' t a3 a5 a6 a7 a8 a9 k1 k2 k3 k4 => Q step'' L'' A'' t a3 a5 a6 a7 a8 a9 (by omega) k2 k3 (joinS e hde he hsk L A L'' A'' (ms_SpN (ms_cut S.2.1 S.2.2.1 (ms_mod hX) m hg)) k4))
  · exact Q (step + 1) L A t _ a5 a6 a7 a8 a9 (by omega) hL (ms_ndM hnd) (ms_SpK hl hX (Nat.le_refl 2) hd hsk)
theorem ms_subs {post : St2 → Prop} (S : ms_set N v h a b a1 a2) : ∀ lev, lev ≤ 8 → ms_sub post N v h a b a1 a2 a4 lev := by
  intro lev
  induction lev with
  | zero =>
    intro _ step X L A t a3 a5 a6 a7 a8 a9 hX hX2 hst hL hm hal hg Q
    rw [show nI 0 - 1 = (-1 : Int32) from by decide]
    have hst' : step + 1 ≤ 2000 := hst
    have hX3 : X + 1 ≤ 256 := hX2
    obtain ⟨f1, f2, f3⟩ := ms_leaf S.2.1 S.2.2.1 hm hg
    refine ms_s1 S (by omega) hm (by omega) hg (Q (step + 1) _ _ t a3 a5 a6 a7 a8 a9 (Nat.le_refl _) (by omega) hm ?_)
    refine Or.inr ⟨X, Nat.le_refl X, Nat.lt_succ_self X, ⟨fun z hz => hal z (Nat.zero_le z) hz, f1⟩, rfl, rfl, f2, fun y y1 y2 _ => ?_⟩
    have y3 : y < X + 1 := y2
    have e : y = X := by omega
    subst e
    exact ⟨Nat.le_refl _, fun z => absurd z (by omega)⟩
  | succ lev ih =>
    intro hl step X L A t a3 a5 a6 a7 a8 a9 hX hX2 hst hL hm hal hg Q
    have IH := ih (by omega)
    have hp : 2 ^ (lev + 1) = 2 * 2 ^ lev := by rw [Nat.pow_succ, Nat.mul_comm]
    rw [nI_pred]
    have hX3 : X + 2 * 2 ^ lev ≤ 256 := by omega
    have hT : ms_T (lev + 1) = 3 + 2 * ms_T lev := rfl
    have n2 : ms_node post N v h a b a1 a2 a4 lev X 2 := ms_nodeS S (by omega) (by omega) hX hX3 hal IH (fun e h1 h2 => absurd h1 (by omega))
    have n1 : ms_node post N v h a b a1 a2 a4 lev X 1 := ms_nodeS S (by omega) (by omega) hX hX3 hal IH (fun e h1 h2 => by
      have e1 : e = 1 := by omega
      subst e1
      exact n2)
    have n0 : ms_node post N v h a b a1 a2 a4 lev X 0 := ms_nodeS S (by omega) (by omega) hX hX3 hal IH (fun e h1 h2 => by
      rcases (show e = 0 ∨ e = 1 by omega) with z | z
      · subst z
        exact n1
      · subst z
        exact n2)
    obtain ⟨d1, d2⟩ := ms_nd0 (by omega) hm
    refine n0 step L A t a3 a5 a6 a7 a8 a9 (by omega) hL d1 (by rw [d2]; decide) (fun step' L' A' t a3 a5 a6 a7 a8 a9 k1 k2 k3 k4 => Q step' L' A' t a3 a5 a6 a7 a8 a9 (by omega) k2 k3 ?_)
    rw [Nat.zero_mul, Nat.add_zero] at k4
    rw [hp]
    exact k4
theorem ms_search {post : St2 → Prop} (S : ms_set N v h a b a1 a2) (H : ∀ L A t a3 a5 a6 a7 a8 a9, ms_Sp N v h a b a4 0 256 2000 (-1) L A → post (nI N, nI L, A, t, a1, a2, a3, a4, a5, a6, a7, a8, a9)) : wpX_search post (nI N, bl, ba, t, a1, a2, a3, a4, a5, a6, a7, a8, a9) := by
  refine pk_loop (σ := Nat → Int32) (fun n i s => wX_search_14 post (nI N) 2000 (-1) t n (nI i) a1 a2 s a4 a5 a6 a7 a8 a9) (fun i s => ∀ x, x < i → s x = -1) 8 0 a3 (by omega) (fun x hx => absurd hx (by omega)) ?_ ?_
  · intro n s hI
    refine pk_le 8 8 (fun _ => ⟨2001, ?_⟩) (fun z => absurd z (by omega))
    have R : ms_W post N 0 (nI 8 - 1) (nI 2000) (-1) t a1 a2 s a4 a5 a6 a7 a8 a9 := by
      refine ms_subs S 8 (Nat.le_refl 8) 0 0 2000 (-1) t s a5 a6 a7 a8 a9 (by decide) (by decide) (by decide) (by decide) (fun x hx => by rw [if_pos hx]; exact hI x hx) (fun y h1 h2 => absurd h1 (by omega)) ⟨fun hN e => ?_, ?_⟩ (fun step' L' A' t a3 a5 a6 a7 a8 a9 k1 k2 k3 k4 => ?_)
      · rw [hI (h / 2) (by have := S.2.2.1; omega)] at e
        exact ms_m1 _ (by omega) e
      · obtain ⟨hN, hv, hh, ha, ha', hb1, hb', hc⟩ := S
        unfold ms_lb
        rw [hI v hv, if_neg (ms_m1 0 (by omega)), if_neg (ms_m1 1 (by omega))]
        by_cases q : 2 < N ∧ h / 2 = v
        · rw [if_pos q]
          by_cases p : h % 2 = 0
          · rw [if_pos p]
            omega
          · rw [if_neg p]
            omega
        · rw [if_neg q]
          omega
      · have k1' : step' ≤ 1021 := Nat.le_trans k1 (by decide)
        obtain ⟨n, e1⟩ : ∃ n, 2001 - step' = n + 1 := ⟨2000 - step', by omega⟩
        unfold ms_W
        rw [e1]
        exact pk_le 2000 step' (fun z => absurd z (by omega)) (fun _ => pk_le 8 8 (fun _ => H L' A' t a3 a5 a6 a7 a8 a9 k4) (fun z => absurd z (by omega)))
    rw [show nI 8 - 1 = (7 : Int32) from by decide] at R
    exact R
  · intro n i s hi hI hw
    refine pk_le 8 i (fun z => absurd z (by omega)) (fun _ => ⟨pk_in i 8 hi, nm_r (e' := upd s i (-1)) (by rw [nI_clamp (by omega)]) (nm_r (nI_1 i) (hw _ ?_))⟩)
    exact ms_fill (f := fun _ => -1) hI rfl
end
end
section
section
variable {bl ba t : Int32} {a1 a2 a3 a4 a5 a6 a7 a8 a9 : Nat → Int32} {N v h a b : Nat}
theorem ms_free {post : St2 → Prop} {c : Int32} (H : ∀ b4, (∀ x, x < 8 → b4 x = -1) → post (c, bl, ba, t, a1, a2, a3, b4, a5, a6, a7, a8, a9)) : wpX_freeAll post (c, bl, ba, t, a1, a2, a3, a4, a5, a6, a7, a8, a9) := by
  refine pk_loop (σ := Nat → Int32) (fun n i s => wX_freeAll_2 post c bl ba t n (nI i) a1 a2 a3 s a5 a6 a7 a8 a9) (fun i s => ∀ x, x < i → s x = -1) 8 0 a4 (by omega) (fun x hx => absurd hx (by omega)) ?_ ?_
  · intro n s hI
    exact pk_le 8 8 (fun _ => H s hI) (fun z => absurd z (by omega))
  · intro n i s hi hI hw
    refine pk_le 8 i (fun z => absurd z (by omega)) (fun _ => ⟨pk_in i 8 hi, nm_r (e' := upd s i (-1)) (by rw [nI_clamp (by omega)]) (nm_r (nI_1 i) (hw _ ?_))⟩)
    exact ms_fill (f := fun _ => -1) hI rfl
/-- x is the first of the best allowed assignments -/
def ms_Min (N v h a b : Nat) (a4 : Nat → Int32) (x : Nat) : Prop := x < 256 ∧ ms_ok N h a4 x ∧ ∀ y, y < 256 → ms_ok N h a4 y → ms_ls v a b x ≤ ms_ls v a b y ∧ (y < x → ms_ls v a b x < ms_ls v a b y)
theorem ms_ls50 {y : Nat} (ha : a ≤ 50) (hb : b ≤ 50) : ms_ls v a b y ≤ 50 := by
  unfold ms_ls
  by_cases q : y / 2 ^ v % 2 = 0
  · rw [if_pos q]
    exact ha
  · rw [if_neg q]
    exact hb
theorem ms_srch {post : St2 → Prop} (S : ms_set N v h a b a1 a2) (H0 : (∀ y, y < 256 → ¬ ms_ok N h a4 y) → ∀ bl t a3 a5 a6 a7 a8 a9, post (nI N, bl, -1, t, a1, a2, a3, a4, a5, a6, a7, a8, a9))
    (H1 : ∀ x, ms_Min N v h a b a4 x → ∀ t a3 a5 a6 a7 a8 a9, post (nI N, nI (ms_ls v a b x), nI x, t, a1, a2, a3, a4, a5, a6, a7, a8, a9)) : wpX_search post (nI N, bl, ba, t, a1, a2, a3, a4, a5, a6, a7, a8, a9) := by
  refine ms_search S (fun L A t a3 a5 a6 a7 a8 a9 q => ?_)
  rcases q with ⟨e1, e2, g⟩ | ⟨x, x1, x2, x3, x4, x5, x6, x7⟩
  · rw [e2]
    refine H0 (fun y hy hk => ?_) _ _ _ _ _ _ _ _
    have q1 := g y (Nat.zero_le y) hy hk
    have q2 := ms_ls50 (v := v) (y := y) S.2.2.2.2.1 S.2.2.2.2.2.2.1
    omega
  · rw [x4, x5]
    exact H1 x ⟨x2, x3, fun y hy hk => x7 y (Nat.zero_le y) hy hk⟩ _ _ _ _ _ _ _
theorem ms_mloss {post : Int32 → St2 → Prop} (S : ms_set N v h a b a1 a2) (H0 : ∀ a4, (∀ x, x < 8 → a4 x = -1) → (∀ y, y < 256 → ¬ ms_ok N h a4 y) → ∀ bl ba t a3 a5 a6 a7 a8 a9, post (-1) (nI N, bl, ba, t, a1, a2, a3, a4, a5, a6, a7, a8, a9))
    (H1 : ∀ a4, (∀ x, x < 8 → a4 x = -1) → ∀ x, ms_Min N v h a b a4 x → ∀ bl ba t a3 a5 a6 a7 a8 a9, post (nI (ms_ls v a b x)) (nI N, bl, ba, t, a1, a2, a3, a4, a5, a6, a7, a8, a9)) : wpX_loss post (nI N, bl, ba, t, a1, a2, a3, a4, a5, a6, a7, a8, a9) := by
  unfold wpX_loss
  refine ms_free (fun b4 h4 => ?_)
  exact ms_srch S (fun q bl t a3 a5 a6 a7 a8 a9 => br_t (by decide) (H0 b4 h4 q _ _ _ _ _ _ _ _ _)) (fun x hx t a3 a5 a6 a7 a8 a9 => br_f (nI_pos (by have := hx.1; omega)) (H1 b4 h4 x hx _ _ _ _ _ _ _ _ _))
theorem ms_mbest {post : Int32 → St2 → Prop} (S : ms_set N v h a b a1 a2) (H0 : ∀ a4, (∀ x, x < 8 → a4 x = -1) → (∀ y, y < 256 → ¬ ms_ok N h a4 y) → ∀ bl ba t a3 a5 a6 a7 a8 a9, post (-1) (nI N, bl, ba, t, a1, a2, a3, a4, a5, a6, a7, a8, a9))
    (H1 : ∀ a4, (∀ x, x < 8 → a4 x = -1) → ∀ x, ms_Min N v h a b a4 x → ∀ bl ba t a3 a5 a6 a7 a8 a9, post (nI x) (nI N, bl, ba, t, a1, a2, a3, a4, a5, a6, a7, a8, a9)) : wpX_best post (nI N, bl, ba, t, a1, a2, a3, a4, a5, a6, a7, a8, a9) := by
  unfold wpX_best
  refine ms_free (fun b4 h4 => ?_)
  exact ms_srch S (fun q bl t a3 a5 a6 a7 a8 a9 => H0 b4 h4 q _ _ _ _ _ _ _ _ _) (fun x hx t a3 a5 a6 a7 a8 a9 => H1 b4 h4 x hx _ _ _ _ _ _ _ _ _)
theorem ms_mposs {post : Int32 → St2 → Prop} (S : ms_set N v h a b a1 a2) (H0 : ∀ a4, (∀ x, x < 8 → a4 x = -1) → (∀ y, y < 256 → ¬ ms_ok N h a4 y) → ∀ bl ba t a3 a5 a6 a7 a8 a9, post 0 (nI N, bl, ba, t, a1, a2, a3, a4, a5, a6, a7, a8, a9))
    (H1 : ∀ bl ba t a3 a4 a5 a6 a7 a8 a9, post 1 (nI N, bl, ba, t, a1, a2, a3, a4, a5, a6, a7, a8, a9)) : wpX_possible post (nI N, bl, ba, t, a1, a2, a3, a4, a5, a6, a7, a8, a9) := by
  unfold wpX_possible
  refine ms_free (fun b4 h4 => ?_)
  exact ms_srch S (fun q bl t a3 a5 a6 a7 a8 a9 => br_t (by decide) (H0 b4 h4 q _ _ _ _ _ _ _ _ _)) (fun x hx t a3 a5 a6 a7 a8 a9 => br_f (nI_pos (by have := hx.1; omega)) (H1 _ _ _ _ _ _ _ _ _ _))
theorem ms_lit : ∀ l, l < 16 → (nI l >>> ((1 : Int32) &&& 31)) &&& 7 = nI (l / 2) ∧ 1 - (nI l &&& 1) = nI (1 - l % 2) := by decide +kernel
theorem ms_mlw {post : Int32 → St2 → Prop} {l : Nat} (S : ms_set N v h a b a1 a2) (hl : l < 16) (H0 : ∀ a4, (∀ x, x < 8 → a4 x = if x = l / 2 then nI (1 - l % 2) else -1) → (∀ y, y < 256 → ¬ ms_ok N h a4 y) → ∀ bl ba t a3 a5 a6 a7 a8 a9, post (-1) (nI N, bl, ba, t, a1, a2, a3, a4, a5, a6, a7, a8, a9))
    (H1 : ∀ a4, (∀ x, x < 8 → a4 x = if x = l / 2 then nI (1 - l % 2) else -1) → ∀ x, ms_Min N v h a b a4 x → ∀ bl ba t a3 a5 a6 a7 a8 a9, post (nI (ms_ls v a b x)) (nI N, bl, ba, t, a1, a2, a3, a4, a5, a6, a7, a8, a9)) : wpX_lossWith post (nI N, bl, ba, t, a1, a2, a3, a4, a5, a6, a7, a8, a9) (nI l) := by
  obtain ⟨e1, e2⟩ := ms_lit l hl
  unfold wpX_lossWith
  refine ms_free (fun b4 h4 => ?_)
  have h5 : ∀ x, x < 8 → upd b4 (l / 2) (nI (1 - l % 2)) x = if x = l / 2 then nI (1 - l % 2) else -1 := by
    intro x hx
    by_cases q : x = l / 2
    · rw [if_pos q, q, pk_us]
    · rw [if_neg q, pk_un q]
      exact h4 x hx
  refine ⟨pk_in (l / 2) 8 (by omega) e1, nm_r (e' := upd b4 (l / 2) (nI (1 - l % 2))) (by rw [e1, e2, nI_clamp (by omega)]) ?_⟩
  exact ms_srch S (fun q bl t a3 a5 a6 a7 a8 a9 => br_t (by decide) (H0 _ h5 q _ _ _ _ _ _ _ _ _)) (fun x hx t a3 a5 a6 a7 a8 a9 => br_f (nI_pos (by have := hx.1; omega)) (H1 _ h5 x hx _ _ _ _ _ _ _ _ _))
theorem ms_h1 : ∀ i, i < 8 → ∀ X, X < 256 → ((2 * nI i) + 1) - (((nI X).toUInt32 >>> ((nI i).toUInt32 &&& Int32.toUInt32 31)).toInt32 &&& 1) = nI (2 * i + 1 - X / 2 ^ i % 2) := by decide +kernel
theorem ms_h2 : ∀ l, l < 16 → ∀ m, m < 16 → ((((nI (2 ^ l)).toUInt32 >>> ((nI m).toUInt32 &&& Int32.toUInt32 31)).toInt32 &&& 1) = 0 ↔ ¬ l = m) := by decide +kernel
theorem ms_holds {post : Int32 → Prop} {c : Int32} {k l X : Nat} (hk : k < 24) (hl : l < 16) (hX : X < 256) (h1 : a1 k = nI (2 ^ l)) (H1 : ¬ X / 2 ^ (l / 2) % 2 = l % 2 → post 1) (H0 : X / 2 ^ (l / 2) % 2 = l % 2 → post 0) : wpX_holdsFor post (c, bl, ba, t, a1, a2, a3, a4, a5, a6, a7, a8, a9) (nI k) (nI X) := by
  have skip : ∀ n i, i < 8 → ¬ l = 2 * i + 1 - X / 2 ^ i % 2 → wX_holdsFor_2 post (nI k) (nI X) c bl ba t a1 a2 a3 a4 a5 a6 a7 a8 a9 n (nI (i + 1)) → wX_holdsFor_2 post (nI k) (nI X) c bl ba t a1 a2 a3 a4 a5 a6 a7 a8 a9 (n + 1) (nI i) := by
    intro n i hi hne hw
    refine pk_le 8 i (fun z => absurd z (by omega)) (fun _ => nm_r (ms_h1 i hi X hX) ⟨pk_in k 24 hk, ?_⟩)
    rw [nI_clamp (show k < 2 ^ 31 by omega), h1]
    exact br_t ((ms_h2 l hl _ (by omega)).mpr hne) (nm_r (nI_1 i) hw)
  by_cases q : X / 2 ^ (l / 2) % 2 = l % 2
  · refine pk_loop (σ := Unit) (fun n i _ => wX_holdsFor_2 post (nI k) (nI X) c bl ba t a1 a2 a3 a4 a5 a6 a7 a8 a9 n (nI i)) (fun _ _ => True) 8 0 () (by omega) trivial (fun n _ _ => pk_le 8 8 (fun _ => H0 q) (fun z => absurd z (by omega))) (fun n i _ hi _ hw => skip n i hi (fun z => ?_) (hw () trivial))
    have e : l / 2 = i := by omega
    rw [e] at q
    omega
  · refine pk_loop (σ := Unit) (fun n i _ => wX_holdsFor_2 post (nI k) (nI X) c bl ba t a1 a2 a3 a4 a5 a6 a7 a8 a9 n (nI i)) (fun _ _ => True) (l / 2) 0 () (by omega) trivial ?_ (fun n i _ hi _ hw => skip n i (by omega) (fun z => ?_) (hw () trivial))
    · intro n _ _
      refine pk_le 8 (l / 2) (fun z => absurd z (by omega)) (fun _ => nm_r (ms_h1 (l / 2) (by omega) X hX) ⟨pk_in k 24 hk, ?_⟩)
      rw [nI_clamp (show k < 2 ^ 31 by omega), h1]
      exact br_f (fun z => (ms_h2 l hl _ (by omega)).mp z (by omega)) (H1 q)
    · omega
theorem ms_mkept {post : Int32 → St2 → Prop} (S : ms_set 2 v h a b a1 a2) (H0 : ∀ a4, (∀ x, x < 8 → a4 x = -1) → (∀ y, y < 256 → ¬ ms_ok 2 h a4 y) → ∀ bl ba t a3 a5 a6 a7 a8 a9, post (-1) (nI 2, bl, ba, t, a1, a2, a3, a4, a5, a6, a7, a8, a9))
    (H1 : ∀ bl ba t a3 a4 a5 a6 a7 a8 a9, post 1 (nI 2, bl, ba, t, a1, a2, a3, a4, a5, a6, a7, a8, a9)) : wpX_kept post (nI 2, bl, ba, t, a1, a2, a3, a4, a5, a6, a7, a8, a9) := by
  obtain ⟨f0, f1, f2, f3⟩ := S.2.2.2.2.2.2.2.2 0 (by omega)
  obtain ⟨g0, g1, g2, g3⟩ := S.2.2.2.2.2.2.2.2 1 (by omega)
  have hv := S.2.1
  have ha := S.2.2.2.1
  have ha' := S.2.2.2.2.1
  have hb := S.2.2.2.2.2.1
  have hb' := S.2.2.2.2.2.2.1
  unfold wpX_kept
  refine ms_free (fun b4 h4 => ?_)
  refine ms_srch S (fun q bl t a3 a5 a6 a7 a8 a9 => br_f (by decide) (H0 b4 h4 q _ _ _ _ _ _ _ _ _)) (fun x hx t a3 a5 a6 a7 a8 a9 => br_t (nI_pos' (by have := hx.1; omega)) ⟨3, ?_⟩)
  have fin : ∀ n, wX_kept_21 post (nI 2) (nI (ms_ls v a b x)) (nI x) t a1 a2 a3 b4 a5 a6 a7 a8 a9 (n + 1) (nI 1) (nI 2) := fun n => pk_le 2 2 (fun _ => H1 _ _ _ _ _ _ _ _ _ _) (fun z => absurd z (by omega))
  refine pk_le 2 0 (fun z => absurd z (by omega)) (fun _ => ⟨pk_in 0 24 (by omega), ?_⟩)
  refine br_f (by show ¬ a2 0 ≤ 0; rw [f3]; exact nI_nle ha (by show a < 2 ^ 31; omega)) ?_
  refine ms_holds (k := 0) (l := ms_lt v h 0) (by omega) f0 hx.1 f2 (fun q => br_f (by decide) (nm_r (e' := nI 1) (by decide) (nm_r (e' := nI 1) (by decide) ?_))) (fun q => br_t rfl (nm_r (e' := nI 0) (by decide) (nm_r (e' := nI 1) (by decide) ?_)))
  · rw [show ms_lt v h 0 = 2 * v from rfl, show 2 * v / 2 = v by omega, show 2 * v % 2 = 0 by omega] at q
    refine pk_le 2 1 (fun z => absurd z (by omega)) (fun _ => ⟨pk_in 1 24 (by omega), ?_⟩)
    refine br_f (by show ¬ a2 1 ≤ 0; rw [g3]; exact nI_nle hb (by show b < 2 ^ 31; omega)) ?_
    refine ms_holds (k := 1) (l := ms_lt v h 1) (by omega) g0 hx.1 g2 (fun p => ?_) (fun p => br_t rfl (nm_r (e' := nI 1) (by decide) (nm_r (e' := nI 2) (by decide) (fin 0))))
    rw [show ms_lt v h 1 = 2 * v + 1 from rfl, show (2 * v + 1) / 2 = v by omega, show (2 * v + 1) % 2 = 1 by omega] at p
    omega
  · rw [show ms_lt v h 0 = 2 * v from rfl, show 2 * v / 2 = v by omega, show 2 * v % 2 = 0 by omega] at q
    refine pk_le 2 1 (fun z => absurd z (by omega)) (fun _ => ⟨pk_in 1 24 (by omega), ?_⟩)
    refine br_f (by show ¬ a2 1 ≤ 0; rw [g3]; exact nI_nle hb (by show b < 2 ^ 31; omega)) ?_
    refine ms_holds (k := 1) (l := ms_lt v h 1) (by omega) g0 hx.1 g2 (fun p => br_f (by decide) (nm_r (e' := nI 1) (by decide) (nm_r (e' := nI 2) (by decide) (fin 0)))) (fun p => ?_)
    rw [show ms_lt v h 1 = 2 * v + 1 from rfl, show (2 * v + 1) / 2 = v by omega, show (2 * v + 1) % 2 = 1 by omega] at p
    omega
theorem ms_add {post : Int32 → St2 → Prop} {p0 p1 : Int32} {k : Nat} (hk : k < 24) (H : post (nI (k + 1)) (nI (k + 1), bl, ba, t, upd a1 k (p0 &&& 65535), upd a2 k p1, a3, a4, a5, a6, a7, a8, a9)) : wpX_addClause post (nI k, bl, ba, t, a1, a2, a3, a4, a5, a6, a7, a8, a9) p0 p1 :=
  pk_lt k 24 (fun _ => ⟨pk_in k 24 hk, nm_r (by rw [nI_clamp (by omega)]) ⟨pk_in k 24 hk, nm_r (by rw [nI_clamp (by omega)]) (nm_r (nI_1 k) H)⟩⟩) (fun z => absurd z (by omega))
theorem ms_soft {post : Int32 → St2 → Prop} {p0 : Int32} {k w : Nat} (hk : k < 24) (h1 : 1 ≤ w) (h2 : w ≤ 50) (H : post (nI (k + 1)) (nI (k + 1), bl, ba, t, upd a1 k (p0 &&& 65535), upd a2 k (nI w), a3, a4, a5, a6, a7, a8, a9)) : wpX_soft post (nI k, bl, ba, t, a1, a2, a3, a4, a5, a6, a7, a8, a9) p0 (nI w) := by
  unfold wpX_soft
  exact pk_lt w 1 (fun z => absurd z (by omega)) (fun _ => pk_le w 50 (fun _ => ms_add hk H) (fun z => absurd z (by omega)))
end
end
section
section
variable {a1 a2 a3 a4 : Nat → Int32} {N v h a b : Nat}
theorem ms_okF {y : Nat} (h4 : ∀ x, x < 8 → a4 x = -1) : ms_ok N h a4 y ↔ (2 < N → ¬ y / 2 ^ (h / 2) % 2 = h % 2) := by
  refine ⟨fun q => q.2, fun q => ⟨fun z hz => Or.inl ?_, q⟩⟩
  rw [h4 z hz]
  decide
theorem ms_okW {l y : Nat} (hl : l < 16) (h4 : ∀ x, x < 8 → a4 x = if x = l / 2 then nI (1 - l % 2) else -1) : ms_ok N h a4 y ↔ (y / 2 ^ (l / 2) % 2 = 1 - l % 2 ∧ (2 < N → ¬ y / 2 ^ (h / 2) % 2 = h % 2)) := by
  refine ⟨fun q => ⟨?_, q.2⟩, fun q => ⟨fun z hz => ?_, q.2⟩⟩
  · have p := q.1 (l / 2) (by omega)
    rw [h4 (l / 2) (by omega), if_pos rfl] at p
    rcases p with p | p
    · exact absurd p (nI_pos (by omega))
    · rw [nI_eq (by omega) (by omega)] at p
      omega
  · rw [h4 z hz]
    by_cases e : z = l / 2
    · rw [if_pos e, e, q.1]
      exact Or.inr rfl
    · rw [if_neg e]
      exact Or.inl (by decide)
theorem ms_y1 : ∀ v, v < 8 → ∀ c, c < 2 → c * 2 ^ v < 256 ∧ c * 2 ^ v / 2 ^ v % 2 = c := by decide +kernel
theorem ms_y2' : ∀ v, v < 8 → ∀ w, w < 8 → ∀ k, k < 4 → ¬ w = v → k / 2 * 2 ^ v + k % 2 * 2 ^ w < 256 ∧ (k / 2 * 2 ^ v + k % 2 * 2 ^ w) / 2 ^ v % 2 = k / 2 ∧ (k / 2 * 2 ^ v + k % 2 * 2 ^ w) / 2 ^ w % 2 = k % 2 := by decide +kernel
theorem ms_y2 (v : Nat) (hv : v < 8) (w : Nat) (hw : w < 8) (c : Nat) (hc : c < 2) (d : Nat) (hd : d < 2) (hne : ¬ w = v) : c * 2 ^ v + d * 2 ^ w < 256 ∧ (c * 2 ^ v + d * 2 ^ w) / 2 ^ v % 2 = c ∧ (c * 2 ^ v + d * 2 ^ w) / 2 ^ w % 2 = d := by
  have q := ms_y2' v hv w hw (2 * c + d) (by omega) hne
  rw [show (2 * c + d) / 2 = c by omega, show (2 * c + d) % 2 = d by omega] at q
  exact q
theorem ms_ls0 {y : Nat} (q : y / 2 ^ v % 2 = 0) : ms_ls v a b y = a := if_pos q
theorem ms_ls1 {y : Nat} (q : y / 2 ^ v % 2 = 1) : ms_ls v a b y = b := if_neg (by omega)
theorem ms_lsE (y : Nat) : (y / 2 ^ v % 2 = 0 ∧ ms_ls v a b y = a) ∨ (y / 2 ^ v % 2 = 1 ∧ ms_ls v a b y = b) := by
  rcases Nat.mod_two_eq_zero_or_one (y / 2 ^ v) with q | q
  · exact Or.inl ⟨q, ms_ls0 q⟩
  · exact Or.inr ⟨q, ms_ls1 q⟩
/-- no hard clause, nothing given -/
theorem ms_P1 {x : Nat} (hv : v < 8) (h4 : ∀ x, x < 8 → a4 x = -1) (hx : ms_Min 2 v h a b a4 x) : ms_ls v a b x = min a b ∧ x = (if a ≤ b then 0 else 2 ^ v) := by
  obtain ⟨x1, x2, x3⟩ := hx
  have ok : ∀ y, ms_ok 2 h a4 y := fun y => (ms_okF h4).mpr (fun z => absurd z (by omega))
  obtain ⟨y0, y0'⟩ := ms_y1 v hv 0 (by omega)
  obtain ⟨y1, y1'⟩ := ms_y1 v hv 1 (by omega)
  rw [Nat.zero_mul] at y0 y0'
  rw [Nat.one_mul] at y1 y1'
  obtain ⟨p0, q0⟩ := x3 0 y0 (ok _)
  obtain ⟨p1, q1⟩ := x3 (2 ^ v) y1 (ok _)
  rw [ms_ls0 y0'] at p0 q0
  rw [ms_ls1 y1'] at p1 q1
  have e : ms_ls v a b x = min a b := by
    rcases ms_lsE (v := v) (a := a) (b := b) x with ⟨_, z⟩ | ⟨_, z⟩ <;> omega
  refine ⟨e, ?_⟩
  by_cases w : a ≤ b
  · rw [if_pos w]
    rcases Nat.eq_zero_or_pos x with z | z
    · exact z
    · have := q0 z
      omega
  · rw [if_neg w]
    rcases ms_lsE (v := v) (a := a) (b := b) x with ⟨_, z⟩ | ⟨z', z⟩
    · omega
    · rcases Nat.lt_or_ge x (2 ^ v) with u | u
      · rw [Nat.div_eq_of_lt u] at z'
        omega
      · rcases Nat.lt_or_ge (2 ^ v) x with u' | u'
        · have := q1 u'
          omega
        · omega
/-- an assignment that the hard clause allows, v's value free if the clause isn't on v -/
theorem ms_wit (hv : v < 8) (hh : h < 16) (c : Nat) (hc : c < 2) (hq : h / 2 = v → ¬ c = h % 2) : ∃ y, y < 256 ∧ y / 2 ^ v % 2 = c ∧ ¬ y / 2 ^ (h / 2) % 2 = h % 2 := by
  by_cases e : h / 2 = v
  · obtain ⟨q1, q2⟩ := ms_y1 v hv c hc
    refine ⟨c * 2 ^ v, q1, q2, ?_⟩
    rw [e, q2]
    exact hq e
  · obtain ⟨q1, q2, q3⟩ := ms_y2 v hv (h / 2) (by omega) c hc (1 - h % 2) (by omega) e
    refine ⟨_, q1, q2, ?_⟩
    rw [q3]
    omega
theorem ms_some (hv : v < 8) (hh : h < 16) : ∃ y, y < 256 ∧ ¬ y / 2 ^ (h / 2) % 2 = h % 2 := by
  obtain ⟨y, y1, _, y3⟩ := ms_wit (v := v) hv hh (1 - h % 2) (by omega) (fun _ => by omega)
  exact ⟨y, y1, y3⟩
/-- with the hard clause, nothing given -/
theorem ms_P2 {x : Nat} (hv : v < 8) (hh : h < 16) (h4 : ∀ x, x < 8 → a4 x = -1) (hx : ms_Min 3 v h a b a4 x) : ms_ls v a b x = if h / 2 = v then (if h % 2 = 0 then b else a) else min a b := by
  obtain ⟨x1, x2, x3⟩ := hx
  have ok := (ms_okF h4).mp x2 (by omega)
  by_cases e : h / 2 = v
  · rw [if_pos e]
    rw [e] at ok
    by_cases p : h % 2 = 0
    · rw [if_pos p]
      exact ms_ls1 (by omega)
    · rw [if_neg p]
      exact ms_ls0 (by omega)
  · rw [if_neg e]
    obtain ⟨y0, y1, y2, y3⟩ := ms_wit hv hh 0 (by omega) (fun z => absurd z e)
    obtain ⟨z0, z1, z2, z3⟩ := ms_wit hv hh 1 (by omega) (fun z => absurd z e)
    have p0 := (x3 y0 y1 ((ms_okF h4).mpr (fun _ => y3))).1
    have p1 := (x3 z0 z1 ((ms_okF h4).mpr (fun _ => z3))).1
    rw [ms_ls0 y2] at p0
    rw [ms_ls1 z2] at p1
    rcases ms_lsE (v := v) (a := a) (b := b) x with ⟨_, z⟩ | ⟨_, z⟩ <;> omega
/-- the hard clause's opposite given: nothing is allowed -/
theorem ms_P3 {l y : Nat} (hl : l < 16) (e1 : l / 2 = h / 2) (e2 : ¬ l % 2 = h % 2) (h4 : ∀ x, x < 8 → a4 x = if x = l / 2 then nI (1 - l % 2) else -1) : ¬ ms_ok 3 h a4 y := by
  intro q
  obtain ⟨q1, q2⟩ := (ms_okW hl h4).mp q
  have q3 := q2 (by omega)
  rw [e1] at q1
  omega
/-- v given true -/
theorem ms_P4 (hv : v < 8) (hh : h < 16) (h4 : ∀ x, x < 8 → a4 x = if x = (2 * v) / 2 then nI (1 - (2 * v) % 2) else -1) : ((∀ y, y < 256 → ¬ ms_ok 3 h a4 y) → h / 2 = v ∧ h % 2 = 1) ∧ ∀ x, ms_Min 3 v h a b a4 x → ms_ls v a b x = b ∧ ¬ (h / 2 = v ∧ h % 2 = 1) := by
  have ok : ∀ y, ms_ok 3 h a4 y ↔ y / 2 ^ v % 2 = 1 ∧ ¬ y / 2 ^ (h / 2) % 2 = h % 2 := by
    intro y
    have q := ms_okW (N := 3) (h := h) (y := y) (show 2 * v < 16 by omega) h4
    rw [show 2 * v / 2 = v by omega, show 1 - 2 * v % 2 = 1 by omega] at q
    rw [q]
    exact ⟨fun z => ⟨z.1, z.2 (by omega)⟩, fun z => ⟨z.1, fun _ => z.2⟩⟩
  constructor
  · intro q
    rcases Nat.lt_or_ge (h % 2) 1 with w | w
    · obtain ⟨y, y1, y2, y3⟩ := ms_wit hv hh 1 (by omega) (fun _ => by omega)
      exact absurd ((ok y).mpr ⟨y2, y3⟩) (q y y1)
    · by_cases e : h / 2 = v
      · exact ⟨e, by omega⟩
      · obtain ⟨y, y1, y2, y3⟩ := ms_wit hv hh 1 (by omega) (fun z => absurd z e)
        exact absurd ((ok y).mpr ⟨y2, y3⟩) (q y y1)
  · intro x hx
    obtain ⟨q1, q2⟩ := (ok x).mp hx.2.1
    refine ⟨ms_ls1 q1, fun z => ?_⟩
    rw [z.1] at q2
    omega
end
end
section
section
variable {bl ba t : Int32} {a1 a2 a3 a4 a5 a6 a7 a8 a9 : Nat → Int32} {v h a b : Nat} {post : Int32 → St0 → Prop} {mc ms kc ks : Nat}
theorem ms_xor : ∀ h, h < 16 → nI h ^^^ 1 = nI (if h % 2 = 0 then h + 1 else h - 1) := by decide +kernel
theorem ms_an1 : ∀ h, h < 16 → nI h &&& 1 = nI (h % 2) := by decide +kernel
theorem ms_shr : ∀ h, h < 16 → nI h >>> ((1 : Int32) &&& 31) = nI (h / 2) := by decide +kernel
theorem ms_s0 : ∀ v, v < 8 → ((1 : Int32) <<< ((2 * nI v) &&& 31)) &&& 65535 = nI (2 ^ (2 * v)) ∧ ((1 : Int32) <<< (((2 * nI v) + 1) &&& 31)) &&& 65535 = nI (2 ^ (2 * v + 1)) := by decide +kernel
theorem ms_sh : ∀ h, h < 16 → ((1 : Int32) <<< (nI h &&& 31)) &&& 65535 = nI (2 ^ h) := by decide +kernel
theorem ms_par (p : Int32) : ∃ a, 1 ≤ a ∧ a ≤ 50 ∧ 1 + ((p &&& 255) - (p &&& 255) / 50 * 50) = nI a := by
  obtain ⟨q, hq, e⟩ := pk_andE p (m := 255) 8 (by decide)
  have hq' : q < 256 := hq
  refine ⟨1 + q % 50, by omega, by omega, ?_⟩
  rw [e]
  have e2 : nI q - nI q / 50 * 50 = nI (q % 50) := pk_rem (a := q) (d := 50) (by omega) (by omega) (by omega)
  rw [e2]
  exact nI_add 1 (q % 50)
theorem ms_l273 (S : ms_set 3 v h a b a1 a2) (hp : post 1 ()) (z : Int32) : wL_lawOf_273 post mc ms z z kc ks (nI 3) bl ba t a1 a2 a3 a4 a5 a6 a7 a8 a9 := by
  unfold wL_lawOf_273
  refine br_t rfl (ms_mposs S (fun b4 h4 q => ?_) (fun bl ba t a3 a4 a5 a6 a7 a8 a9 => br_t rfl hp))
  obtain ⟨y, y1, y2⟩ := ms_some (v := v) S.2.1 S.2.2.1
  exact absurd ((ms_okF h4).mpr (fun _ => y2)) (q y y1)
theorem ms_l232 {x9 : Int32} (S : ms_set 3 v h a b a1 a2) (hp : post 1 ()) (h9 : x9 = 0 ↔ ¬ h / 2 = v) : wL_lawOf_232 post mc ms (nI v) (nI b) (nI h) x9 kc ks (nI 3) bl ba t a1 a2 a3 a4 a5 a6 a7 a8 a9 := by
  have hv := S.2.1
  have hh := S.2.2.1
  unfold wL_lawOf_232
  rw [ms_xor h hh]
  have e1 : (if h % 2 = 0 then h + 1 else h - 1) < 16 ∧ (if h % 2 = 0 then h + 1 else h - 1) / 2 = h / 2 ∧ ¬ (if h % 2 = 0 then h + 1 else h - 1) % 2 = h % 2 := by
    by_cases q : h % 2 = 0
    · rw [if_pos q]
      omega
    · rw [if_neg q]
      omega
  refine ms_mlw S e1.1 (fun b4 h4 _ bl ba t a3 a5 a6 a7 a8 a9 => ?_) (fun b4 h4 x hx => absurd hx.2.1 (ms_P3 e1.1 e1.2.1 e1.2.2 h4))
  refine br_t rfl ?_
  rw [show (2 : Int32) * nI v = nI (2 * v) from pk_mul 2 v]
  refine ms_mlw S (by omega) (fun c4 k4 q bl ba t a3 a5 a6 a7 a8 a9 => ?_) (fun c4 k4 x hx bl ba t a3 a5 a6 a7 a8 a9 => ?_)
  · obtain ⟨p1, p2⟩ := (ms_P4 (a := a) (b := b) hv hh k4).1 q
    refine br_f (fun z => h9.mp z p1) (br_t (by rw [ms_an1 h hh, p2]; rfl) (ms_l273 S hp (-1)))
  · obtain ⟨p1, p2⟩ := (ms_P4 (a := a) (b := b) hv hh k4).2 x hx
    rw [p1]
    refine br_c (fun z => ms_l273 S hp (nI b)) (fun z => br_f (fun w => ?_) (ms_l273 S hp (nI b)))
    have w' : nI (h % 2) = nI 1 := (ms_an1 h hh).symm.trans w
    rw [nI_eq (by omega) (by omega)] at w'
    by_cases e : h / 2 = v
    · exact p2 ⟨e, w'⟩
    · exact z (h9.mpr e)
theorem ms_l196 {x9 z0 : Int32} (S : ms_set 3 v h a b a1 a2) (hp : post 1 ()) (h9 : x9 = 0 ↔ ¬ h / 2 = v) (hz : (z0 = 0 ∧ (if h / 2 = v then (if h % 2 = 0 then b else a) else min a b) = a) ∨ (¬ z0 = 0 ∧ (if h / 2 = v then (if h % 2 = 0 then b else a) else min a b) = b)) :
    wL_lawOf_196 post mc ms (nI v) (nI a) (nI b) (nI h) x9 z0 kc ks (nI 3) bl ba t a1 a2 a3 a4 a5 a6 a7 a8 a9 := by
  have hv := S.2.1
  have hh := S.2.2.1
  unfold wL_lawOf_196
  refine ms_mloss S (fun b4 h4 q => ?_) (fun b4 h4 x hx bl ba t a3 a5 a6 a7 a8 a9 => ?_)
  · obtain ⟨y, y1, y2⟩ := ms_some (v := v) hv hh
    exact absurd ((ms_okF h4).mpr (fun _ => y2)) (q y y1)
  · rw [ms_P2 hv hh h4 hx]
    rcases hz with ⟨z1, z2⟩ | ⟨z1, z2⟩
    · rw [z2]
      exact br_t z1 (br_t rfl (ms_l232 S hp h9))
    · rw [z2]
      exact br_f z1 (br_t rfl (ms_l232 S hp h9))
theorem ms_l162 {z0 : Int32} (S : ms_set 3 v h a b a1 a2) (hp : post 1 ()) (h9 : z0 = 0 ↔ ¬ h / 2 = v) : wL_lawOf_162 post mc ms (nI v) (nI a) (nI b) (nI h) z0 kc ks (nI 3) bl ba t a1 a2 a3 a4 a5 a6 a7 a8 a9 := by
  have hh := S.2.2.1
  have ha := S.2.2.2.2.1
  have hb := S.2.2.2.2.2.2.1
  unfold wL_lawOf_162
  by_cases e : h / 2 = v
  · refine br_f (fun z => h9.mp z e) ?_
    by_cases p : h % 2 = 0
    · exact br_t (by rw [ms_an1 h hh, p]; rfl) (ms_l196 S hp h9 (Or.inr ⟨by decide, by rw [if_pos e, if_pos p]⟩))
    · refine br_f (fun w => p ?_) (ms_l196 S hp h9 (Or.inl ⟨rfl, by rw [if_pos e, if_neg p]⟩))
      have w' : nI (h % 2) = nI 0 := (ms_an1 h hh).symm.trans w
      rw [nI_eq (by omega) (by omega)] at w'
      exact w'
  · refine br_t (h9.mpr e) (pk_le a b (fun z => ms_l196 S hp h9 (Or.inl ⟨rfl, ?_⟩)) (fun z => ms_l196 S hp h9 (Or.inr ⟨by decide, ?_⟩)))
    · rw [if_neg e]
      omega
    · rw [if_neg e]
      omega
theorem ms_set3 (S : ms_set 2 v 0 a b a1 a2) (hh : h < 16) {x : Int32} (hx : x = nI (2 ^ h)) : ms_set 3 v h a b (upd a1 2 x) (upd a2 2 0) := by
  obtain ⟨hN, hv, _, ha, ha', hb1, hb', hc⟩ := S
  refine ⟨Or.inr rfl, hv, hh, ha, ha', hb1, hb', Nat.le_refl 3, fun k hk => ?_⟩
  rcases (show k = 0 ∨ k = 1 ∨ k = 2 by omega) with z | z | z
  · subst z
    rw [pk_un (by omega), pk_un (by omega)]
    exact hc.2 0 (by omega)
  · subst z
    rw [pk_un (by omega), pk_un (by omega)]
    exact hc.2 1 (by omega)
  · subst z
    rw [pk_us, pk_us]
    exact ⟨hh, Nat.zero_le 50, hx, rfl⟩
theorem ms_l111 {p3 z0 z1 : Int32} (S : ms_set 2 v 0 a b a1 a2) (hp : post 1 ()) (hz : z1 = z0) : wL_lawOf_111 post mc ms p3 (nI v) (nI a) (nI b) z0 z1 kc ks (nI 2) bl ba t a1 a2 a3 a4 a5 a6 a7 a8 a9 := by
  have hv := S.2.1
  obtain ⟨h, hh, e⟩ := pk_andE p3 (m := 15) 4 (by decide)
  have hh' : h < 16 := hh
  unfold wL_lawOf_111
  refine br_t hz (ms_mkept S (fun b4 h4 q => ?_) (fun bl ba t a3 a4 a5 a6 a7 a8 a9 => br_t rfl ?_))
  · exact absurd ((ms_okF h4).mpr (fun z => absurd z (by omega))) (q 0 (by omega))
  · unfold wpX_hard
    rw [e]
    refine ms_add (k := 2) (by omega) (br_t rfl (nm_e ?_))
    have S3 := ms_set3 S hh' (ms_sh h hh')
    rw [ms_shr h hh']
    exact pk_eq (h / 2) v (fun z => ms_l162 S3 hp ⟨fun w => absurd w (by decide), fun w => absurd z w⟩) (fun z => ms_l162 S3 hp ⟨fun _ => z, fun _ => rfl⟩)
theorem ms_l88 {p3 : Int32} (S : ms_set 2 v 0 a b a1 a2) (hp : post 1 ()) (z : Int32) : wL_lawOf_88 post mc ms p3 (nI v) (nI a) (nI b) z z kc ks (nI 2) bl ba t a1 a2 a3 a4 a5 a6 a7 a8 a9 := by
  have hv := S.2.1
  have ha := S.2.2.2.2.1
  have hb := S.2.2.2.2.2.2.1
  unfold wL_lawOf_88
  refine br_t rfl (ms_mbest S (fun b4 h4 q => ?_) (fun b4 h4 x hx bl ba t a3 a5 a6 a7 a8 a9 => ?_))
  · exact absurd ((ms_okF h4).mpr (fun z => absurd z (by omega))) (q 0 (by omega))
  · have ex := (ms_P1 hv h4 hx).2
    refine pk_le a b (fun z => ms_l111 S hp ?_) (fun z => ms_l111 S hp ?_)
    · rw [ex, if_pos z]
      rfl
    · rw [ex, if_neg (by omega), ms_sh1 v hv]
theorem ms_set2 (hv : v < 8) (ha : 1 ≤ a) (ha' : a ≤ 50) (hb : 1 ≤ b) (hb' : b ≤ 50) {x y : Int32} (hx : x = nI (2 ^ (2 * v))) (hy : y = nI (2 ^ (2 * v + 1))) : ms_set 2 v 0 a b (upd (upd a1 0 x) 1 y) (upd (upd a2 0 (nI a)) 1 (nI b)) := by
  refine ⟨Or.inl rfl, hv, by omega, ha, ha', hb, hb', by omega, fun k hk => ?_⟩
  rcases (show k = 0 ∨ k = 1 by omega) with z | z
  · subst z
    rw [pk_un (by omega), pk_us, pk_un (by omega), pk_us]
    exact ⟨show 2 * v < 16 by omega, ha', hx, rfl⟩
  · subst z
    rw [pk_us, pk_us]
    exact ⟨show 2 * v + 1 < 16 by omega, hb', hy, rfl⟩
theorem ms_lawOf (hp : post 1 ()) (p0 p1 p2 p3 : Int32) : wpL_lawOf post 10 149 () p0 p1 p2 p3 := by
  obtain ⟨v, hv, e0⟩ := pk_andE p0 (m := 7) 3 (by decide)
  have hv' : v < 8 := hv
  obtain ⟨a, ha, ha', e1⟩ := ms_par p1
  obtain ⟨b, hb, hb', e2⟩ := ms_par p2
  refine ⟨by decide, by decide, 9, 136, by decide, by decide, ?_⟩
  refine ⟨by decide, by decide, by decide, by decide, by decide, by decide, by decide, by decide, by decide, by decide, by decide, by decide, by decide, by decide, by decide, by decide, by decide, by decide, ?_⟩
  refine nm_r e0 ⟨by decide, nm_r e1 ⟨by decide, nm_r e2 ?_⟩⟩
  refine ms_soft (k := 0) (by omega) ha ha' ?_
  refine ms_soft (k := 1) (by omega) hb hb' ?_
  have S := ms_set2 (a1 := fun _ => 0) (a2 := fun _ => 0) hv' ha ha' hb hb' (ms_s0 v hv').1 (ms_s0 v hv').2
  refine ms_mloss (N := 2) S (fun b4 h4 q => ?_) (fun b4 h4 x hx bl ba t a3 a5 a6 a7 a8 a9 => ?_)
  · exact absurd ((ms_okF h4).mpr (fun z => absurd z (by omega))) (q 0 (by omega))
  · rw [(ms_P1 hv' h4 hx).1]
    refine pk_le b a (fun z => ?_) (fun z => ?_)
    · rw [show min a b = b by omega]
      exact ms_l88 S hp _
    · rw [show min a b = a by omega]
      exact ms_l88 S hp _
theorem ms_cell {post : Int32 → Prop} (L : Nat) (xs : Nat → Int32) (hL : L ≤ 4) (k : Nat) (hk : k < 4) (H : ∀ r, post r) : wpL_cellAt post L xs () (nI k) :=
  pk_le L k (fun _ => H _) (fun z => ⟨pk_in k L z, H _⟩)
end
theorem i_vc (xs : Nat → Int32) (L : Nat) (hL : L ≤ 4) : wpL_law (fun r => r = 1) L xs := by
  unfold wpL_law
  refine ms_cell L xs hL 0 (by omega) (fun r1 => ms_cell L xs hL 1 (by omega) (fun r2 => ms_cell L xs hL 2 (by omega) (fun r3 => ms_cell L xs hL 3 (by omega) (fun r4 => ⟨10, 149, by decide, by decide, ?_⟩))))
  exact ms_lawOf rfl r1 r2 r3 r4
end
