section
/-- the place of the newest page of logical page p among the first n (-1: there is none) -/
def fm_last (a3 : Nat → Int32) (p : Nat) : Nat → Int32
  | 0 => -1
  | n + 1 => if a3 n = nI p then nI n else fm_last a3 p n
/-- what the newest page of p among the first n says -/
def fm_val (a2 a3 a4 : Nat → Int32) (p : Nat) : Nat → Option Int32
  | 0 => none
  | n + 1 => if a3 n = nI p then (if a4 n = 0 then some (a2 n) else none) else fm_val a2 a3 a4 p n
/-- the picture with one place written -/
def fm_up (M : Nat → Option Int32) (p : Nat) (x : Option Int32) : Nat → Option Int32 := fun j => if j = p then x else M j
/-- the picture with the places q .. i - 1 written -/
def fm_fl (M : Nat → Option Int32) (q i : Nat) (x : Option Int32) : Nat → Option Int32 := fun j => if q ≤ j ∧ j < i then x else M j
def fm_hb : Option Int32 → Int32
  | none => 0
  | some _ => 1
def fm_vl : Option Int32 → Int32
  | none => 0
  | some v => v
def fm_hbI : Option Int32 → Int
  | none => 0
  | some _ => 1
def fm_vlI : Option Int32 → Int
  | none => 0
  | some v => v.toInt
/-- a sum over the picture's first i places -/
def fm_T (g : Option Int32 → Int) (M : Nat → Option Int32) : Nat → Int
  | 0 => 0
  | i + 1 => fm_T g M i + g (M i)
/-- the flash: n pages are programmed, in their order -/
def fm_F (n : Nat) (M : Nat → Option Int32) (a1 a2 a3 a4 a5 a6 : Nat → Int32) : Prop :=
  (∀ j, j < n → a1 j = 1) ∧ (∀ j, n ≤ j → j < 32 → a1 j = 0) ∧ (∀ j, j < n → ∃ k, k < 12 ∧ a3 j = nI k) ∧ (∀ j, j < n → a5 j = nI (j + 1)) ∧ (∀ j, j < 8 → a6 j = 0) ∧ (∀ p, p < 12 → M p = fm_val a2 a3 a4 p n)
/-- the block in use -/
def fm_B (n : Nat) (ob : Int32) : Prop := (ob = -1 ∧ n % 4 = 0) ∨ (∃ b, ob = nI b ∧ 4 * b < n ∧ n ≤ 4 * b + 4)
/-- a state that holds the picture M, with at most k pages programmed -/
def fm_I (k : Nat) (M : Nat → Option Int32) (u : St2) : Prop :=
  ∃ (n : Nat) (ob : Int32) (a1 a2 a3 a4 a5 a6 a7 : Nat → Int32), n ≤ k ∧ u = (2, ob, nI (n + 1), a1, a2, a3, a4, a5, a6, a7) ∧ fm_F n M a1 a2 a3 a4 a5 a6 ∧ fm_B n ob ∧ (∀ p, p < 12 → a7 p = fm_last a3 p n)
theorem fm_us {M : Nat → Option Int32} {p : Nat} {x : Option Int32} : fm_up M p x p = x := if_pos rfl
theorem fm_un {M : Nat → Option Int32} {p j : Nat} {x : Option Int32} (h : j ≠ p) : fm_up M p x j = M j := if_neg h
theorem fm_byte : ∀ t, t < 32 → (nI t).toInt8.toInt32 = nI t := by decide +kernel
theorem fm_n0 : vp_nar .boolean 0 = 0 := by decide
theorem fm_n1 : vp_nar .boolean 1 = 1 := by decide
theorem fm_h1 {y : Int32} : ¬ fm_hb (some y) = 0 := (by decide : ¬ (1 : Int32) = 0)
theorem fm_m4 (b : Nat) : (4 : Int32) * nI b = nI (4 * b) := pk_mul 4 b
theorem fm_e4 (b : Nat) : (4 : Int32) * nI b + 4 = nI (4 * b + 4) := by
  rw [fm_m4]
  exact nI_add (4 * b) 4
theorem fm_e3 (b : Nat) : (4 : Int32) * nI b + 3 = nI (4 * b + 3) := by
  rw [fm_m4]
  exact nI_add (4 * b) 3
theorem fm_mono {k l : Nat} {M : Nat → Option Int32} {u : St2} (h : fm_I k M u) (hl : k ≤ l) : fm_I l M u := by
  obtain ⟨n, ob, a1, a2, a3, a4, a5, a6, a7, hn, hr⟩ := h
  exact ⟨n, ob, a1, a2, a3, a4, a5, a6, a7, Nat.le_trans hn hl, hr⟩
theorem fm_look (a2 a3 a4 : Nat → Int32) (p : Nat) (n : Nat) : (fm_last a3 p n = -1 ∧ fm_val a2 a3 a4 p n = none) ∨ (∃ j, j < n ∧ fm_last a3 p n = nI j ∧ fm_val a2 a3 a4 p n = (if a4 j = 0 then some (a2 j) else none)) := by
  induction n with
  | zero => exact Or.inl ⟨rfl, rfl⟩
  | succ n ih =>
    by_cases e : a3 n = nI p
    · exact Or.inr ⟨n, by omega, if_pos e, if_pos e⟩
    · have e1 : fm_last a3 p (n + 1) = fm_last a3 p n := if_neg e
      have e2 : fm_val a2 a3 a4 p (n + 1) = fm_val a2 a3 a4 p n := if_neg e
      rw [e1, e2]
      rcases ih with h | ⟨j, hj, h⟩
      · exact Or.inl h
      · exact Or.inr ⟨j, by omega, h⟩
theorem fm_last_c {a3 b3 : Nat → Int32} {p n : Nat} (h : ∀ j, j < n → b3 j = a3 j) : fm_last b3 p n = fm_last a3 p n := by
  induction n with
  | zero => rfl
  | succ n ih =>
    show (if b3 n = nI p then nI n else fm_last b3 p n) = (if a3 n = nI p then nI n else fm_last a3 p n)
    rw [h n (by omega), ih (fun j hj => h j (by omega))]
theorem fm_val_c {a2 a3 a4 b2 b3 b4 : Nat → Int32} {p n : Nat} (h2 : ∀ j, j < n → b2 j = a2 j) (h3 : ∀ j, j < n → b3 j = a3 j) (h4 : ∀ j, j < n → b4 j = a4 j) : fm_val b2 b3 b4 p n = fm_val a2 a3 a4 p n := by
  induction n with
  | zero => rfl
  | succ n ih =>
    show (if b3 n = nI p then (if b4 n = 0 then some (b2 n) else none) else fm_val b2 b3 b4 p n) = (if a3 n = nI p then (if a4 n = 0 then some (a2 n) else none) else fm_val a2 a3 a4 p n)
    rw [h2 n (by omega), h3 n (by omega), h4 n (by omega), ih (fun j hj => h2 j (by omega)) (fun j hj => h3 j (by omega)) (fun j hj => h4 j (by omega))]
/-- one page more -/
theorem fm_store {n p : Nat} {M : Nat → Option Int32} {a1 a2 a3 a4 a5 a6 a7 : Nat → Int32} {v w : Int32} (hn : n < 32) (hp : p < 12) (hF : fm_F n M a1 a2 a3 a4 a5 a6) (hP : ∀ p, p < 12 → a7 p = fm_last a3 p n) :
    fm_F (n + 1) (fm_up M p (if w = 0 then some v else none)) (upd a1 n 1) (upd a2 n v) (upd a3 n (nI p)) (upd a4 n w) (upd a5 n (nI (n + 1))) a6 ∧ (∀ q, q < 12 → upd a7 p (nI n) q = fm_last (upd a3 n (nI p)) q (n + 1)) := by
  obtain ⟨h1, h2, h3, h4, h5, h6⟩ := hF
  have c2 : ∀ j, j < n → upd a2 n v j = a2 j := fun j hj => pk_un (by omega)
  have c3 : ∀ j, j < n → upd a3 n (nI p) j = a3 j := fun j hj => pk_un (by omega)
  have c4 : ∀ j, j < n → upd a4 n w j = a4 j := fun j hj => pk_un (by omega)
  refine ⟨⟨fun j hj => ?_, fun j hj hj2 => ?_, fun j hj => ?_, fun j hj => ?_, h5, fun q hq => ?_⟩, fun q hq => ?_⟩
  · by_cases e : j = n
    · rw [e, pk_us]
    · rw [pk_un e]
      exact h1 j (by omega)
  · rw [pk_un (by omega)]
    exact h2 j (by omega) hj2
  · by_cases e : j = n
    · exact ⟨p, hp, by rw [e, pk_us]⟩
    · obtain ⟨k, hk, ek⟩ := h3 j (by omega)
      exact ⟨k, hk, by rw [pk_un e, ek]⟩
  · by_cases e : j = n
    · rw [e, pk_us]
    · rw [pk_un e]
      exact h4 j (by omega)
  · have e0 : fm_val (upd a2 n v) (upd a3 n (nI p)) (upd a4 n w) q (n + 1) = if nI p = nI q then (if w = 0 then some v else none) else fm_val (upd a2 n v) (upd a3 n (nI p)) (upd a4 n w) q n := by
      simp only [fm_val, pk_us]
    rw [e0]
    by_cases e : q = p
    · rw [e, fm_us, if_pos rfl]
    · have ne : ¬ nI p = nI q := fun z => e ((nI_eq (by omega) (by omega)).mp z).symm
      rw [fm_un e, if_neg ne, fm_val_c c2 c3 c4]
      exact h6 q hq
  · have e0 : fm_last (upd a3 n (nI p)) q (n + 1) = if nI p = nI q then nI n else fm_last (upd a3 n (nI p)) q n := by
      simp only [fm_last, pk_us]
    rw [e0]
    by_cases e : q = p
    · rw [e, pk_us, if_pos rfl]
    · have ne : ¬ nI p = nI q := fun z => e ((nI_eq (by omega) (by omega)).mp z).symm
      rw [pk_un e, if_neg ne, fm_last_c c3]
      exact hP q hq
/-- the picture's places -/
theorem fm_up_same {M : Nat → Option Int32} {p : Nat} {x : Option Int32} (e : M p = x) : fm_up M p x = M := by
  funext j
  by_cases z : j = p
  · rw [z, fm_us, e]
  · exact fm_un z
theorem fm_fl_0 (M : Nat → Option Int32) (q : Nat) (x : Option Int32) : fm_fl M q q x = M := by
  funext j
  exact if_neg (by omega)
theorem fm_fl_s {M : Nat → Option Int32} {q i : Nat} {x : Option Int32} (h : q ≤ i) : fm_up (fm_fl M q i x) i x = fm_fl M q (i + 1) x := by
  funext j
  by_cases e : j = i
  · rw [e, fm_us]
    exact (if_pos (by omega)).symm
  · rw [fm_un e]
    show (if q ≤ j ∧ j < i then x else M j) = (if q ≤ j ∧ j < i + 1 then x else M j)
    by_cases c : q ≤ j ∧ j < i
    · rw [if_pos c, if_pos (by omega)]
    · rw [if_neg c, if_neg (by omega)]
/-- sums -/
theorem fm_T_up (g : Option Int32 → Int) (M : Nat → Option Int32) (p : Nat) (x : Option Int32) (i : Nat) : fm_T g (fm_up M p x) i = fm_T g M i + (if p < i then g x - g (M p) else 0) := by
  induction i with
  | zero => rw [if_neg (by omega)]; rfl
  | succ i ih =>
    show fm_T g (fm_up M p x) i + g (fm_up M p x i) = fm_T g M i + g (M i) + _
    rw [ih]
    by_cases e : i = p
    · rw [e, fm_us, if_neg (by omega), if_pos (by omega)]
      omega
    · rw [fm_un e]
      by_cases l : p < i
      · rw [if_pos l, if_pos (by omega)]
        omega
      · rw [if_neg l, if_neg (by omega)]
        omega
theorem fm_T_ex (g : Option Int32 → Int) (M : Nat → Option Int32) {p q : Nat} (hp : p < 12) (hq : q < 12) : fm_T g (fm_up (fm_up M p (M q)) q (M p)) 12 = fm_T g M 12 := by
  rw [fm_T_up, fm_T_up, if_pos hp, if_pos hq]
  by_cases e : q = p
  · rw [e, fm_us]
    omega
  · rw [fm_un e]
    omega
theorem fm_T_0 (g : Option Int32 → Int) (hg : g none = 0) (i : Nat) : fm_T g (fun _ => none) i = 0 := by
  induction i with
  | zero => rfl
  | succ i ih =>
    show fm_T g (fun _ => none) i + g none = 0
    rw [ih, hg]
    rfl
/-- the picture after the two writes -/
def fm_M2 (s t : Nat) (v w : Int32) : Nat → Option Int32 := fm_up (fm_up (fun _ => none) s (some v)) t (some w)
theorem fm_M2_t {s t : Nat} {v w : Int32} : fm_M2 s t v w t = some w := fm_us
theorem fm_M2_s {s t : Nat} {v w : Int32} (h : s ≠ t) : fm_M2 s t v w s = some v := (fm_un h).trans fm_us
theorem fm_M2_n {s t j : Nat} {v w : Int32} (hs : j ≠ s) (ht : j ≠ t) : fm_M2 s t v w j = none := (fm_un ht).trans (fm_un hs)
theorem fm_T_2 (g : Option Int32 → Int) (hg : g none = 0) {s t : Nat} {v w : Int32} (hs : s < 12) (ht : t < 12) (h : s ≠ t) : fm_T g (fm_M2 s t v w) 12 = g (some v) + g (some w) := by
  unfold fm_M2
  rw [fm_T_up, fm_T_up, fm_T_0 g hg, if_pos hs, if_pos ht, fm_un (Ne.symm h), hg]
  omega
theorem fm_T_fill (g : Option Int32 → Int) (hg : g none = 0) {s t q : Nat} {v w : Int32} (hs : s < 12) (ht : t < 12) (h : s ≠ t) (d : Nat) (hd : q + d ≤ 12) :
    fm_T g (fm_fl (fm_M2 s t v w) q (q + d) (some v)) 12 = (d : Int) * g (some v) + (if q ≤ t ∧ t < q + d then 0 else g (some w)) + (if q ≤ s ∧ s < q + d then 0 else g (some v)) := by
  induction d with
  | zero =>
    rw [Nat.add_zero, fm_fl_0, fm_T_2 g hg hs ht h, if_neg (by omega), if_neg (by omega)]
    omega
  | succ d ih =>
    have e : fm_fl (fm_M2 s t v w) q (q + (d + 1)) (some v) = fm_up (fm_fl (fm_M2 s t v w) q (q + d) (some v)) (q + d) (some v) := (fm_fl_s (i := q + d) (Nat.le_add_right q d)).symm
    have e1 : fm_fl (fm_M2 s t v w) q (q + d) (some v) (q + d) = fm_M2 s t v w (q + d) := if_neg (by omega)
    have e2 : ((d + 1 : Nat) : Int) * g (some v) = (d : Int) * g (some v) + g (some v) := by
      rw [Int.natCast_add, Int.add_mul]
      omega
    rw [e, fm_T_up, if_pos (by omega), e1, ih (by omega), e2]
    by_cases es : q + d = s
    · rw [es, fm_M2_s h, if_pos (show q ≤ s ∧ s < q + (d + 1) by omega), if_neg (show ¬ (q ≤ s ∧ s < s) by omega)]
      by_cases c : q ≤ t ∧ t < s
      · rw [if_pos c, if_pos (by omega)]
        omega
      · rw [if_neg c, if_neg (by omega)]
        omega
    · by_cases et : q + d = t
      · rw [et, fm_M2_t, if_pos (show q ≤ t ∧ t < q + (d + 1) by omega), if_neg (show ¬ (q ≤ t ∧ t < t) by omega)]
        by_cases c : q ≤ s ∧ s < t
        · rw [if_pos c, if_pos (by omega)]
          omega
        · rw [if_neg c, if_neg (by omega)]
          omega
      · rw [fm_M2_n es et, hg]
        by_cases c : q ≤ s ∧ s < q + d
        · rw [if_pos c, if_pos (show q ≤ s ∧ s < q + (d + 1) by omega)]
          by_cases c2 : q ≤ t ∧ t < q + d
          · rw [if_pos c2, if_pos (by omega)]
            omega
          · rw [if_neg c2, if_neg (by omega)]
            omega
        · rw [if_neg c, if_neg (show ¬ (q ≤ s ∧ s < q + (d + 1)) by omega)]
          by_cases c2 : q ≤ t ∧ t < q + d
          · rw [if_pos c2, if_pos (by omega)]
            omega
          · rw [if_neg c2, if_neg (by omega)]
            omega
end
section
theorem fm_page {post : Int32 → Prop} {u : St2} {x : Int32} (a : ¬ x < 0 → ¬ 11 < x → post 1) (b : (x < 0 ∨ 11 < x) → post 0) : wpX_isPage post u x := by
  obtain ⟨x0, x1, x2, x3, x4, x5, x6, x7, x8, x9⟩ := u
  unfold wpX_isPage
  exact br_c (fun z => b (Or.inl z)) (fun z => br_c (fun y => b (Or.inr y)) (fun y => a z y))
theorem fm_isPage {post : Int32 → Prop} {u : St2} {p : Nat} (hp : p < 12) (H : post 1) : wpX_isPage post u (nI p) :=
  fm_page (fun _ _ => H) (fun z => z.elim (fun y => absurd y (nI_pos (by omega))) (fun y => absurd y (nI_nlt (a := 11) (b := p) (by omega) (by decide))))
theorem fm_noPage {post : Int32 → Prop} {u : St2} {x : Int32} (hx : x < 0 ∨ 11 < x) (H : post 0) : wpX_isPage post u x :=
  fm_page (fun z y => absurd hx (fun c => c.elim z y)) (fun _ => H)
theorem fm_has {post : Int32 → Prop} {k p : Nat} {M : Nat → Option Int32} {u : St2} (h : fm_I k M u) (hk : k ≤ 32) (hp : p < 12) (H : post (fm_hb (M p))) : wpX_has post u (nI p) := by
  obtain ⟨n, ob, a1, a2, a3, a4, a5, a6, a7, hn, rfl, hF, hB, hP⟩ := h
  unfold wpX_has
  refine fm_isPage hp (br_f (by decide) ⟨pk_in p 12 hp, ?_⟩)
  have hM : M p = fm_val a2 a3 a4 p n := hF.2.2.2.2.2 p hp
  rw [nI_clamp (show p < 2 ^ 31 by omega), hP p hp]
  rcases fm_look a2 a3 a4 p n with ⟨e1, e2⟩ | ⟨j, hj, e1, e2⟩
  · rw [hM, e2] at H
    rw [e1]
    exact br_t (by decide) H
  · rw [hM, e2] at H
    rw [e1, nI_clamp (show j < 2 ^ 31 by omega)]
    refine br_f (nI_pos (by omega)) ⟨pk_in p 12 hp, pk_in j 32 (by omega), ?_⟩
    by_cases e : a4 j = 0
    · rw [if_pos e] at H
      exact br_t e H
    · rw [if_neg e] at H
      exact br_f e H
theorem fm_read {post : Int32 → Prop} {k p : Nat} {M : Nat → Option Int32} {u : St2} (h : fm_I k M u) (hk : k ≤ 32) (hp : p < 12) (H : post (fm_vl (M p))) : wpX_read post u (nI p) := by
  have h' := h
  obtain ⟨n, ob, a1, a2, a3, a4, a5, a6, a7, hn, rfl, hF, hB, hP⟩ := h
  unfold wpX_read
  refine fm_has h' hk hp ?_
  have hM : M p = fm_val a2 a3 a4 p n := hF.2.2.2.2.2 p hp
  rw [nI_clamp (show p < 2 ^ 31 by omega), hP p hp]
  rcases fm_look a2 a3 a4 p n with ⟨e1, e2⟩ | ⟨j, hj, e1, e2⟩
  · rw [hM, e2] at H ⊢
    exact br_t rfl H
  · rw [hM, e2] at H ⊢
    by_cases e : a4 j = 0
    · rw [if_pos e] at H ⊢
      rw [e1, nI_clamp (show j < 2 ^ 31 by omega)]
      exact br_f fm_h1 ⟨pk_in p 12 hp, pk_in j 32 (by omega), H⟩
    · rw [if_neg e] at H ⊢
      exact br_t rfl H
theorem fm_used {post : Int32 → Prop} {k : Nat} {M : Nat → Option Int32} {u : St2} (h : fm_I k M u) (hk : k ≤ 32) (H : post (Int32.ofInt (fm_T fm_hbI M 12))) : wpX_used post u := by
  have h' := h
  obtain ⟨n, ob, a1, a2, a3, a4, a5, a6, a7, hn, rfl, hF, hB, hP⟩ := h
  unfold wpX_used
  refine pk_loop (fun m i s => wX_used_4 post 2 ob (nI (n + 1)) a1 a2 a3 a4 a5 a6 a7 m s (nI i)) (fun i s => s = Int32.ofInt (fm_T fm_hbI M i)) 12 0 0 (by omega) rfl ?_ ?_
  · intro m s (hs : s = Int32.ofInt (fm_T fm_hbI M 12))
    subst hs
    exact pk_le 12 12 (fun _ => H) (fun z => absurd z (by omega))
  · intro m i s hi (hs : s = Int32.ofInt (fm_T fm_hbI M i)) hw
    refine pk_le 12 i (fun z => absurd z (by omega)) (fun _ => fm_has h' hk hi ?_)
    have e : fm_T fm_hbI M (i + 1) = fm_T fm_hbI M i + fm_hbI (M i) := rfl
    cases c : M i with
    | none =>
      rw [c] at e
      refine br_t rfl (nm_r (nI_1 i) (hw s ?_))
      rw [hs, e]
      exact congrArg Int32.ofInt (Int.add_zero _).symm
    | some y =>
      rw [c] at e
      refine br_f fm_h1 (nm_e (nm_r (nI_1 i) (hw (s + 1) ?_)))
      rw [hs, e]
      exact (Int32.ofInt_add _ 1).symm
theorem fm_total {post : Int64 → Prop} {k : Nat} {M : Nat → Option Int32} {u : St2} (h : fm_I k M u) (hk : k ≤ 32) (H : post (Int64.ofInt (fm_T fm_vlI M 12))) : wpX_total post u := by
  have h' := h
  obtain ⟨n, ob, a1, a2, a3, a4, a5, a6, a7, hn, rfl, hF, hB, hP⟩ := h
  unfold wpX_total
  refine pk_loop (fun m i s => wX_total_4 post 2 ob (nI (n + 1)) a1 a2 a3 a4 a5 a6 a7 m s (nI i)) (fun i s => s = Int64.ofInt (fm_T fm_vlI M i)) 12 0 0 (by omega) rfl ?_ ?_
  · intro m s (hs : s = Int64.ofInt (fm_T fm_vlI M 12))
    subst hs
    exact pk_le 12 12 (fun _ => H) (fun z => absurd z (by omega))
  · intro m i s hi (hs : s = Int64.ofInt (fm_T fm_vlI M i)) hw
    refine pk_le 12 i (fun z => absurd z (by omega)) (fun _ => fm_read h' hk hi ?_)
    refine nm_e (nm_r (nI_1 i) (hw _ ?_))
    have e : fm_T fm_vlI M (i + 1) = fm_T fm_vlI M i + fm_vlI (M i) := rfl
    have e2 : Int64.ofInt (fm_vlI (M i)) = (fm_vl (M i)).toInt64 := by
      cases M i with
      | none => rfl
      | some y => exact Int64.ofInt_int32ToInt y
    show s + (fm_vl (M i)).toInt64 = Int64.ofInt (fm_T fm_vlI M (i + 1))
    rw [e, Int64.ofInt_add, e2, hs]
end
section
theorem fm_isErased {post : Int32 → Prop} {sp ob nn : Int32} {a1 a2 a3 a4 a5 a6 a7 : Nat → Int32} {n b : Nat} (h1 : ∀ j, j < n → a1 j = 1) (h2 : ∀ j, n ≤ j → j < 32 → a1 j = 0) (hb : b < 8) (H : post (if n ≤ 4 * b then 1 else 0)) : wpX_isErased post (sp, ob, nn, a1, a2, a3, a4, a5, a6, a7) (nI b) := by
  unfold wpX_isErased
  refine nm_r (fm_m4 b) ?_
  by_cases c : n ≤ 4 * b
  · rw [if_pos c] at H
    exact pk_loop (σ := Unit) (fun m i _ => wX_isErased_4 post (nI b) sp ob nn a1 a2 a3 a4 a5 a6 a7 m (nI i)) (fun i _ => n ≤ i) (4 * b + 4) (4 * b) () (by omega) c
      (fun m _ _ => pk_le (4 * b + 4) (4 * b + 4) (fun _ => H) (fun z => absurd z (by omega)) (fm_e4 b))
      (fun m i _ hi (hI : n ≤ i) hw => pk_le (4 * b + 4) i (fun z => absurd z (by omega)) (fun _ => ⟨pk_in i 32 (by omega), br_t (by rw [nI_clamp (by omega)]; exact h2 i hI (by omega)) (nm_r (nI_1 i) (hw () (Nat.le_succ_of_le hI)))⟩) (fm_e4 b))
  · rw [if_neg c] at H
    exact ⟨1, pk_le (4 * b + 4) (4 * b) (fun z => absurd z (by omega)) (fun _ => ⟨pk_in (4 * b) 32 (by omega), br_f (by rw [nI_clamp (by omega), h1 _ (by omega)]; decide) H⟩) (fm_e4 b)⟩
theorem fm_nextIn {post : Int32 → Prop} {sp nn : Int32} {a1 a2 a3 a4 a5 a6 a7 : Nat → Int32} {n b : Nat} (h1 : ∀ j, j < n → a1 j = 1) (h2 : ∀ j, n ≤ j → j < 32 → a1 j = 0) (hb : b < 8) (l1 : 4 * b ≤ n) (l2 : n ≤ 4 * b + 4) (H : post (if n < 4 * b + 4 then nI n else -1)) : wpX_nextInBlock post (sp, nI b, nn, a1, a2, a3, a4, a5, a6, a7) := by
  unfold wpX_nextInBlock
  refine br_t (nI_pos' (by omega)) (nm_r (fm_m4 b) ?_)
  refine pk_loop (σ := Unit) (fun m i _ => wX_nextInBlock_16 post sp (nI b) nn a1 a2 a3 a4 a5 a6 a7 m (nI i)) (fun _ _ => True) n (4 * b) () l1 trivial ?_ ?_
  · intro m _ _
    by_cases c : n < 4 * b + 4
    · rw [if_pos c] at H
      exact pk_le (4 * b + 4) n (fun z => absurd z (by omega)) (fun _ => ⟨pk_in n 32 (by omega), br_t (by rw [nI_clamp (by omega)]; exact h2 n (Nat.le_refl n) (by omega)) H⟩) (fm_e4 b)
    · rw [if_neg c] at H
      exact pk_le (4 * b + 4) n (fun _ => H) (fun z => absurd z (by omega)) (fm_e4 b)
  · intro m i _ hi _ hw
    exact pk_le (4 * b + 4) i (fun z => absurd z (by omega)) (fun _ => ⟨pk_in i 32 (by omega), br_f (by rw [nI_clamp (by omega), h1 i hi]; decide) (nm_r (nI_1 i) (hw () trivial))⟩) (fm_e4 b)
theorem fm_nextNo {post : Int32 → Prop} {sp nn : Int32} {a1 a2 a3 a4 a5 a6 a7 : Nat → Int32} (H : post (-1)) : wpX_nextInBlock post (sp, -1, nn, a1, a2, a3, a4, a5, a6, a7) := by
  unfold wpX_nextInBlock
  exact br_f (by decide) H
theorem fm_freeBlocks {post : Int32 → Prop} {sp ob nn : Int32} {a1 a2 a3 a4 a5 a6 a7 : Nat → Int32} {n : Nat} (h1 : ∀ j, j < n → a1 j = 1) (h2 : ∀ j, n ≤ j → j < 32 → a1 j = 0) (H : post (nI (8 - (n + 3) / 4))) : wpX_freeBlocks post (sp, ob, nn, a1, a2, a3, a4, a5, a6, a7) := by
  unfold wpX_freeBlocks
  refine pk_loop (fun m i s => wX_freeBlocks_4 post sp ob nn a1 a2 a3 a4 a5 a6 a7 m s (nI i)) (fun i s => s = nI (i - (n + 3) / 4)) 8 0 0 (by omega) (by rw [Nat.zero_sub]; rfl) ?_ ?_
  · intro m s (hs : s = nI (8 - (n + 3) / 4))
    subst hs
    exact pk_le 8 8 (fun _ => H) (fun z => absurd z (by omega))
  · intro m i s hi (hs : s = nI (i - (n + 3) / 4)) hw
    subst hs
    refine pk_le 8 i (fun z => absurd z (by omega)) (fun _ => fm_isErased h1 h2 hi ?_)
    by_cases c : n ≤ 4 * i
    · rw [if_pos c]
      exact br_f (by decide) (nm_r (nI_1 _) (nm_r (nI_1 i) (hw _ (congrArg nI (by omega)))))
    · rw [if_neg c]
      exact br_t rfl (nm_r (nI_1 i) (hw _ (congrArg nI (by omega))))
theorem fm_leastWorn {post : Int32 → Prop} {sp ob nn : Int32} {a1 a2 a3 a4 a5 a6 a7 : Nat → Int32} {n : Nat} (h1 : ∀ j, j < n → a1 j = 1) (h2 : ∀ j, n ≤ j → j < 32 → a1 j = 0) (h6 : ∀ j, j < 8 → a6 j = 0) (hn : n ≤ 28) (H : post (nI ((n + 3) / 4))) : wpX_leastWornFreeBlock post (sp, ob, nn, a1, a2, a3, a4, a5, a6, a7) := by
  unfold wpX_leastWornFreeBlock
  refine pk_loop (fun m i s => wX_leastWornFreeBlock_4 post sp ob nn a1 a2 a3 a4 a5 a6 a7 m s (nI i)) (fun i s => s = if i ≤ (n + 3) / 4 then -1 else nI ((n + 3) / 4)) 8 0 (-1) (by omega) (if_pos (Nat.zero_le _)).symm ?_ ?_
  · intro m s (hs : s = if 8 ≤ (n + 3) / 4 then -1 else nI ((n + 3) / 4))
    rw [if_neg (by omega)] at hs
    subst hs
    exact pk_le 8 8 (fun _ => H) (fun z => absurd z (by omega))
  · intro m i s hi (hs : s = if i ≤ (n + 3) / 4 then -1 else nI ((n + 3) / 4)) hw
    refine pk_le 8 i (fun z => absurd z (by omega)) (fun _ => fm_isErased h1 h2 hi ?_)
    by_cases c : n ≤ 4 * i
    · rw [if_pos c]
      refine br_f (by decide) ?_
      by_cases d : i ≤ (n + 3) / 4
      · rw [if_pos d] at hs
        subst hs
        have hI : nI i = if i + 1 ≤ (n + 3) / 4 then -1 else nI ((n + 3) / 4) := by
          rw [if_neg (by omega)]
          exact congrArg nI (by omega)
        exact br_t (by decide) (nm_r (nI_1 i) (hw _ hI))
      · rw [if_neg d] at hs
        subst hs
        have hI : nI ((n + 3) / 4) = if i + 1 ≤ (n + 3) / 4 then -1 else nI ((n + 3) / 4) := by
          rw [if_neg (by omega)]
        refine br_f (nI_pos (by omega)) ⟨pk_in i 8 hi, pk_in ((n + 3) / 4) 8 (by omega), br_t ?_ (nm_r (nI_1 i) (hw _ hI))⟩
        rw [nI_clamp (show (n + 3) / 4 < 2 ^ 31 by omega), nI_clamp (show i < 2 ^ 31 by omega), h6 _ (by omega), h6 _ hi]
        exact Int32.le_refl 0
    · rw [if_neg c]
      have hI : s = if i + 1 ≤ (n + 3) / 4 then -1 else nI ((n + 3) / 4) := by
        rw [if_pos (by omega)] at hs ⊢
        exact hs
      exact br_t rfl (nm_r (nI_1 i) (hw _ hI))
theorem fm_opn {post : Int32 → St2 → Prop} {ob nn : Int32} {a1 a2 a3 a4 a5 a6 a7 : Nat → Int32} {n : Nat} (h1 : ∀ j, j < n → a1 j = 1) (h2 : ∀ j, n ≤ j → j < 32 → a1 j = 0) (h6 : ∀ j, j < 8 → a6 j = 0) (h4 : n % 4 = 0) (hn : n ≤ 23) (H : ∀ b, 4 * b ≤ n → n < 4 * b + 4 → post (nI n) (2, nI b, nn, a1, a2, a3, a4, a5, a6, a7)) :
    wpX_freeBlocks (fun r => (r ≤ 2 → wX_freshPage_27 post 0 2 ob nn a1 a2 a3 a4 a5 a6 a7) ∧ (¬ r ≤ 2 → wX_freshPage_27 post 1 2 ob nn a1 a2 a3 a4 a5 a6 a7)) (2, ob, nn, a1, a2, a3, a4, a5, a6, a7) := by
  refine fm_freeBlocks h1 h2 ?_
  refine pk_le (8 - (n + 3) / 4) 2 (fun z => absurd z (by omega)) (fun _ => ?_)
  unfold wX_freshPage_27
  refine br_f (by decide) ?_
  unfold wX_freshPage_40
  refine fm_leastWorn h1 h2 h6 (by omega) ?_
  refine br_f (by decide) ?_
  unfold wX_freshPage_58
  refine fm_nextIn h1 h2 (by omega) (by omega) (by omega) ?_
  rw [if_pos (by omega)]
  exact H _ (by omega) (by omega)
theorem fm_freshPage {post : Int32 → St2 → Prop} {ob nn : Int32} {a1 a2 a3 a4 a5 a6 a7 : Nat → Int32} {n : Nat} (h1 : ∀ j, j < n → a1 j = 1) (h2 : ∀ j, n ≤ j → j < 32 → a1 j = 0) (h6 : ∀ j, j < 8 → a6 j = 0) (hB : fm_B n ob) (hn : n ≤ 23) (H : ∀ b, 4 * b ≤ n → n < 4 * b + 4 → post (nI n) (2, nI b, nn, a1, a2, a3, a4, a5, a6, a7)) : wpX_freshPage post (2, ob, nn, a1, a2, a3, a4, a5, a6, a7) := by
  unfold wpX_freshPage
  rcases hB with ⟨rfl, h4⟩ | ⟨b, rfl, l1, l2⟩
  · exact fm_nextNo (br_t (by decide) (fm_opn h1 h2 h6 h4 hn H))
  · refine fm_nextIn h1 h2 (by omega) (by omega) l2 ?_
    by_cases c : n < 4 * b + 4
    · rw [if_pos c]
      exact br_f (nI_pos (by omega)) (H b (by omega) c)
    · rw [if_neg c]
      exact br_t (by decide) (fm_opn h1 h2 h6 (by omega) hn H)
theorem fm_fillPage {post : St2 → Prop} {sp ob : Int32} {a1 a2 a3 a4 a5 a6 a7 : Nat → Int32} {n p : Nat} {v w : Int32} (hn : n < 32) (hp : p < 12) (hw : vp_nar .boolean w = w)
    (H : post (sp, ob, nI (n + 1 + 1), upd a1 n 1, upd a2 n v, upd a3 n (nI p), upd a4 n w, upd a5 n (nI (n + 1)), a6, upd a7 p (nI n))) : wpX_fillPage post (sp, ob, nI (n + 1), a1, a2, a3, a4, a5, a6, a7) (nI n) (nI p) v w := by
  unfold wpX_fillPage
  rw [nI_clamp (show n < 2 ^ 31 by omega), nI_clamp (show p < 2 ^ 31 by omega), fm_byte n hn, fm_byte p (by omega), hw]
  exact ⟨pk_in n 32 hn, nm_e ⟨pk_in n 32 hn, nm_e ⟨pk_in n 32 hn, nm_e ⟨pk_in n 32 hn, nm_e ⟨pk_in n 32 hn, nm_e (nm_r (nI_1 (n + 1)) ⟨pk_in p 12 hp, nm_e H⟩)⟩⟩⟩⟩⟩
theorem fm_program {post : St2 → Prop} {k p : Nat} {M : Nat → Option Int32} {u : St2} {v w : Int32} (h : fm_I k M u) (hk : k ≤ 23) (hp : p < 12) (hw : vp_nar .boolean w = w) (x : Option Int32) (hx : (if w = 0 then some v else none) = x) (H : ∀ u', fm_I (k + 1) (fm_up M p x) u' → post u') : wpX_program post u (nI p) v w := by
  obtain ⟨n, ob, a1, a2, a3, a4, a5, a6, a7, hn, rfl, hF, hB, hP⟩ := h
  unfold wpX_program
  refine fm_freshPage hF.1 hF.2.1 hF.2.2.2.2.1 hB (by omega) (fun b l1 l2 => ?_)
  refine fm_fillPage (by omega) hp hw (H _ ?_)
  have s := fm_store (v := v) (w := w) (show n < 32 by omega) hp hF hP
  rw [hx] at s
  exact ⟨n + 1, nI b, _, _, _, _, _, _, _, by omega, rfl, s.1, Or.inr ⟨b, rfl, by omega, by omega⟩, s.2⟩
theorem fm_write {post : Int32 → St2 → Prop} {k p : Nat} {M : Nat → Option Int32} {u : St2} {v : Int32} (h : fm_I k M u) (hk : k ≤ 23) (hp : p < 12) (H : ∀ u', fm_I (k + 1) (fm_up M p (some v)) u' → post (fm_hb (M p)) u') : wpX_write post u (nI p) v := by
  have h' := h
  obtain ⟨n, ob, a1, a2, a3, a4, a5, a6, a7, hn, rfl, hF, hB, hP⟩ := h
  unfold wpX_write
  refine fm_isPage hp (br_f (by decide) (fm_has h' (by omega) hp ?_))
  have key : ∀ z, z = fm_hb (M p) → wX_write_23 post (nI p) v z 2 ob (nI (n + 1)) a1 a2 a3 a4 a5 a6 a7 := by
    intro z hz
    subst hz
    unfold wX_write_23
    refine fm_program h' hk hp fm_n0 (some v) (if_pos rfl) (fun u' hu' => ?_)
    obtain ⟨x0, x1, x2, x3, x4, x5, x6, x7, x8, x9⟩ := u'
    exact H _ hu'
  cases e : M p with
  | none =>
    rw [e] at key
    exact br_t rfl (key 0 rfl)
  | some y =>
    rw [e] at key
    exact br_f fm_h1 (key 1 rfl)
theorem fm_trim {post : Int32 → St2 → Prop} {k p : Nat} {M : Nat → Option Int32} {u : St2} (h : fm_I k M u) (hk : k ≤ 23) (hp : p < 12) (H : ∀ r u', fm_I (k + 1) (fm_up M p none) u' → post r u') : wpX_trim post u (nI p) := by
  have h' := h
  obtain ⟨n, ob, a1, a2, a3, a4, a5, a6, a7, hn, rfl, hF, hB, hP⟩ := h
  unfold wpX_trim
  refine fm_isPage hp (br_f (by decide) (fm_has h' (by omega) hp ?_))
  cases e : M p with
  | none =>
    refine br_t rfl (H _ _ ?_)
    rw [fm_up_same e]
    exact fm_mono h' (by omega)
  | some y =>
    refine br_f fm_h1 (fm_program h' hk hp fm_n1 none (if_neg (by decide)) (fun u' hu' => ?_))
    obtain ⟨x0, x1, x2, x3, x4, x5, x6, x7, x8, x9⟩ := u'
    exact H _ _ hu'
theorem fm_replace {post : St2 → Prop} {k p : Nat} {M : Nat → Option Int32} {u : St2} (h : fm_I k M u) (hk : k ≤ 23) (hp : p < 12) (x : Option Int32) (H : ∀ u', fm_I (k + 1) (fm_up M p x) u' → post u') : wpX_replace post u (nI p) (fm_vl x) (fm_hb x) := by
  have h' := h
  obtain ⟨n, ob, a1, a2, a3, a4, a5, a6, a7, hn, rfl, hF, hB, hP⟩ := h
  unfold wpX_replace
  cases x with
  | none =>
    refine br_t rfl (fm_trim h' hk hp (fun r u' hu' => ?_))
    obtain ⟨x0, x1, x2, x3, x4, x5, x6, x7, x8, x9⟩ := u'
    exact H _ hu'
  | some y =>
    refine br_f fm_h1 (fm_program h' hk hp fm_n0 (some y) (if_pos rfl) (fun u' hu' => ?_))
    obtain ⟨x0, x1, x2, x3, x4, x5, x6, x7, x8, x9⟩ := u'
    exact H _ hu'
theorem fm_fill {post : Int32 → St2 → Prop} {k p q r : Nat} {M : Nat → Option Int32} {u : St2} (h : fm_I k M u) (hp : p < 12) (hqr : q ≤ r) (hr : r < 12) (hk : k + (r + 1 - q) ≤ 24) (H : ∀ u', fm_I (k + (r + 1 - q)) (fm_fl M q (r + 1) (M p)) u' → post (nI r - nI q + 1) u') : wpX_fill post u (nI p) (nI q) (nI r) := by
  obtain ⟨x0, x1, x2, x3, x4, x5, x6, x7, x8, x9⟩ := u
  unfold wpX_fill
  refine fm_isPage hp (br_f (by decide) (fm_isPage (by omega) (br_f (by decide) (fm_isPage hr (br_f (by decide) (br_t (nI_le hqr (by omega)) ?_))))))
  refine fm_has h (by omega) hp (fm_read h (by omega) hp ?_)
  refine pk_loop (fun m i (s : St2) => wX_fill_48 post (nI q) (nI r) (fm_hb (M p)) (fm_vl (M p)) m (nI i) s.1 s.2.1 s.2.2.1 s.2.2.2.1 s.2.2.2.2.1 s.2.2.2.2.2.1 s.2.2.2.2.2.2.1 s.2.2.2.2.2.2.2.1 s.2.2.2.2.2.2.2.2.1 s.2.2.2.2.2.2.2.2.2) (fun i s => q ≤ i ∧ fm_I (k + (i - q)) (fm_fl M q i (M p)) s) (r + 1) q (x0, x1, x2, x3, x4, x5, x6, x7, x8, x9) (by omega) ?_ ?_ ?_
  · refine ⟨Nat.le_refl q, ?_⟩
    rw [fm_fl_0]
    exact fm_mono h (by omega)
  · intro m s (hs : q ≤ r + 1 ∧ fm_I (k + (r + 1 - q)) (fm_fl M q (r + 1) (M p)) s)
    obtain ⟨y0, y1, y2, y3, y4, y5, y6, y7, y8, y9⟩ := s
    exact pk_lt r (r + 1) (fun _ => H _ hs.2) (fun z => absurd z (by omega))
  · intro m i s hi (hs : q ≤ i ∧ fm_I (k + (i - q)) (fm_fl M q i (M p)) s) hw
    obtain ⟨y0, y1, y2, y3, y4, y5, y6, y7, y8, y9⟩ := s
    refine pk_lt r i (fun z => absurd z (by omega)) (fun _ => ?_)
    refine fm_replace hs.2 (by omega) (by omega) (M p) (fun u' hu' => ?_)
    obtain ⟨z0, z1, z2, z3, z4, z5, z6, z7, z8, z9⟩ := u'
    refine nm_r (nI_1 i) (hw (z0, z1, z2, z3, z4, z5, z6, z7, z8, z9) ⟨by omega, ?_⟩)
    rw [← fm_fl_s hs.1]
    exact fm_mono hu' (by omega)
theorem fm_fillBad {post : Int32 → St2 → Prop} {p : Nat} {u : St2} {y z : Int32} (hp : p < 12) (hx : y < 0 ∨ 11 < y ∨ z < y ∨ 11 < z) (H : post (-1) u) : wpX_fill post u (nI p) y z := by
  obtain ⟨x0, x1, x2, x3, x4, x5, x6, x7, x8, x9⟩ := u
  unfold wpX_fill
  refine fm_isPage hp (br_f (by decide) (fm_page (fun c1 c2 => br_f (by decide) (fm_page (fun c3 c4 => br_f (by decide) (br_c (fun c5 => ?_) (fun _ => H))) (fun _ => br_t rfl H))) (fun _ => br_t rfl H)))
  exact absurd hx (fun c => c.elim c1 (fun c => c.elim c2 (fun c => c.elim (fun c => absurd c5 (Int32.not_le.mpr c)) c4)))
theorem fm_exchange {post : Int32 → St2 → Prop} {k p q : Nat} {M : Nat → Option Int32} {u : St2} (h : fm_I k M u) (hk : k ≤ 22) (hp : p < 12) (hq : q < 12) (H : ∀ u', fm_I (k + 2) (fm_up (fm_up M p (M q)) q (M p)) u' → post (fm_hb (M p) + fm_hb (M q)) u') : wpX_exchange post u (nI p) (nI q) := by
  obtain ⟨x0, x1, x2, x3, x4, x5, x6, x7, x8, x9⟩ := u
  unfold wpX_exchange
  refine fm_isPage hp (br_f (by decide) (fm_isPage hq (br_f (by decide) ?_)))
  refine fm_has h (by omega) hp (fm_has h (by omega) hq (fm_read h (by omega) hp (fm_read h (by omega) hq ?_)))
  refine fm_replace h (by omega) hp (M q) (fun u1 h1 => ?_)
  obtain ⟨y0, y1, y2, y3, y4, y5, y6, y7, y8, y9⟩ := u1
  refine fm_replace h1 (by omega) hq (M p) (fun u2 h2 => ?_)
  obtain ⟨z0, z1, z2, z3, z4, z5, z6, z7, z8, z9⟩ := u2
  have H' := H _ h2
  cases e1 : M p with
  | none =>
    cases e2 : M q with
    | none =>
      rw [e1, e2] at H'
      exact br_t rfl (br_t rfl H')
    | some b =>
      rw [e1, e2] at H'
      exact br_t rfl (br_f fm_h1 H')
  | some a =>
    cases e2 : M q with
    | none =>
      rw [e1, e2] at H'
      exact br_f fm_h1 (br_t rfl H')
    | some b =>
      rw [e1, e2] at H'
      exact br_f fm_h1 (br_f fm_h1 H')
theorem fm_exBad {post : Int32 → St2 → Prop} {p : Nat} {u : St2} {y : Int32} (hp : p < 12) (hx : y < 0 ∨ 11 < y) (H : post (-1) u) : wpX_exchange post u (nI p) y := by
  obtain ⟨x0, x1, x2, x3, x4, x5, x6, x7, x8, x9⟩ := u
  unfold wpX_exchange
  exact fm_isPage hp (br_f (by decide) (fm_noPage hx (br_t rfl H)))
end
section
/-- the third loop: the block in use -/
theorem fm_s129 {post : St2 → Prop} {n : Nat} {M : Nat → Option Int32} {a1 a2 a3 a4 a5 a6 a7 : Nat → Int32} (hF : fm_F n M a1 a2 a3 a4 a5 a6) (hP : ∀ p, p < 12 → a7 p = fm_last a3 p n) (hn : n ≤ 32) (H : ∀ u', fm_I n M u' → post u') : ∃ m, wX_startUp_129 post 2 (nI (n + 1)) a1 a2 a3 a4 a5 a6 a7 m 0 (-1) := by
  refine pk_loop (fun m i s => wX_startUp_129 post 2 (nI (n + 1)) a1 a2 a3 a4 a5 a6 a7 m (nI i) s) (fun i s => s = if n % 4 ≠ 0 ∧ n / 4 < i then nI (n / 4) else -1) 8 0 (-1) (by omega) (if_neg (by omega)).symm ?_ ?_
  · intro m s (hs : s = if n % 4 ≠ 0 ∧ n / 4 < 8 then nI (n / 4) else -1)
    refine pk_le 8 8 (fun _ => H _ ⟨n, s, a1, a2, a3, a4, a5, a6, a7, Nat.le_refl n, rfl, hF, ?_, hP⟩) (fun z => absurd z (by omega))
    by_cases c : n % 4 ≠ 0 ∧ n / 4 < 8
    · rw [if_pos c] at hs
      exact Or.inr ⟨n / 4, hs, by omega, by omega⟩
    · rw [if_neg c] at hs
      exact Or.inl ⟨hs, by omega⟩
  · intro m i s hi (hs : s = if n % 4 ≠ 0 ∧ n / 4 < i then nI (n / 4) else -1) hw
    refine pk_le 8 i (fun z => absurd z (by omega)) (fun _ => fm_isErased hF.1 hF.2.1 hi ?_)
    by_cases c : n ≤ 4 * i
    · rw [if_pos c]
      have hI : s = if n % 4 ≠ 0 ∧ n / 4 < i + 1 then nI (n / 4) else -1 := by
        by_cases d : n % 4 ≠ 0 ∧ n / 4 < i
        · rw [if_pos d] at hs
          rw [if_pos (by omega)]
          exact hs
        · rw [if_neg d] at hs
          rw [if_neg (by omega)]
          exact hs
      exact br_f (by decide) (nm_r (nI_1 i) (hw _ hI))
    · rw [if_neg c, fm_e3, nI_clamp (show 4 * i + 3 < 2 ^ 31 by omega)]
      refine br_t rfl ⟨pk_in (4 * i + 3) 32 (by omega), ?_⟩
      by_cases d : n ≤ 4 * i + 3
      · have hI : nI i = if n % 4 ≠ 0 ∧ n / 4 < i + 1 then nI (n / 4) else -1 := by
          rw [if_pos (by omega)]
          exact congrArg nI (by omega)
        exact br_t (hF.2.1 _ d (by omega)) (nm_r (nI_1 i) (hw _ hI))
      · have hI : s = if n % 4 ≠ 0 ∧ n / 4 < i + 1 then nI (n / 4) else -1 := by
          rw [if_neg (by omega)] at hs ⊢
          exact hs
        exact br_f (by rw [hF.1 _ (by omega)]; decide) (nm_r (nI_1 i) (hw _ hI))
/-- the second loop: the newest page of each logical page, the next number -/
theorem fm_s33 {post : St2 → Prop} {n : Nat} {M : Nat → Option Int32} {a1 a2 a3 a4 a5 a6 a7 : Nat → Int32} (hF : fm_F n M a1 a2 a3 a4 a5 a6) (h0 : ∀ p, p < 12 → a7 p = -1) (hn : n ≤ 32) (H : ∀ u', fm_I n M u' → post u') : ∃ m, wX_startUp_33 post 2 (-1) m 0 1 a1 a2 a3 a4 a5 a6 a7 := by
  refine pk_loop (fun m i (s : Int32 × (Nat → Int32)) => wX_startUp_33 post 2 (-1) m (nI i) s.1 a1 a2 a3 a4 a5 a6 s.2) (fun i s => s.1 = nI (min i n + 1) ∧ ∀ p, p < 12 → s.2 p = fm_last a3 p (min i n)) 32 0 (1, a7) (by omega) ⟨by rw [Nat.zero_min]; rfl, fun p hp => by rw [Nat.zero_min]; exact h0 p hp⟩ ?_ ?_
  · intro m s (hs : s.1 = nI (min 32 n + 1) ∧ ∀ p, p < 12 → s.2 p = fm_last a3 p (min 32 n))
    obtain ⟨nn, b7⟩ := s
    rw [show min 32 n = n by omega] at hs
    obtain ⟨e1, e2⟩ := hs
    dsimp only at e1 e2
    subst e1
    exact pk_le 32 32 (fun _ => fm_s129 hF e2 hn H) (fun z => absurd z (by omega))
  · intro m i s hi (hs : s.1 = nI (min i n + 1) ∧ ∀ p, p < 12 → s.2 p = fm_last a3 p (min i n)) hw
    obtain ⟨nn, b7⟩ := s
    obtain ⟨e1, e2⟩ := hs
    dsimp only at e1 e2
    show wX_startUp_33 post 2 (-1) (m + 1) (nI i) nn a1 a2 a3 a4 a5 a6 b7
    refine pk_le 32 i (fun z => absurd z (by omega)) (fun _ => ⟨pk_in i 32 hi, ?_⟩)
    rw [nI_clamp (show i < 2 ^ 31 by omega)]
    by_cases c : i < n
    · rw [show min i n = i by omega] at e1 e2
      obtain ⟨p, hp, ep⟩ := hF.2.2.1 i c
      have h5 : a5 i = nI (i + 1) := hF.2.2.2.1 i c
      have hi' : wX_startUp_88 post (wX_startUp_33 post 2 (-1) m) (nI i) (nI p) 2 (-1) nn a1 a2 a3 a4 a5 a6 b7 := by
        unfold wX_startUp_88
        rw [nI_clamp (show p < 2 ^ 31 by omega), fm_byte i hi]
        refine ⟨pk_in p 12 hp, nm_e ?_⟩
        unfold wX_startUp_96
        rw [nI_clamp (show i < 2 ^ 31 by omega), h5, e1]
        refine ⟨pk_in i 32 hi, br_f Int32.lt_irrefl ⟨pk_in i 32 hi, nm_r (nI_1 (i + 1)) (nm_r (nI_1 i) (hw (nI (i + 1 + 1), upd b7 p (nI i)) ⟨?_, fun q hq => ?_⟩))⟩⟩
        · rw [show min (i + 1) n = i + 1 by omega]
        · rw [show min (i + 1) n = i + 1 by omega]
          show upd b7 p (nI i) q = (if a3 i = nI q then nI i else fm_last a3 q i)
          by_cases e : q = p
          · rw [e, pk_us, if_pos ep]
          · have ne : ¬ nI p = nI q := fun z => e ((nI_eq (by omega) (by omega)).mp z).symm
            rw [pk_un e, ep, if_neg ne]
            exact e2 q hq
      refine br_t (hF.1 i c) ⟨pk_in i 32 hi, nm_r ep ?_⟩
      rw [nI_clamp (show p < 2 ^ 31 by omega), e2 p hp]
      refine ⟨pk_in p 12 hp, ?_⟩
      rcases fm_look a2 a3 a4 p i with ⟨g, _⟩ | ⟨j, hj, g, _⟩
      · rw [g]
        exact br_t (by decide) hi'
      · rw [g, nI_clamp (show j < 2 ^ 31 by omega), h5, hF.2.2.2.1 j (by omega)]
        exact br_f (nI_pos (by omega)) ⟨pk_in i 32 hi, pk_in p 12 hp, pk_in j 32 (by omega), br_f (nI_ge (by omega) (by omega)) hi'⟩
    · have hI : nn = nI (min (i + 1) n + 1) ∧ ∀ p, p < 12 → b7 p = fm_last a3 p (min (i + 1) n) := by
        rw [show min i n = n by omega] at e1 e2
        rw [show min (i + 1) n = n by omega]
        exact ⟨e1, e2⟩
      exact br_f (by rw [hF.2.1 i (by omega) hi]; decide) (nm_r (nI_1 i) (hw (nn, b7) hI))
theorem fm_startUp {post : St2 → Prop} {n : Nat} {M : Nat → Option Int32} {ob nn : Int32} {a1 a2 a3 a4 a5 a6 a7 : Nat → Int32} (hF : fm_F n M a1 a2 a3 a4 a5 a6) (hn : n ≤ 32) (H : ∀ u', fm_I n M u' → post u') : wpX_startUp post (2, ob, nn, a1, a2, a3, a4, a5, a6, a7) := by
  unfold wpX_startUp
  refine pk_loop (fun m i s => wX_startUp_12 post 2 (-1) 1 m (nI i) a1 a2 a3 a4 a5 a6 s) (fun i s => ∀ p, p < i → s p = -1) 12 0 a7 (by omega) (fun p hp => absurd hp (by omega)) ?_ ?_
  · intro m s (hs : ∀ p, p < 12 → s p = -1)
    exact pk_le 12 12 (fun _ => fm_s33 hF hs hn H) (fun z => absurd z (by omega))
  · intro m i s hi (hs : ∀ p, p < i → s p = -1) hw
    have hI : ∀ p, p < i + 1 → upd s i (-1) p = -1 := by
      intro p hp
      by_cases e : p = i
      · rw [e, pk_us]
      · rw [pk_un e]
        exact hs p (by omega)
    refine pk_le 12 i (fun z => absurd z (by omega)) (fun _ => ⟨pk_in i 12 hi, ?_⟩)
    rw [nI_clamp (show i < 2 ^ 31 by omega)]
    exact nm_e (nm_r (nI_1 i) (hw _ hI))
theorem fm_powerCut {post : Int32 → St2 → Prop} {k : Nat} {M : Nat → Option Int32} {u : St2} (h : fm_I k M u) (hk : k ≤ 32) (H : ∀ u', fm_I k M u' → post (Int32.ofInt (fm_T fm_hbI M 12)) u') : wpX_powerCut post u := by
  obtain ⟨n, ob, a1, a2, a3, a4, a5, a6, a7, hn, rfl, hF, hB, hP⟩ := h
  unfold wpX_powerCut
  refine fm_startUp hF (by omega) (fun u' hu' => ?_)
  obtain ⟨x0, x1, x2, x3, x4, x5, x6, x7, x8, x9⟩ := u'
  exact fm_used hu' (by omega) (H _ (fm_mono hu' hn))
theorem fm_init {post : St2 → Prop} (H : ∀ u', fm_I 0 (fun _ => none) u' → post u') : wpX_init post 7 180 (0, 0, 0) 2 := by
  unfold wpX_init
  refine ⟨by omega, by omega, by omega, by omega, by omega, by omega, by omega, by omega, by omega, by omega, by omega, by omega, by omega, by omega, br_t (by decide) (br_t (by decide) ?_)⟩
  unfold wX_init_80
  refine fm_startUp (n := 0) (M := fun _ => none) ⟨fun j hj => absurd hj (by omega), fun _ _ _ => rfl, fun j hj => absurd hj (by omega), fun j hj => absurd hj (by omega), fun _ _ => rfl, fun _ _ => rfl⟩ (by omega) (fun u' hu' => ?_)
  obtain ⟨x0, x1, x2, x3, x4, x5, x6, x7, x8, x9⟩ := u'
  exact H _ hu'
end
section
theorem fm_h2 {a b : Int32} : fm_hb (some a) + fm_hb (some b) = 2 := (by decide : (1 : Int32) + 1 = 2)
theorem fm_h10 {a : Int32} : fm_hb (some a) + fm_hb none = 1 := (by decide : (1 : Int32) + 0 = 1)
/-- the sum after a fill -/
theorem fm_sum64 {s t q r : Nat} {v w f9 f10 : Int32} (hs : s < 12) (ht : t < 12) (hst : s ≠ t) (hqr : q ≤ r) (hr : r < 12) (e9 : f9 = 0 ↔ ¬ (q ≤ t ∧ t < r + 1)) (e10 : f10 = 0 ↔ ¬ (q ≤ s ∧ s < r + 1)) :
    Int64.ofInt (fm_T fm_vlI (fm_fl (fm_M2 s t v w) q (r + 1) (some v)) 12) = v.toInt64 * ((nI r - nI q) + 1).toInt64 + (if f9 = 0 then w else 0).toInt64 + (if f10 = 0 then v else 0).toInt64 := by
  have e : q + (r + 1 - q) = r + 1 := by omega
  have T := fm_T_fill fm_vlI rfl (v := v) (w := w) hs ht hst (r + 1 - q) (show q + (r + 1 - q) ≤ 12 by omega)
  rw [e] at T
  rw [T]
  have ed : (nI r - nI q + 1).toInt64 = Int64.ofInt ((r + 1 - q : Nat) : Int) := by
    rw [pk_sub hqr, nI_1, nI_l (by omega), Int64.ofInt_eq_ofNat]
    exact congrArg lN (by omega)
  have e1 : Int64.ofInt (if q ≤ t ∧ t < r + 1 then 0 else fm_vlI (some w)) = (if f9 = 0 then w else 0).toInt64 := by
    by_cases c : q ≤ t ∧ t < r + 1
    · rw [if_pos c, if_neg (fun z => e9.mp z c)]
      rfl
    · rw [if_neg c, if_pos (e9.mpr c)]
      exact Int64.ofInt_int32ToInt w
  have e2 : Int64.ofInt (if q ≤ s ∧ s < r + 1 then 0 else fm_vlI (some v)) = (if f10 = 0 then v else 0).toInt64 := by
    by_cases c : q ≤ s ∧ s < r + 1
    · rw [if_pos c, if_neg (fun z => e10.mp z c)]
      rfl
    · rw [if_neg c, if_pos (e10.mpr c)]
      exact Int64.ofInt_int32ToInt v
  have ev : Int64.ofInt (fm_vlI (some v)) = v.toInt64 := Int64.ofInt_int32ToInt v
  rw [Int64.ofInt_add, Int64.ofInt_add, Int64.ofInt_mul, e1, e2, ed, ev, Int64.mul_comm]
/-- the count after a fill -/
theorem fm_cnt32 {s t q r : Nat} {v w f9 f10 : Int32} (hs : s < 12) (ht : t < 12) (hst : s ≠ t) (hqr : q ≤ r) (hr : r < 12) (e9 : f9 = 0 ↔ ¬ (q ≤ t ∧ t < r + 1)) (e10 : f10 = 0 ↔ ¬ (q ≤ s ∧ s < r + 1)) :
    Int32.ofInt (fm_T fm_hbI (fm_fl (fm_M2 s t v w) q (r + 1) (some v)) 12) = ((nI r - nI q) + 1) + (if f9 = 0 then 1 else 0) + (if f10 = 0 then 1 else 0) := by
  have e : q + (r + 1 - q) = r + 1 := by omega
  have T := fm_T_fill fm_hbI rfl (v := v) (w := w) hs ht hst (r + 1 - q) (show q + (r + 1 - q) ≤ 12 by omega)
  rw [e] at T
  rw [T]
  have ed : nI r - nI q + 1 = Int32.ofInt (((r + 1 - q : Nat) : Int) * fm_hbI (some v)) := by
    rw [show ((r + 1 - q : Nat) : Int) * fm_hbI (some v) = ((r + 1 - q : Nat) : Int) from Int.mul_one _, pk_sub hqr, nI_1, Int32.ofInt_eq_ofNat]
    exact congrArg nI (by omega)
  have e1 : Int32.ofInt (if q ≤ t ∧ t < r + 1 then 0 else fm_hbI (some w)) = (if f9 = 0 then 1 else 0) := by
    by_cases c : q ≤ t ∧ t < r + 1
    · rw [if_pos c, if_neg (fun z => e9.mp z c)]
      rfl
    · rw [if_neg c, if_pos (e9.mpr c)]
      rfl
  have e2 : Int32.ofInt (if q ≤ s ∧ s < r + 1 then 0 else fm_hbI (some v)) = (if f10 = 0 then 1 else 0) := by
    by_cases c : q ≤ s ∧ s < r + 1
    · rw [if_pos c, if_neg (fun z => e10.mp z c)]
      rfl
    · rw [if_neg c, if_pos (e10.mpr c)]
      rfl
  rw [Int32.ofInt_add, Int32.ofInt_add, e1, e2, ed]
theorem fm_390 {post : Int32 → St0 → Prop} {mc ms kc ks k : Nat} {z : Int64} {M : Nat → Option Int32} {x0 x1 x2 : Int32} {x3 x4 x5 x6 x7 x8 x9 : Nat → Int32} (h : fm_I k M (x0, x1, x2, x3, x4, x5, x6, x7, x8, x9)) (hk : k ≤ 32) (hz : Int64.ofInt (fm_T fm_vlI M 12) = z) (H : post 1 ()) : wL_lawOf_390 post mc ms z kc ks x0 x1 x2 x3 x4 x5 x6 x7 x8 x9 := by
  unfold wL_lawOf_390
  exact fm_total h hk (br_t hz H)
theorem fm_337 {post : Int32 → St0 → Prop} {mc ms kc ks k : Nat} {v w y z f8 f9 f10 a : Int32} {M : Nat → Option Int32} {x0 x1 x2 : Int32} {x3 x4 x5 x6 x7 x8 x9 : Nat → Int32} (h : fm_I k M (x0, x1, x2, x3, x4, x5, x6, x7, x8, x9)) (hk : k ≤ 32)
    (h0 : f8 = 0 → Int64.ofInt (fm_T fm_vlI M 12) = v.toInt64 + w.toInt64) (h1 : ¬ f8 = 0 → Int64.ofInt (fm_T fm_vlI M 12) = v.toInt64 * ((z - y) + 1).toInt64 + (if f9 = 0 then w else 0).toInt64 + (if f10 = 0 then v else 0).toInt64)
    (H : post 1 ()) : wL_lawOf_337 post mc ms v w y z f8 f9 f10 a a kc ks x0 x1 x2 x3 x4 x5 x6 x7 x8 x9 := by
  unfold wL_lawOf_337
  refine br_t rfl (br_c (fun c => fm_390 h hk (h0 c) H) (fun c => ?_))
  have g := h1 c
  by_cases c9 : f9 = 0
  · rw [if_pos c9] at g
    refine br_t c9 ?_
    unfold wL_lawOf_376
    by_cases c10 : f10 = 0
    · rw [if_pos c10] at g
      refine br_t c10 ?_
      unfold wL_lawOf_388
      exact fm_390 h hk g H
    · rw [if_neg c10] at g
      refine br_f c10 ?_
      unfold wL_lawOf_388
      exact fm_390 h hk g H
  · rw [if_neg c9] at g
    refine br_f c9 ?_
    unfold wL_lawOf_376
    by_cases c10 : f10 = 0
    · rw [if_pos c10] at g
      refine br_t c10 ?_
      unfold wL_lawOf_388
      exact fm_390 h hk g H
    · rw [if_neg c10] at g
      refine br_f c10 ?_
      unfold wL_lawOf_388
      exact fm_390 h hk g H
/-- from the power cut on -/
theorem fm_245 {post : Int32 → St0 → Prop} {mc ms kc ks k s t : Nat} {v w y z f8 f9 f10 now : Int32} {M : Nat → Option Int32} {x0 x1 x2 : Int32} {x3 x4 x5 x6 x7 x8 x9 : Nat → Int32} (h : fm_I k M (x0, x1, x2, x3, x4, x5, x6, x7, x8, x9)) (hk : k ≤ 18) (hs : s < 12) (ht : t < 12) (hst : s ≠ t) (es : M s = some v) (et : M t = some now)
    (hy : (y < 0 ∨ 11 < y) ∨ ∃ q, q < 12 ∧ y = nI q ∧ (f8 = 0 → q ≠ s → q ≠ t → M q = none) ∧ (¬ f8 = 0 → ∃ a, M q = some a))
    (h0 : f8 = 0 → Int64.ofInt (fm_T fm_vlI M 12) = v.toInt64 + w.toInt64) (h1 : ¬ f8 = 0 → Int64.ofInt (fm_T fm_vlI M 12) = v.toInt64 * ((z - y) + 1).toInt64 + (if f9 = 0 then w else 0).toInt64 + (if f10 = 0 then v else 0).toInt64)
    (H : post 1 ()) : wL_lawOf_245 post mc ms v w y z (nI s) (nI t) f8 f9 f10 now (Int32.ofInt (fm_T fm_hbI M 12)) kc ks x0 x1 x2 x3 x4 x5 x6 x7 x8 x9 := by
  unfold wL_lawOf_245
  refine fm_powerCut h (by omega) (fun u1 k1 => ?_)
  obtain ⟨y0, y1, y2, y3, y4, y5, y6, y7, y8, y9⟩ := u1
  refine br_t rfl (fm_exchange k1 (by omega) hs ht (fun u2 k2 => ?_))
  obtain ⟨z0, z1, z2, z3, z4, z5, z6, z7, z8, z9⟩ := u2
  have T4 : fm_T fm_vlI (fm_up (fm_up M s (M t)) t (M s)) 12 = fm_T fm_vlI M 12 := fm_T_ex fm_vlI M hs ht
  have m4s : fm_up (fm_up M s (M t)) t (M s) s = some now := ((fm_un hst).trans fm_us).trans et
  have m4t : fm_up (fm_up M s (M t)) t (M s) t = some v := fm_us.trans es
  have m4n : ∀ q, q ≠ s → q ≠ t → fm_up (fm_up M s (M t)) t (M s) q = M q := fun q a b => (fm_un b).trans (fm_un a)
  generalize fm_up (fm_up M s (M t)) t (M s) = M4 at k2 T4 m4s m4t m4n
  refine br_t (by rw [es, et]; exact fm_h2) (fm_read k2 (by omega) hs ?_)
  refine br_t (by rw [m4s]; rfl) ?_
  rcases hy with hb | ⟨q, hq, rfl, g0, g1⟩
  · refine fm_exBad hs hb ?_
    have key : wL_lawOf_309 post mc ms v w y z f8 f9 f10 (-1) kc ks z0 z1 z2 z3 z4 z5 z6 z7 z8 z9 := by
      unfold wL_lawOf_309
      exact fm_337 k2 (by omega) (by rw [T4]; exact h0) (by rw [T4]; exact h1) H
    exact br_c (fun _ => key) (fun c => br_f (Int32.not_le.mpr (hb.resolve_left c)) key)
  · refine fm_exchange k2 (by omega) hs hq (fun u3 k3 => ?_)
    obtain ⟨r0, r1, r2, r3, r4, r5, r6, r7, r8, r9⟩ := u3
    have T5 : fm_T fm_vlI (fm_up (fm_up M4 s (M4 q)) q (M4 s)) 12 = fm_T fm_vlI M 12 := (fm_T_ex fm_vlI M4 hs hq).trans T4
    have key : (∃ a, M4 q = some a) → wL_lawOf_332 post mc ms v w (nI q) z f8 f9 f10 (fm_hb (M4 s) + fm_hb (M4 q)) kc ks r0 r1 r2 r3 r4 r5 r6 r7 r8 r9 := by
      intro ⟨a, ea⟩
      unfold wL_lawOf_332
      have e2 : fm_hb (M4 s) + fm_hb (M4 q) = 2 := by
        rw [m4s, ea]
        exact fm_h2
      rw [e2]
      exact fm_337 k3 (by omega) (by rw [T5]; exact h0) (by rw [T5]; exact h1) H
    refine br_f (nI_pos (by omega)) (br_t (nI_le (a := q) (b := 11) (by omega) (by decide)) (br_c (fun c => br_c (fun e => key ?_) (fun e => br_c (fun e2 => key ?_) (fun e2 => ?_))) (fun c => key ?_)))
    · have e' : q = s := (nI_eq (by omega) (by omega)).mp e
      exact ⟨now, by rw [e']; exact m4s⟩
    · have e' : q = t := (nI_eq (by omega) (by omega)).mp e2
      exact ⟨v, by rw [e']; exact m4t⟩
    · have n1 : q ≠ s := fun z => e (congrArg nI z)
      have n2 : q ≠ t := fun z => e2 (congrArg nI z)
      have e1 : fm_hb (M4 s) + fm_hb (M4 q) = 1 := by
        rw [m4s, m4n q n1 n2, g0 c n1 n2]
        exact fm_h10
      rw [e1]
      exact fm_337 k3 (by omega) (by rw [T5]; exact h0) (by rw [T5]; exact h1) H
    · by_cases n1 : q = s
      · exact ⟨now, by rw [n1]; exact m4s⟩
      · by_cases n2 : q = t
        · exact ⟨v, by rw [n2]; exact m4t⟩
        · rw [m4n q n1 n2]
          exact g1 c
/-- from the answer of fill on -/
theorem fm_176 {post : Int32 → St0 → Prop} {mc ms kc ks k s t : Nat} {v w y z f8 f9 f10 a : Int32} {M : Nat → Option Int32} {x0 x1 x2 : Int32} {x3 x4 x5 x6 x7 x8 x9 : Nat → Int32} (h : fm_I k M (x0, x1, x2, x3, x4, x5, x6, x7, x8, x9)) (hk : k ≤ 18) (hs : s < 12) (ht : t < 12) (hst : s ≠ t) (es : M s = some v) (et : M t = some (if f9 = 0 then w else v))
    (hy : (y < 0 ∨ 11 < y) ∨ ∃ q, q < 12 ∧ y = nI q ∧ (f8 = 0 → q ≠ s → q ≠ t → M q = none) ∧ (¬ f8 = 0 → ∃ a, M q = some a))
    (h0 : f8 = 0 → Int64.ofInt (fm_T fm_vlI M 12) = v.toInt64 + w.toInt64) (h1 : ¬ f8 = 0 → Int64.ofInt (fm_T fm_vlI M 12) = v.toInt64 * ((z - y) + 1).toInt64 + (if f9 = 0 then w else 0).toInt64 + (if f10 = 0 then v else 0).toInt64)
    (c0 : f8 = 0 → Int32.ofInt (fm_T fm_hbI M 12) = 2) (c1 : ¬ f8 = 0 → Int32.ofInt (fm_T fm_hbI M 12) = ((z - y) + 1) + (if f9 = 0 then 1 else 0) + (if f10 = 0 then 1 else 0))
    (H : post 1 ()) : wL_lawOf_176 post mc ms v w y z (nI s) (nI t) f8 f9 f10 a a kc ks x0 x1 x2 x3 x4 x5 x6 x7 x8 x9 := by
  have k245 : ∀ now n, M t = some now → Int32.ofInt (fm_T fm_hbI M 12) = n → wL_lawOf_245 post mc ms v w y z (nI s) (nI t) f8 f9 f10 now n kc ks x0 x1 x2 x3 x4 x5 x6 x7 x8 x9 := by
    intro now n en e
    rw [← e]
    exact fm_245 h hk hs ht hst es en hy h0 h1 H
  have k191 : ∀ now, M t = some now → wL_lawOf_191 post mc ms v w y z (nI s) (nI t) f8 f9 f10 now kc ks x0 x1 x2 x3 x4 x5 x6 x7 x8 x9 := by
    intro now en
    unfold wL_lawOf_191
    refine fm_read h (by omega) ht ?_
    refine br_t (by rw [en]; rfl) (br_c (fun c => k245 _ _ en (c0 c)) (fun c => ?_))
    have g := c1 c
    by_cases c9 : f9 = 0
    · rw [if_pos c9] at g
      refine br_t c9 ?_
      unfold wL_lawOf_229
      by_cases c10 : f10 = 0
      · rw [if_pos c10] at g
        refine br_t c10 ?_
        unfold wL_lawOf_240
        exact k245 _ _ en g
      · rw [if_neg c10] at g
        refine br_f c10 ?_
        unfold wL_lawOf_240
        exact k245 _ _ en g
    · rw [if_neg c9] at g
      refine br_f c9 ?_
      unfold wL_lawOf_229
      by_cases c10 : f10 = 0
      · rw [if_pos c10] at g
        refine br_t c10 ?_
        unfold wL_lawOf_240
        exact k245 _ _ en g
      · rw [if_neg c10] at g
        refine br_f c10 ?_
        unfold wL_lawOf_240
        exact k245 _ _ en g
  unfold wL_lawOf_176
  refine br_t rfl (br_c (fun c => k191 _ ?_) (fun c => k191 _ ?_))
  · rw [et, if_pos c]
  · rw [et, if_neg c]
/-- the calls up to fill -/
theorem fm_111 {post : Int32 → St0 → Prop} {s t : Nat} {v w y z f8 f9 f10 : Int32} (hs : s < 12) (ht : t < 12) (hst : s ≠ t)
    (hf : (f8 = 0 ∧ f9 = 0 ∧ f10 = 0 ∧ (y < 0 ∨ 11 < y ∨ z < y ∨ 11 < z)) ∨ (∃ q r, y = nI q ∧ z = nI r ∧ q ≤ r ∧ r < 12 ∧ ¬ f8 = 0 ∧ (f9 = 0 ↔ ¬ (q ≤ t ∧ t < r + 1)) ∧ (f10 = 0 ↔ ¬ (q ≤ s ∧ s < r + 1))))
    (H : post 1 ()) : wL_lawOf_111 post 72 1136 v w y z (nI s) (nI t) f8 f9 f10 0 0 := by
  unfold wL_lawOf_111
  refine ⟨by omega, by omega, 7, 180, by omega, by omega, fm_init (fun u0 k0 => ?_)⟩
  obtain ⟨x0, x1, x2, x3, x4, x5, x6, x7, x8, x9⟩ := u0
  refine fm_write k0 (by omega) hs (fun u1 k1 => ?_)
  obtain ⟨y0, y1, y2, y3, y4, y5, y6, y7, y8, y9⟩ := u1
  refine br_t rfl (fm_write k1 (by omega) ht (fun u2 k2 => ?_))
  obtain ⟨z0, z1, z2, z3, z4, z5, z6, z7, z8, z9⟩ := u2
  refine br_t (by rw [fm_un (Ne.symm hst)]; rfl) ?_
  have k2' : fm_I 2 (fm_M2 s t v w) (z0, z1, z2, z3, z4, z5, z6, z7, z8, z9) := k2
  rcases hf with ⟨c8, c9, c10, hx⟩ | ⟨q, r, rfl, rfl, hqr, hr, c8, e9, e10⟩
  · refine fm_fillBad hs hx (br_t c8 ?_)
    refine fm_176 k2' (by omega) hs ht hst (fm_M2_s hst) (by rw [if_pos c9]; exact fm_M2_t) ?_ (fun _ => ?_) (fun c => absurd c8 c) (fun _ => ?_) (fun c => absurd c8 c) H
    · by_cases b1 : y < 0
      · exact Or.inl (Or.inl b1)
      · by_cases b2 : 11 < y
        · exact Or.inl (Or.inr b2)
        · obtain ⟨q, hq, rfl⟩ := nI_of2 (M := 11) (n := 11) (by decide) b1 (Int32.not_lt.mp b2)
          exact Or.inr ⟨q, by omega, rfl, fun _ n1 n2 => fm_M2_n n1 n2, fun c => absurd c8 c⟩
    · rw [fm_T_2 fm_vlI rfl hs ht hst, Int64.ofInt_add]
      show Int64.ofInt v.toInt + Int64.ofInt w.toInt = _
      rw [Int64.ofInt_int32ToInt, Int64.ofInt_int32ToInt]
    · rw [fm_T_2 fm_hbI rfl hs ht hst]
      rfl
  · refine fm_fill k2' hs hqr hr (by omega) (fun u3 k3 => ?_)
    obtain ⟨r0, r1, r2, r3, r4, r5, r6, r7, r8, r9⟩ := u3
    rw [fm_M2_s hst] at k3
    refine br_f c8 (fm_176 k3 (by omega) hs ht hst ?_ ?_ (Or.inr ⟨q, by omega, rfl, fun c => absurd c c8, fun _ => ⟨v, if_pos ⟨Nat.le_refl q, by omega⟩⟩⟩) (fun c => absurd c c8) (fun _ => fm_sum64 hs ht hst hqr hr e9 e10) (fun c => absurd c c8) (fun _ => fm_cnt32 hs ht hst hqr hr e9 e10) H)
    · by_cases c : q ≤ s ∧ s < r + 1
      · exact if_pos c
      · exact (if_neg c).trans (fm_M2_s hst)
    · by_cases c : q ≤ t ∧ t < r + 1
      · rw [if_neg (fun z => e9.mp z c)]
        exact if_pos c
      · rw [if_pos (e9.mpr c)]
        exact (if_neg c).trans fm_M2_t
end
section
theorem fm_58 {post : Int32 → St0 → Prop} {s t : Nat} {v w y z : Int32} (hs : s < 12) (ht : t < 12) (hst : s ≠ t) (hx : y < 0 ∨ 11 < y ∨ z < y ∨ 11 < z) (H : post 1 ()) : wL_lawOf_58 post 72 1136 v w y z (nI s) (nI t) 0 0 := by
  unfold wL_lawOf_58
  unfold wL_lawOf_59
  refine br_t rfl ?_
  unfold wL_lawOf_84
  unfold wL_lawOf_85
  refine br_t rfl ?_
  unfold wL_lawOf_110
  exact fm_111 hs ht hst (Or.inl ⟨rfl, rfl, rfl, hx⟩) H
theorem fm_85 {post : Int32 → St0 → Prop} {s t q r : Nat} {v w f9 : Int32} (hs : s < 12) (ht : t < 12) (hst : s ≠ t) (hqr : q ≤ r) (hr : r < 12) (e9 : f9 = 0 ↔ ¬ (q ≤ t ∧ t < r + 1)) (H : post 1 ()) : wL_lawOf_85 post 72 1136 v w (nI q) (nI r) (nI s) (nI t) 1 f9 0 0 := by
  have key : ∀ f10 : Int32, (f10 = 0 ↔ ¬ (q ≤ s ∧ s < r + 1)) → wL_lawOf_111 post 72 1136 v w (nI q) (nI r) (nI s) (nI t) 1 f9 f10 0 0 :=
    fun f10 e10 => fm_111 hs ht hst (Or.inr ⟨q, r, rfl, rfl, hqr, hr, by decide, e9, e10⟩) H
  have k0 : ¬ (q ≤ s ∧ s < r + 1) → wL_lawOf_110 post 72 1136 v w (nI q) (nI r) (nI s) (nI t) 1 f9 0 0 := by
    intro c
    unfold wL_lawOf_110
    exact key 0 ⟨fun _ => c, fun _ => rfl⟩
  unfold wL_lawOf_85
  exact br_f (by decide) (pk_lt s q (fun c => k0 (by omega)) (fun c => pk_lt r s (fun d => k0 (by omega)) (fun d => key 1 ⟨fun z => absurd z (by decide), fun z => absurd ⟨c, by omega⟩ z⟩)))
theorem fm_59 {post : Int32 → St0 → Prop} {s t q r : Nat} {v w : Int32} (hs : s < 12) (ht : t < 12) (hst : s ≠ t) (hqr : q ≤ r) (hr : r < 12) (H : post 1 ()) : wL_lawOf_59 post 72 1136 v w (nI q) (nI r) (nI s) (nI t) 1 0 0 := by
  have k0 : ¬ (q ≤ t ∧ t < r + 1) → wL_lawOf_84 post 72 1136 v w (nI q) (nI r) (nI s) (nI t) 1 0 0 := by
    intro c
    unfold wL_lawOf_84
    exact fm_85 hs ht hst hqr hr ⟨fun _ => c, fun _ => rfl⟩ H
  unfold wL_lawOf_59
  exact br_f (by decide) (pk_lt t q (fun c => k0 (by omega)) (fun c => pk_lt r t (fun d => k0 (by omega)) (fun d => fm_85 hs ht hst hqr hr ⟨fun z => absurd z (by decide), fun z => absurd ⟨c, by omega⟩ z⟩ H)))
theorem fm_lawOf {post : Int32 → St0 → Prop} {p0 p1 v w y z : Int32} (H : post 1 ()) : wpL_lawOf post 72 1136 () p0 p1 v w y z := by
  obtain ⟨j, hj, ej⟩ := pk_andE p0 (m := 255) 8 (by decide)
  obtain ⟨i, hi, ei⟩ := pk_andE p1 (m := 255) 8 (by decide)
  have es : (p0 &&& 255) - (p0 &&& 255) / 12 * 12 = nI (j % 12) := by
    rw [ej]
    exact pk_rem (d := 12) (by omega) (by omega) (by omega)
  have eb : (p1 &&& 255) - (p1 &&& 255) / 11 * 11 = nI (i % 11) := by
    rw [ei]
    exact pk_rem (d := 11) (by omega) (by omega) (by omega)
  have hs : j % 12 < 12 := Nat.mod_lt _ (by omega)
  have hb : i % 11 < 11 := Nat.mod_lt _ (by omega)
  generalize j % 12 = s at es hs
  generalize i % 11 = b at eb hb
  have et : ((nI s + 1) + nI b) - ((nI s + 1) + nI b) / 12 * 12 = nI ((s + 1 + b) % 12) := by
    rw [nI_1, nI_add]
    exact pk_rem (d := 12) (by omega) (by omega) (by omega)
  have ht : (s + 1 + b) % 12 < 12 := Nat.mod_lt _ (by omega)
  have hst : s ≠ (s + 1 + b) % 12 := by omega
  generalize (s + 1 + b) % 12 = t at et ht hst
  unfold wpL_lawOf
  refine ⟨by decide, nm_r es ⟨by decide, by decide, ?_⟩⟩
  rw [eb]
  refine nm_r et ?_
  refine br_c (fun c => fm_58 hs ht hst (Or.inl c) H) (fun c1 => ?_)
  refine br_c (fun c => fm_58 hs ht hst (Or.inr (Or.inl c)) H) (fun c2 => ?_)
  refine br_c (fun c => fm_58 hs ht hst (Or.inr (Or.inr (Or.inl c))) H) (fun c3 => ?_)
  refine br_c (fun c => fm_58 hs ht hst (Or.inr (Or.inr (Or.inr c))) H) (fun c4 => ?_)
  obtain ⟨q, hq, rfl⟩ := nI_of2 (M := 11) (n := 11) (by decide) c1 (Int32.not_lt.mp c2)
  have c5 : ¬ z < 0 := by
    intro c
    rw [Int32.lt_iff_toInt_lt, nI_toInt (by omega)] at c3
    rw [Int32.lt_iff_toInt_lt, show (0 : Int32).toInt = 0 from by decide] at c
    omega
  obtain ⟨r, hr, rfl⟩ := nI_of2 (M := 11) (n := 11) (by decide) c5 (Int32.not_lt.mp c4)
  rw [nI_ltI (by omega) (by omega)] at c3
  exact fm_59 hs ht hst (by omega) (by omega) H
theorem fm_cell {post : Int32 → Prop} {L : Nat} {xs : Nat → Int32} {u : St0} (j : Nat) (hj : j < 6) (hL : L ≤ 6) (H : ∀ r, post r) : wpL_cellAt post L xs u (nI j) := by
  unfold wpL_cellAt
  exact pk_le L j (fun _ => H 0) (fun z => ⟨pk_in j L z, H _⟩)
theorem i_vc (xs : Nat → Int32) (L : Nat) (hL : L ≤ 6) : wpL_law (fun r => r = 1) L xs := by
  unfold wpL_law
  exact fm_cell 0 (by omega) hL (fun r1 => fm_cell 1 (by omega) hL (fun r2 => fm_cell 2 (by omega) hL (fun r3 => fm_cell 3 (by omega) hL (fun r4 => fm_cell 4 (by omega) hL (fun r5 => fm_cell 5 (by omega) hL (fun r6 => ⟨72, 1136, by omega, by omega, fm_lawOf rfl⟩))))))
end
