section
section
theorem ed_up (f : Nat → Int32) (k j : Nat) (x : Int32) : upd f k x j = if j = k then x else f j := by
  by_cases h : j = k
  · subst h
    rw [pk_us, if_pos rfl]
  · rw [pk_un h, if_neg h]
/-- an array holds these naturals below n -/
def ed_ar (a : Nat → Int32) (f : Nat → Nat) (n : Nat) : Prop := ∀ k, k < n → a k = nI (f k)
/-- an array with i places from k0 on written -/
def ed_wr (a : Nat → Int32) (k0 : Nat) (s : Nat → Int32) (i : Nat) : Nat → Int32 := fun j => if k0 ≤ j ∧ j < k0 + i then s (j - k0) else a j
theorem ed_wr_0 (a : Nat → Int32) (k0 : Nat) (s : Nat → Int32) : ed_wr a k0 s 0 = a := by
  funext j
  unfold ed_wr
  rw [if_neg (by omega)]
theorem ed_wr_lo {a : Nat → Int32} {k0 : Nat} {s : Nat → Int32} {i j : Nat} (h : j < k0) : ed_wr a k0 s i j = a j := by
  unfold ed_wr
  rw [if_neg (by omega)]
theorem ed_wr_in {a : Nat → Int32} {k0 : Nat} {s : Nat → Int32} {i k : Nat} (h : k < i) : ed_wr a k0 s i (k0 + k) = s k := by
  unfold ed_wr
  rw [if_pos (by omega), show k0 + k - k0 = k by omega]
theorem ed_wr_s (a : Nat → Int32) (k0 : Nat) (s : Nat → Int32) (i : Nat) : upd (ed_wr a k0 s i) (k0 + i) (s i) = ed_wr a k0 s (i + 1) := by
  funext j
  by_cases e : j = k0 + i
  · subst e
    rw [pk_us, ed_wr_in (by omega)]
  · rw [pk_un e]
    unfold ed_wr
    by_cases h : k0 ≤ j ∧ j < k0 + i
    · rw [if_pos h, if_pos (by omega)]
    · rw [if_neg h, if_neg (by omega)]
theorem ed_cl {n : Nat} (h : n < 2 ^ 31) : (nI n).toNatClampNeg = n := nI_clamp h
end
end
section
section
variable {vL vT vF vS vM vB vO vI vH vC : Int32} {a1 a2 a3 a4 a5 a6 a7 a8 a9 a10 a11 a12 a13 a14 a15 a16 a17 a18 a19 a20 a21 a22 a23 a24 a25 a26 : Nat → Int32}
/-- what kind a token has that begins with the character c at q, in a text of L characters -/
def ed_KR (L q c k : Nat) : Prop := c ≤ 17 ∧ (c < 5 → k = 0) ∧ (5 ≤ c → c < 10 → k = 1) ∧ (c = 10 → k = 2 ∨ (k = 3 ∧ q + 1 < L)) ∧ (10 < c → k = c - 7)
theorem ed_KR_mono {L L' q c k : Nat} (h : ed_KR L q c k) (hL : L ≤ L') : ed_KR L' q c k := by
  obtain ⟨h1, h2, h3, h4, h5⟩ := h
  refine ⟨h1, h2, h3, fun z => ?_, h5⟩
  have := h4 z
  omega
theorem ed_KR_10 {L q c k : Nat} (h : ed_KR L q c k) : k ≤ 10 := by
  obtain ⟨h1, h2, h3, h4, h5⟩ := h
  by_cases e1 : c < 5
  · have := h2 e1
    omega
  · by_cases e2 : c < 10
    · have := h3 (by omega) e2
      omega
    · by_cases e3 : c = 10
      · have := h4 e3
        omega
      · have := h5 (by omega)
        omega
theorem ed_isLetter {post : Int32 → Prop} {x : Int32} (h1 : ¬ x < 0 → ¬ 4 < x → post 1) (h0 : (x < 0 ∨ 4 < x) → post 0) : wpX_isLetter post (vL, vT, vF, vS, vM, vB, vO, vI, vH, vC, a1, a2, a3, a4, a5, a6, a7, a8, a9, a10, a11, a12, a13, a14, a15, a16, a17, a18, a19, a20, a21, a22, a23, a24, a25, a26) x :=
  br_c (fun h => h0 (Or.inl h)) (fun h => br_c (fun g => h0 (Or.inr g)) (fun g => h1 h g))
theorem ed_isDigit {post : Int32 → Prop} {x : Int32} (h1 : ¬ x < 5 → ¬ 9 < x → post 1) (h0 : (x < 5 ∨ 9 < x) → post 0) : wpX_isDigit post (vL, vT, vF, vS, vM, vB, vO, vI, vH, vC, a1, a2, a3, a4, a5, a6, a7, a8, a9, a10, a11, a12, a13, a14, a15, a16, a17, a18, a19, a20, a21, a22, a23, a24, a25, a26) x :=
  br_c (fun h => h0 (Or.inl h)) (fun h => br_c (fun g => h0 (Or.inr g)) (fun g => h1 h g))
theorem ed_at {post : Int32 → Prop} {L q : Nat} (hL : L ≤ 80) (h1 : L ≤ q → post (-1)) (h2 : q < L → post (a1 q)) (hq : q < 2 ^ 31 := by omega) : wpX_at post (nI L, vT, vF, vS, vM, vB, vO, vI, vH, vC, a1, a2, a3, a4, a5, a6, a7, a8, a9, a10, a11, a12, a13, a14, a15, a16, a17, a18, a19, a20, a21, a22, a23, a24, a25, a26) (nI q) :=
  pk_le L q h1 (fun z => ⟨pk_in q 80 (by omega), by rw [nI_clamp hq]; exact h2 z⟩)
theorem ed_ends {post : Int32 → Prop} {t : Nat} (ht : t < 81) (h0 : a2 t < 8 → post 0) (h1 : ¬ a2 t < 8 → post 1) : wpX_ends post (vL, vT, vF, vS, vM, vB, vO, vI, vH, vC, a1, a2, a3, a4, a5, a6, a7, a8, a9, a10, a11, a12, a13, a14, a15, a16, a17, a18, a19, a20, a21, a22, a23, a24, a25, a26) (nI t) := by
  have e : (nI t).toNatClampNeg = t := nI_clamp (by omega)
  refine ⟨pk_in t 81 ht, ?_⟩
  rw [e]
  exact br_c h0 h1
theorem ed_eon4 {post : Int32 → Prop} {L p : Nat} (hL : L ≤ 80) (H : ∀ q, p < q → q ≤ L → post (nI q)) : ∀ (f q i : Nat), i ≤ q → q ≤ L → L - q < f → (p < q ∨ (q = p ∧ p < L ∧ ¬ a1 p < 5 ∧ ¬ 9 < a1 p)) → wX_endOfNumber_4 post (nI L) vT vF vS vM vB vO vI vH vC a1 a2 a3 a4 a5 a6 a7 a8 a9 a10 a11 a12 a13 a14 a15 a16 a17 a18 a19 a20 a21 a22 a23 a24 a25 a26 f (nI q) (nI i) := by
  intro f
  induction f with
  | zero =>
    intro q i _ _ h
    omega
  | succ f ih =>
    intro q i hi hq hf hc
    have hpq : p ≤ q := by
      rcases hc with h | h
      · omega
      · have := h.1
        omega
    have hpl : q = L → p < q := by
      intro e
      rcases hc with h | h
      · omega
      · have := h.2.1
        omega
    refine pk_le 80 i (fun z => H q (hpl (by omega)) hq) (fun z => ?_)
    refine ed_at hL (fun h => ?_) (fun h => ?_)
    · exact ed_isDigit (fun g1 g2 => absurd (by decide) g1) (fun _ => br_t rfl (H q (hpl (by omega)) hq))
    · refine ed_isDigit (fun g1 g2 => br_f (by decide) (nm_r (nI_1 q) (nm_r (nI_1 i) (ih (q + 1) (i + 1) (by omega) (by omega) (by omega) (Or.inl (by omega)))))) (fun g => br_t rfl ?_)
      rcases hc with hc | ⟨e, _, g1, g2⟩
      · exact H q hc hq
      · subst e
        rcases g with g | g
        · exact absurd g g1
        · exact absurd g g2
theorem ed_endOfNumber {post : Int32 → Prop} {L p : Nat} (hL : L ≤ 80) (hp : p < L) (g1 : ¬ a1 p < 5) (g2 : ¬ 9 < a1 p) (H : ∀ q, p < q → q ≤ L → post (nI q)) : wpX_endOfNumber post (nI L, vT, vF, vS, vM, vB, vO, vI, vH, vC, a1, a2, a3, a4, a5, a6, a7, a8, a9, a10, a11, a12, a13, a14, a15, a16, a17, a18, a19, a20, a21, a22, a23, a24, a25, a26) (nI p) :=
  ⟨L + 1, ed_eon4 hL H (L + 1) p 0 (by omega) (by omega) (by omega) (Or.inr ⟨rfl, hp, g1, g2⟩)⟩
theorem ed_eoa4 {post : Int32 → Prop} {L p : Nat} (hL : L ≤ 80) (H : ∀ q, p < q → q ≤ L → post (nI q)) : ∀ (f q i : Nat), i ≤ q → q ≤ L → L - q < f → (p < q ∨ (q = p ∧ p < L ∧ ¬ a1 p < 0 ∧ ¬ 4 < a1 p)) → wX_endOfName_4 post (nI L) vT vF vS vM vB vO vI vH vC a1 a2 a3 a4 a5 a6 a7 a8 a9 a10 a11 a12 a13 a14 a15 a16 a17 a18 a19 a20 a21 a22 a23 a24 a25 a26 f (nI q) (nI i) := by
  intro f
  induction f with
  | zero =>
    intro q i _ _ h
    omega
  | succ f ih =>
    intro q i hi hq hf hc
    have hpq : p ≤ q := by
      rcases hc with h | h
      · omega
      · have := h.1
        omega
    have hpl : q = L → p < q := by
      intro e
      rcases hc with h | h
      · omega
      · have := h.2.1
        omega
    refine pk_le 80 i (fun z => H q (hpl (by omega)) hq) (fun z => ?_)
    refine ed_at hL (fun h => ?_) (fun h => ?_)
    · refine ed_isLetter (fun g1 g2 => absurd (by decide) g1) (fun _ => br_t rfl ?_)
      refine ed_at hL (fun _ => ?_) (fun h' => absurd h' (by omega))
      exact ed_isDigit (fun g1 g2 => absurd (by decide) g1) (fun _ => br_t rfl (H q (hpl (by omega)) hq))
    · have go : wX_endOfName_4 post (nI L) vT vF vS vM vB vO vI vH vC a1 a2 a3 a4 a5 a6 a7 a8 a9 a10 a11 a12 a13 a14 a15 a16 a17 a18 a19 a20 a21 a22 a23 a24 a25 a26 f (nI (q + 1)) (nI (i + 1)) := ih (q + 1) (i + 1) (by omega) (by omega) (by omega) (Or.inl (by omega))
      refine ed_isLetter (fun g1 g2 => br_f (by decide) (nm_r (nI_1 q) (nm_r (nI_1 i) go))) (fun g => br_t rfl ?_)
      refine ed_at hL (fun h' => absurd h' (by omega)) (fun _ => ?_)
      refine ed_isDigit (fun g1 g2 => br_f (by decide) (nm_r (nI_1 q) (nm_r (nI_1 i) go))) (fun g' => br_t rfl ?_)
      rcases hc with hc | ⟨e, _, g1, g2⟩
      · exact H q hc hq
      · subst e
        rcases g with g | g
        · exact absurd g g1
        · exact absurd g g2
theorem ed_endOfName {post : Int32 → Prop} {L p : Nat} (hL : L ≤ 80) (hp : p < L) (g1 : ¬ a1 p < 0) (g2 : ¬ 4 < a1 p) (H : ∀ q, p < q → q ≤ L → post (nI q)) : wpX_endOfName post (nI L, vT, vF, vS, vM, vB, vO, vI, vH, vC, a1, a2, a3, a4, a5, a6, a7, a8, a9, a10, a11, a12, a13, a14, a15, a16, a17, a18, a19, a20, a21, a22, a23, a24, a25, a26) (nI p) :=
  ⟨L + 1, ed_eoa4 hL H (L + 1) p 0 (by omega) (by omega) (by omega) (Or.inr ⟨rfl, hp, g1, g2⟩)⟩
theorem ed_rt98 {post : Int32 → St2 → Prop} {F q e k : Nat} (hF : F < 81) (hq : q ≤ e) (H : post (nI e) (vL, vT, nI (F+1), vS, vM, vB, vO, vI, vH, vC, a1, a2, a3, a4, a5, a6, a7, upd a8 F (nI k), upd a9 F (nI q), upd a10 F (nI (e-q)), a11, a12, a13, a14, a15, a16, a17, a18, a19, a20, a21, a22, a23, a24, a25, a26)) : wX_readToken_98 post (nI q) (nI e) (nI k) vL vT (nI F) vS vM vB vO vI vH vC a1 a2 a3 a4 a5 a6 a7 a8 a9 a10 a11 a12 a13 a14 a15 a16 a17 a18 a19 a20 a21 a22 a23 a24 a25 a26 := by
  have eF : (nI F).toNatClampNeg = F := nI_clamp (by omega)
  refine ⟨pk_in F 81 hF, nm_r (e' := upd a8 F (nI k)) (by rw [eF]) ⟨pk_in F 81 hF, nm_r (e' := upd a9 F (nI q)) (by rw [eF]) ⟨pk_in F 81 hF, nm_r (e' := upd a10 F (nI (e - q))) (by rw [eF, pk_sub hq]) (nm_r (nI_1 F) H)⟩⟩⟩
theorem ed_readToken {post : Int32 → St2 → Prop} {L F q c : Nat} (hL : L ≤ 80) (hq : q < L) (hc : a1 q = nI c) (h17 : c ≤ 17) (hF : F < 81) (H : ∀ e k, q < e → e ≤ L → ed_KR L q c k → post (nI e) (nI L, vT, nI (F+1), vS, vM, vB, vO, vI, vH, vC, a1, a2, a3, a4, a5, a6, a7, upd a8 F (nI k), upd a9 F (nI q), upd a10 F (nI (e-q)), a11, a12, a13, a14, a15, a16, a17, a18, a19, a20, a21, a22, a23, a24, a25, a26)) : wpX_readToken post (nI L, vT, nI F, vS, vM, vB, vO, vI, vH, vC, a1, a2, a3, a4, a5, a6, a7, a8, a9, a10, a11, a12, a13, a14, a15, a16, a17, a18, a19, a20, a21, a22, a23, a24, a25, a26) (nI q) := by
  have eq : (nI q).toNatClampNeg = q := nI_clamp (by omega)
  have go : ∀ e k, q < e → e ≤ L → ed_KR L q c k → wX_readToken_98 post (nI q) (nI e) (nI k) (nI L) vT (nI F) vS vM vB vO vI vH vC a1 a2 a3 a4 a5 a6 a7 a8 a9 a10 a11 a12 a13 a14 a15 a16 a17 a18 a19 a20 a21 a22 a23 a24 a25 a26 := fun e k h1 h2 h3 => ed_rt98 hF (by omega) (H e k h1 h2 h3)
  refine ⟨pk_in q 80 (by omega), nm_r (e' := nI c) (by rw [eq, hc]) (nm_r (nI_1 q) (nm_e ?_))⟩
  refine ed_isLetter (fun g1 g2 => br_f (by decide) ?_) (fun g => br_t rfl ?_)
  · have g3 : ¬ 4 < c := fun z => g2 (nI_lt (a := 4) z (by omega))
    refine ed_endOfName hL hq (by rw [hc]; exact g1) (by rw [hc]; exact g2) (fun e h1 h2 => go e 0 h1 h2 ⟨h17, fun _ => rfl, fun z => absurd z (by omega), fun z => absurd z (by omega), fun z => absurd z (by omega)⟩)
  · have g3 : 4 < c := by
      rcases g with g | g
      · exact absurd g (nI_pos (by omega))
      · exact (nI_ltI (a := 4) (by omega) (by omega)).mp g
    refine ed_isDigit (fun g1 g2 => br_f (by decide) ?_) (fun g' => br_t rfl ?_)
    · have g4 : ¬ 9 < c := fun z => g2 (nI_lt (a := 9) z (by omega))
      refine ed_endOfNumber hL hq (by rw [hc]; exact g1) (by rw [hc]; exact g2) (fun e h1 h2 => go e 1 h1 h2 ⟨h17, fun z => absurd z (by omega), fun _ _ => rfl, fun z => absurd z (by omega), fun z => absurd z (by omega)⟩)
    · have g4 : 9 < c := by
        rcases g' with g' | g'
        · exact absurd ((nI_ltI (b := 5) (by omega) (by omega)).mp g') (by omega)
        · exact (nI_ltI (a := 9) (by omega) (by omega)).mp g'
      refine pk_eq c 10 (fun z => ?_) (fun z => ?_)
      · have K2 : wX_readToken_80 post (nI q) (nI 2) (nI L) vT (nI F) vS vM vB vO vI vH vC a1 a2 a3 a4 a5 a6 a7 a8 a9 a10 a11 a12 a13 a14 a15 a16 a17 a18 a19 a20 a21 a22 a23 a24 a25 a26 := br_f (by decide) (by
          have := go (q + 1) 2 (by omega) (by omega) ⟨h17, fun w => absurd w (by omega), fun _ w => absurd w (by omega), fun _ => Or.inl rfl, fun w => absurd w (by omega)⟩
          rw [← nI_1] at this
          exact this)
        have K3 : q + 1 < L → wX_readToken_80 post (nI q) (nI 3) (nI L) vT (nI F) vS vM vB vO vI vH vC a1 a2 a3 a4 a5 a6 a7 a8 a9 a10 a11 a12 a13 a14 a15 a16 a17 a18 a19 a20 a21 a22 a23 a24 a25 a26 := fun hq1 => br_t (by decide) (by
          have := go (q + 2) 3 (by omega) (by omega) ⟨h17, fun w => absurd w (by omega), fun _ w => absurd w (by omega), fun _ => Or.inr ⟨rfl, hq1⟩, fun w => absurd w (by omega)⟩
          rw [← nI_add q 2] at this
          exact this)
        rw [nI_1 q]
        refine ed_at hL (fun h => br_f (by decide) K2) (fun h => br_c (fun _ => K3 h) (fun _ => K2))
      · have := go (q + 1) (c - 7) (by omega) (by omega) ⟨h17, fun w => absurd w (by omega), fun _ w => absurd w (by omega), fun w => absurd w z, fun _ => rfl⟩
        rw [← pk_sub (show 7 ≤ c by omega)] at this
        exact this
theorem ed_tf5 {post : Int32 → Prop} {x : Int32} {T o : Nat} (hT : T ≤ 80) (H : ∀ r, o ≤ r → r ≤ T → post (nI r)) : ∀ (f r i : Nat), o ≤ r → r ≤ T → i ≤ r → T - r < f → wX_tokenFrom_5 post x vL (nI T) vF vS vM vB vO vI vH vC a1 a2 a3 a4 a5 a6 a7 a8 a9 a10 a11 a12 a13 a14 a15 a16 a17 a18 a19 a20 a21 a22 a23 a24 a25 a26 f (nI r) (nI i) := by
  intro f
  induction f with
  | zero =>
    intro r i _ _ _ h
    omega
  | succ f ih =>
    intro r i h1 h2 hi hf
    refine pk_le 81 i (fun z => H r h1 h2) (fun z => pk_le T r (fun w => H r h1 h2) (fun w => ⟨pk_in r 81 (by omega), br_c (fun _ => H r h1 h2) (fun _ => nm_r (nI_1 r) (nm_r (nI_1 i) (ih (r + 1) (i + 1) (by omega) (by omega) (by omega) (by omega))))⟩))
theorem ed_tokenFrom {post : Int32 → Prop} {x : Int32} {T o : Nat} (hT : T ≤ 80) (ho : o ≤ T) (H : ∀ r, o ≤ r → r ≤ T → post (nI r)) : wpX_tokenFrom post (vL, nI T, vF, vS, vM, vB, vO, vI, vH, vC, a1, a2, a3, a4, a5, a6, a7, a8, a9, a10, a11, a12, a13, a14, a15, a16, a17, a18, a19, a20, a21, a22, a23, a24, a25, a26) (nI o) x :=
  ⟨T + 1, ed_tf5 hT H (T + 1) o 0 (by omega) ho (by omega) (by omega)⟩
end
end
section
section
variable {vL vT vF vS vM vB vO vI vH vC : Int32} {a1 a2 a3 a4 a5 a6 a7 a8 a9 a10 a11 a12 a13 a14 a15 a16 a17 a18 a19 a20 a21 a22 a23 a24 a25 a26 : Nat → Int32}
theorem ed_moveToken {post : St2 → Prop} {i j : Nat} (hi : i < 81) (hj : j < 81) (H : ∀ b2 b3 b4 b5 b6 b7 : Nat → Int32, post (vL, vT, vF, vS, vM, vB, vO, vI, vH, vC, a1, b2, b3, b4, b5, b6, b7, a8, a9, a10, a11, a12, a13, a14, a15, a16, a17, a18, a19, a20, a21, a22, a23, a24, a25, a26)) : wpX_moveToken post (vL, vT, vF, vS, vM, vB, vO, vI, vH, vC, a1, a2, a3, a4, a5, a6, a7, a8, a9, a10, a11, a12, a13, a14, a15, a16, a17, a18, a19, a20, a21, a22, a23, a24, a25, a26) (nI i) (nI j) :=
  ⟨pk_in i 81 hi, pk_in j 81 hj, nm_e ⟨pk_in i 81 hi, pk_in j 81 hj, nm_e ⟨pk_in i 81 hi, pk_in j 81 hj, nm_e ⟨pk_in i 81 hi, pk_in j 81 hj, nm_e ⟨pk_in i 81 hi, pk_in j 81 hj, nm_e ⟨pk_in i 81 hi, pk_in j 81 hj, nm_e (H _ _ _ _ _ _)⟩⟩⟩⟩⟩⟩
theorem ed_mt52 {post : St2 → Prop} {p q m : Nat} (hp : p + m ≤ 81) (hq : q + m ≤ 81) (H : ∀ b2 b3 b4 b5 b6 b7 : Nat → Int32, post (vL, nI (q+m), vF, vS, vM, vB, vO, vI, vH, vC, a1, b2, b3, b4, b5, b6, b7, a8, a9, a10, a11, a12, a13, a14, a15, a16, a17, a18, a19, a20, a21, a22, a23, a24, a25, a26)) : ∀ (k : Nat) (a2 a3 a4 a5 a6 a7 : Nat → Int32), k ≤ m → wX_moveTokens_52 post (nI p) (nI q) (nI m) (k + 1) (nI k - 1) vL vT vF vS vM vB vO vI vH vC a1 a2 a3 a4 a5 a6 a7 a8 a9 a10 a11 a12 a13 a14 a15 a16 a17 a18 a19 a20 a21 a22 a23 a24 a25 a26 := by
  intro k
  induction k with
  | zero =>
    intro a2 a3 a4 a5 a6 a7 _
    exact br_t (by decide) (nm_r (nI_add q m) (H _ _ _ _ _ _))
  | succ k ih =>
    intro a2 a3 a4 a5 a6 a7 hk
    rw [nI_pred]
    refine br_f (nI_pos (by omega)) ?_
    rw [nI_add p k, nI_add q k]
    exact ed_moveToken (by omega) (by omega) (fun b2 b3 b4 b5 b6 b7 => nm_r (e' := nI k - 1) (by rw [Int32.sub_eq_add_neg]) (ih b2 b3 b4 b5 b6 b7 (by omega)))
theorem ed_mt15 {post : St2 → Prop} {p q m : Nat} (hp : p + m ≤ 81) (hq : q + m ≤ 81) (H : ∀ b2 b3 b4 b5 b6 b7 : Nat → Int32, post (vL, nI (q+m), vF, vS, vM, vB, vO, vI, vH, vC, a1, b2, b3, b4, b5, b6, b7, a8, a9, a10, a11, a12, a13, a14, a15, a16, a17, a18, a19, a20, a21, a22, a23, a24, a25, a26)) : ∀ (d k : Nat) (a2 a3 a4 a5 a6 a7 : Nat → Int32), k + d = m → wX_moveTokens_15 post (nI p) (nI q) (nI m) (d + 1) (nI k) vL vT vF vS vM vB vO vI vH vC a1 a2 a3 a4 a5 a6 a7 a8 a9 a10 a11 a12 a13 a14 a15 a16 a17 a18 a19 a20 a21 a22 a23 a24 a25 a26 := by
  intro d
  induction d with
  | zero =>
    intro k a2 a3 a4 a5 a6 a7 h
    exact pk_le m k (fun _ => nm_r (nI_add q m) (H _ _ _ _ _ _)) (fun z => absurd z (by omega))
  | succ d ih =>
    intro k a2 a3 a4 a5 a6 a7 h
    refine pk_le m k (fun z => absurd z (by omega)) (fun _ => ?_)
    rw [nI_add p k, nI_add q k]
    exact ed_moveToken (by omega) (by omega) (fun b2 b3 b4 b5 b6 b7 => nm_r (nI_1 k) (ih (k + 1) b2 b3 b4 b5 b6 b7 (by omega)))
theorem ed_moveTokens {post : St2 → Prop} {p q m : Nat} (hp : p + m ≤ 81) (hq : q + m ≤ 81) (H : ∀ b2 b3 b4 b5 b6 b7 : Nat → Int32, (m = 0 → b2 = a2 ∧ b3 = a3 ∧ b4 = a4 ∧ b6 = a6) → post (vL, nI (q+m), vF, vS, vM, vB, vO, vI, vH, vC, a1, b2, b3, b4, b5, b6, b7, a8, a9, a10, a11, a12, a13, a14, a15, a16, a17, a18, a19, a20, a21, a22, a23, a24, a25, a26)) : wpX_moveTokens post (vL, nI (p+m), vF, vS, vM, vB, vO, vI, vH, vC, a1, a2, a3, a4, a5, a6, a7, a8, a9, a10, a11, a12, a13, a14, a15, a16, a17, a18, a19, a20, a21, a22, a23, a24, a25, a26) (nI p) (nI q) := by
  refine nm_r (e' := nI m) (by rw [pk_sub (by omega), show p + m - p = m by omega]) ?_
  by_cases hm : m = 0
  · subst hm
    have K := H a2 a3 a4 a5 a6 a7 (fun _ => ⟨rfl, rfl, rfl, rfl⟩)
    refine pk_le p q (fun _ => pk_le q p (fun _ => nm_r (nI_add q 0) K) (fun _ => nm_e ⟨1, br_t (by decide) (nm_r (nI_add q 0) K)⟩)) (fun _ => ⟨1, pk_le 0 0 (fun _ => nm_r (nI_add q 0) K) (fun z => absurd z (by omega))⟩)
  · have K : ∀ b2 b3 b4 b5 b6 b7 : Nat → Int32, post (vL, nI (q+m), vF, vS, vM, vB, vO, vI, vH, vC, a1, b2, b3, b4, b5, b6, b7, a8, a9, a10, a11, a12, a13, a14, a15, a16, a17, a18, a19, a20, a21, a22, a23, a24, a25, a26) := fun b2 b3 b4 b5 b6 b7 => H b2 b3 b4 b5 b6 b7 (fun z => absurd z hm)
    refine pk_le p q (fun _ => pk_le q p (fun _ => nm_r (nI_add q m) (K _ _ _ _ _ _)) (fun _ => nm_e ⟨m + 1, ed_mt52 hp hq K m a2 a3 a4 a5 a6 a7 (by omega)⟩)) (fun _ => ⟨m + 1, ed_mt15 hp hq K m 0 a2 a3 a4 a5 a6 a7 (by omega)⟩)
theorem ed_moveStretch {post : St2 → Prop} {i j : Nat} (hi : i < 82) (hj : j < 82) (H : ∀ b11 b12 b13 b14 b15 b16 b18 b19 b20 b21 : Nat → Int32, post (vL, vT, vF, vS, vM, vB, vO, vI, vH, vC, a1, a2, a3, a4, a5, a6, a7, a8, a9, a10, b11, b12, b13, b14, b15, b16, a17, b18, b19, b20, b21, a22, a23, a24, a25, a26)) : wpX_moveStretch post (vL, vT, vF, vS, vM, vB, vO, vI, vH, vC, a1, a2, a3, a4, a5, a6, a7, a8, a9, a10, a11, a12, a13, a14, a15, a16, a17, a18, a19, a20, a21, a22, a23, a24, a25, a26) (nI i) (nI j) :=
  ⟨pk_in i 82 hi, pk_in j 82 hj, nm_e ⟨pk_in i 82 hi, pk_in j 82 hj, nm_e ⟨pk_in i 82 hi, pk_in j 82 hj, nm_e ⟨pk_in i 82 hi, pk_in j 82 hj, nm_e ⟨pk_in i 82 hi, pk_in j 82 hj, nm_e ⟨pk_in i 82 hi, pk_in j 82 hj, nm_e ⟨pk_in i 82 hi, pk_in j 82 hj, nm_e ⟨pk_in i 82 hi, pk_in j 82 hj, nm_e ⟨pk_in i 82 hi, pk_in j 82 hj, nm_e ⟨pk_in i 82 hi, pk_in j 82 hj, nm_e (H _ _ _ _ _ _ _ _ _ _)⟩⟩⟩⟩⟩⟩⟩⟩⟩⟩
theorem ed_ms52 {post : St2 → Prop} {p q m : Nat} (hp : p + m ≤ 82) (hq : q + m ≤ 82) (H : ∀ b11 b12 b13 b14 b15 b16 b18 b19 b20 b21 : Nat → Int32, post (vL, vT, vF, nI (q+m), vM, vB, vO, vI, vH, vC, a1, a2, a3, a4, a5, a6, a7, a8, a9, a10, b11, b12, b13, b14, b15, b16, a17, b18, b19, b20, b21, a22, a23, a24, a25, a26)) : ∀ (k : Nat) (a11 a12 a13 a14 a15 a16 a18 a19 a20 a21 : Nat → Int32), k ≤ m → wX_moveStretches_52 post (nI p) (nI q) (nI m) (k + 1) (nI k - 1) vL vT vF vS vM vB vO vI vH vC a1 a2 a3 a4 a5 a6 a7 a8 a9 a10 a11 a12 a13 a14 a15 a16 a17 a18 a19 a20 a21 a22 a23 a24 a25 a26 := by
  intro k
  induction k with
  | zero =>
    intro a11 a12 a13 a14 a15 a16 a18 a19 a20 a21 _
    exact br_t (by decide) (nm_r (nI_add q m) (H _ _ _ _ _ _ _ _ _ _))
  | succ k ih =>
    intro a11 a12 a13 a14 a15 a16 a18 a19 a20 a21 hk
    rw [nI_pred]
    refine br_f (nI_pos (by omega)) ?_
    rw [nI_add p k, nI_add q k]
    exact ed_moveStretch (by omega) (by omega) (fun b11 b12 b13 b14 b15 b16 b18 b19 b20 b21 => nm_r (e' := nI k - 1) (by rw [Int32.sub_eq_add_neg]) (ih b11 b12 b13 b14 b15 b16 b18 b19 b20 b21 (by omega)))
theorem ed_ms15 {post : St2 → Prop} {p q m : Nat} (hp : p + m ≤ 82) (hq : q + m ≤ 82) (H : ∀ b11 b12 b13 b14 b15 b16 b18 b19 b20 b21 : Nat → Int32, post (vL, vT, vF, nI (q+m), vM, vB, vO, vI, vH, vC, a1, a2, a3, a4, a5, a6, a7, a8, a9, a10, b11, b12, b13, b14, b15, b16, a17, b18, b19, b20, b21, a22, a23, a24, a25, a26)) : ∀ (d k : Nat) (a11 a12 a13 a14 a15 a16 a18 a19 a20 a21 : Nat → Int32), k + d = m → wX_moveStretches_15 post (nI p) (nI q) (nI m) (d + 1) (nI k) vL vT vF vS vM vB vO vI vH vC a1 a2 a3 a4 a5 a6 a7 a8 a9 a10 a11 a12 a13 a14 a15 a16 a17 a18 a19 a20 a21 a22 a23 a24 a25 a26 := by
  intro d
  induction d with
  | zero =>
    intro k a11 a12 a13 a14 a15 a16 a18 a19 a20 a21 h
    exact pk_le m k (fun _ => nm_r (nI_add q m) (H _ _ _ _ _ _ _ _ _ _)) (fun z => absurd z (by omega))
  | succ d ih =>
    intro k a11 a12 a13 a14 a15 a16 a18 a19 a20 a21 h
    refine pk_le m k (fun z => absurd z (by omega)) (fun _ => ?_)
    rw [nI_add p k, nI_add q k]
    exact ed_moveStretch (by omega) (by omega) (fun b11 b12 b13 b14 b15 b16 b18 b19 b20 b21 => nm_r (nI_1 k) (ih (k + 1) b11 b12 b13 b14 b15 b16 b18 b19 b20 b21 (by omega)))
theorem ed_moveStretches {post : St2 → Prop} {p q m : Nat} (hp : p + m ≤ 82) (hq : q + m ≤ 82) (H : ∀ b11 b12 b13 b14 b15 b16 b18 b19 b20 b21 : Nat → Int32, (m = 0 → b11 = a11 ∧ b12 = a12 ∧ b13 = a13 ∧ b16 = a16) → post (vL, vT, vF, nI (q+m), vM, vB, vO, vI, vH, vC, a1, a2, a3, a4, a5, a6, a7, a8, a9, a10, b11, b12, b13, b14, b15, b16, a17, b18, b19, b20, b21, a22, a23, a24, a25, a26)) : wpX_moveStretches post (vL, vT, vF, nI (p+m), vM, vB, vO, vI, vH, vC, a1, a2, a3, a4, a5, a6, a7, a8, a9, a10, a11, a12, a13, a14, a15, a16, a17, a18, a19, a20, a21, a22, a23, a24, a25, a26) (nI p) (nI q) := by
  refine nm_r (e' := nI m) (by rw [pk_sub (by omega), show p + m - p = m by omega]) ?_
  by_cases hm : m = 0
  · subst hm
    have K := H a11 a12 a13 a14 a15 a16 a18 a19 a20 a21 (fun _ => ⟨rfl, rfl, rfl, rfl⟩)
    refine pk_le p q (fun _ => pk_le q p (fun _ => nm_r (nI_add q 0) K) (fun _ => nm_e ⟨1, br_t (by decide) (nm_r (nI_add q 0) K)⟩)) (fun _ => ⟨1, pk_le 0 0 (fun _ => nm_r (nI_add q 0) K) (fun z => absurd z (by omega))⟩)
  · have K : ∀ b11 b12 b13 b14 b15 b16 b18 b19 b20 b21 : Nat → Int32, post (vL, vT, vF, nI (q+m), vM, vB, vO, vI, vH, vC, a1, a2, a3, a4, a5, a6, a7, a8, a9, a10, b11, b12, b13, b14, b15, b16, a17, b18, b19, b20, b21, a22, a23, a24, a25, a26) := fun b11 b12 b13 b14 b15 b16 b18 b19 b20 b21 => H b11 b12 b13 b14 b15 b16 b18 b19 b20 b21 (fun z => absurd z hm)
    refine pk_le p q (fun _ => pk_le q p (fun _ => nm_r (nI_add q m) (K _ _ _ _ _ _ _ _ _ _)) (fun _ => nm_e ⟨m + 1, ed_ms52 hp hq K m a11 a12 a13 a14 a15 a16 a18 a19 a20 a21 (by omega)⟩)) (fun _ => ⟨m + 1, ed_ms15 hp hq K m 0 a11 a12 a13 a14 a15 a16 a18 a19 a20 a21 (by omega)⟩)
theorem ed_newStretch {post : St2 → Prop} {g : Nat} {x y z : Int32} (hg : g < 82) (H : ∀ (m : Int32) (b18 b21 : Nat → Int32), post (vL, vT, vF, vS, m, vB, vO, vI, vH, vC, a1, a2, a3, a4, a5, a6, a7, a8, a9, a10, upd a11 g x, upd a12 g y, upd a13 g z, a14, a15, upd a16 g 0, a17, b18, a19, a20, b21, a22, a23, a24, a25, a26)) : wpX_newStretch post (vL, vT, vF, vS, vM, vB, vO, vI, vH, vC, a1, a2, a3, a4, a5, a6, a7, a8, a9, a10, a11, a12, a13, a14, a15, a16, a17, a18, a19, a20, a21, a22, a23, a24, a25, a26) (nI g) x y z := by
  have e : (nI g).toNatClampNeg = g := nI_clamp (by omega)
  exact ⟨pk_in g 82 hg, nm_r (e' := upd a11 g x) (by rw [e]) ⟨pk_in g 82 hg, nm_r (e' := upd a12 g y) (by rw [e]) ⟨pk_in g 82 hg, nm_r (e' := upd a13 g z) (by rw [e]) ⟨pk_in g 82 hg, nm_r (e' := upd a16 g 0) (by rw [e]) ⟨pk_in g 82 hg, nm_e (nm_e ⟨pk_in g 82 hg, nm_e (H _ _ _)⟩)⟩⟩⟩⟩⟩
theorem ed_sw4 {post : Int32 → Prop} {S t : Nat} {fi si : Nat → Nat} (h11 : ed_ar a11 fi S) (h12 : ed_ar a12 si S) (hS : S ≤ 80) (ht : t ≤ 1000) (hb : ∀ g, g < S → fi g + si g ≤ 1000) (H : ∀ g, g < S → (∀ j, j < g → fi j + si j < t) → (g + 1 = S ∨ t ≤ fi g + si g) → post (nI g)) : ∀ (f g : Nat), g < S → (∀ j, j < g → fi j + si j < t) → S - g < f → wX_stretchWith_4 post (nI t) vL vT vF (nI S) vM vB vO vI vH vC a1 a2 a3 a4 a5 a6 a7 a8 a9 a10 a11 a12 a13 a14 a15 a16 a17 a18 a19 a20 a21 a22 a23 a24 a25 a26 f (nI g) (nI g) := by
  intro f
  induction f with
  | zero =>
    intro g _ _ h
    omega
  | succ f ih =>
    intro g hg hj hf
    have hbg := hb g hg
    refine pk_le 81 g (fun z => absurd z (by omega)) (fun _ => pk_le S (g + 1) (fun z => H g hg hj (Or.inl (by omega))) (fun z => ⟨pk_in g 82 (by omega), pk_in g 82 (by omega), pk_le t (fi g + si g) (fun w => H g hg hj (Or.inr w)) (fun w => nm_r (nI_1 g) (nm_r (nI_1 g) (ih (g + 1) (by omega) (lt_s hj w) (by omega)))) rfl (by rw [nI_clamp (by omega), h11 g hg, h12 g hg, nI_add])⟩) rfl (nI_1 g))
theorem ed_stretchWith {post : Int32 → Prop} {S t : Nat} {fi si : Nat → Nat} (h11 : ed_ar a11 fi S) (h12 : ed_ar a12 si S) (h1 : 1 ≤ S) (hS : S ≤ 80) (ht : t ≤ 1000) (hb : ∀ g, g < S → fi g + si g ≤ 1000) (H : ∀ g, g < S → (∀ j, j < g → fi j + si j < t) → (g + 1 = S ∨ t ≤ fi g + si g) → post (nI g)) : wpX_stretchWith post (vL, vT, vF, nI S, vM, vB, vO, vI, vH, vC, a1, a2, a3, a4, a5, a6, a7, a8, a9, a10, a11, a12, a13, a14, a15, a16, a17, a18, a19, a20, a21, a22, a23, a24, a25, a26) (nI t) :=
  ⟨S + 1, ed_sw4 h11 h12 hS ht hb H (S + 1) 0 h1 lt_0 (by omega)⟩
end
end
section
section
variable {vL vT vF vS vM vB vO vI vH vC : Int32} {a1 a2 a3 a4 a5 a6 a7 a8 a9 a10 a11 a12 a13 a14 a15 a16 a17 a18 a19 a20 a21 a22 a23 a24 a25 a26 : Nat → Int32}
/-- the first end from b on, or T -/
def ed_nx (a2 : Nat → Int32) (T : Nat) : Nat → Nat → Nat
  | 0, b => b
  | f + 1, b => if T ≤ b then b else if a2 b < 8 then ed_nx a2 T f (b + 1) else b
/-- where the i-th new stretch begins -/
def ed_bg (a2 : Nat → Int32) (T fr : Nat) : Nat → Nat
  | 0 => fr
  | i + 1 => ed_nx a2 T 81 (ed_bg a2 T fr i) + 1
def ed_ek (a2 : Nat → Int32) (T t : Nat) : Int32 := if T ≤ t then -1 else a2 t
def ed_sF (a2 : Nat → Int32) (T fr : Nat) (i : Nat) : Int32 := nI (ed_bg a2 T fr i)
def ed_sZ (a2 : Nat → Int32) (T fr : Nat) (i : Nat) : Int32 := nI (ed_nx a2 T 81 (ed_bg a2 T fr i) - ed_bg a2 T fr i)
def ed_sE (a2 : Nat → Int32) (T fr : Nat) (i : Nat) : Int32 := ed_ek a2 T (ed_nx a2 T 81 (ed_bg a2 T fr i))
def ed_zr (_ : Nat) : Int32 := 0
/-- how many ends stand in n places from lo on -/
def ed_ec (a2 : Nat → Int32) (lo : Nat) : Nat → Nat
  | 0 => 0
  | n + 1 => ed_ec a2 lo n + (if a2 (lo + n) < 8 then 0 else 1)
theorem ed_ec_le (a2 : Nat → Int32) (lo n : Nat) : ed_ec a2 lo n ≤ n := by
  induction n with
  | zero => exact Nat.le_refl 0
  | succ n ih =>
    unfold ed_ec
    split <;> omega
theorem ed_nx_in (a2 : Nat → Int32) (T : Nat) : ∀ f b, b ≤ ed_nx a2 T f b ∧ (ed_nx a2 T f b = b ∨ ed_nx a2 T f b ≤ T) := by
  intro f
  induction f with
  | zero =>
    intro b
    exact ⟨Nat.le_refl b, Or.inl rfl⟩
  | succ f ih =>
    intro b
    unfold ed_nx
    have h := ih (b + 1)
    by_cases h1 : T ≤ b
    · rw [if_pos h1]
      exact ⟨Nat.le_refl b, Or.inl rfl⟩
    · rw [if_neg h1]
      by_cases h2 : a2 b < 8
      · rw [if_pos h2]
        omega
      · rw [if_neg h2]
        exact ⟨Nat.le_refl b, Or.inl rfl⟩
theorem ed_bg_le (a2 : Nat → Int32) (T fr : Nat) : ∀ i, ed_bg a2 T fr i ≤ fr + T + i := by
  intro i
  induction i with
  | zero =>
    show fr ≤ fr + T + 0
    omega
  | succ i ih =>
    show ed_nx a2 T 81 (ed_bg a2 T fr i) + 1 ≤ fr + T + (i + 1)
    have h := ed_nx_in a2 T 81 (ed_bg a2 T fr i)
    omega
theorem ed_rs151 {post : St2 → Prop} {J : Int32 → Int32 → Int32 → Int32 → Int32 → Int32 → Int32 → Int32 → Int32 → Int32 → Int32 → Int32 → Int32 → (Nat → Int32) → (Nat → Int32) → (Nat → Int32) → (Nat → Int32) → (Nat → Int32) → (Nat → Int32) → (Nat → Int32) → (Nat → Int32) → (Nat → Int32) → (Nat → Int32) → (Nat → Int32) → (Nat → Int32) → (Nat → Int32) → (Nat → Int32) → (Nat → Int32) → (Nat → Int32) → (Nat → Int32) → (Nat → Int32) → (Nat → Int32) → (Nat → Int32) → (Nat → Int32) → (Nat → Int32) → (Nat → Int32) → (Nat → Int32) → (Nat → Int32) → (Nat → Int32) → Prop} {x7 x8 x9 x10 : Int32} {T : Nat} (hT : T ≤ 80) : ∀ (f i b : Nat), i + f = 81 → b ≤ 1000 + i → wX_replaceStretches_185 post J x7 x8 x9 x10 (nI (ed_nx a2 T f b)) vL (nI T) vF vS vM vB vO vI vH vC a1 a2 a3 a4 a5 a6 a7 a8 a9 a10 a11 a12 a13 a14 a15 a16 a17 a18 a19 a20 a21 a22 a23 a24 a25 a26 → wX_replaceStretches_151 post J x7 x8 x9 x10 vL (nI T) vF vS vM vB vO vI vH vC a1 a2 a3 a4 a5 a6 a7 a8 a9 a10 a11 a12 a13 a14 a15 a16 a17 a18 a19 a20 a21 a22 a23 a24 a25 a26 (f + 1) (nI b) (nI i) := by
  intro f
  induction f with
  | zero =>
    intro i b hi hb h
    exact pk_le 81 i (fun _ => h) (fun z => absurd z (by omega))
  | succ f ih =>
    intro i b hi hb h
    unfold ed_nx at h
    refine pk_le 81 i (fun z => absurd z (by omega)) (fun _ => pk_le T b (fun z => ?_) (fun z => ?_))
    · rw [if_pos z] at h
      exact h
    · rw [if_neg (by omega)] at h
      refine ed_ends (by omega) (fun g => ?_) (fun g => ?_)
      · rw [if_pos g] at h
        exact br_t rfl (nm_r (nI_1 b) (nm_r (nI_1 i) (ih (i + 1) (b + 1) (by omega) (by omega) h)))
      · rw [if_neg g] at h
        exact br_f (by decide) h
theorem ed_rs185 {post : St2 → Prop} {J : Int32 → Int32 → Int32 → Int32 → Int32 → Int32 → Int32 → Int32 → Int32 → Int32 → Int32 → Int32 → Int32 → (Nat → Int32) → (Nat → Int32) → (Nat → Int32) → (Nat → Int32) → (Nat → Int32) → (Nat → Int32) → (Nat → Int32) → (Nat → Int32) → (Nat → Int32) → (Nat → Int32) → (Nat → Int32) → (Nat → Int32) → (Nat → Int32) → (Nat → Int32) → (Nat → Int32) → (Nat → Int32) → (Nat → Int32) → (Nat → Int32) → (Nat → Int32) → (Nat → Int32) → (Nat → Int32) → (Nat → Int32) → (Nat → Int32) → (Nat → Int32) → (Nat → Int32) → (Nat → Int32) → Prop} {x7 : Int32} {g b i t T : Nat} (hT : T ≤ 80) (hg : g < 82) (hbt : b ≤ t) (ht : t ≤ 2000) (H : ∀ (m : Int32) (b18 b21 : Nat → Int32), J (nI (g + 1)) (nI (t + 1)) (nI (i + 1)) vL (nI T) vF vS m vB vO vI vH vC a1 a2 a3 a4 a5 a6 a7 a8 a9 a10 (upd a11 g (nI b)) (upd a12 g (nI (t - b))) (upd a13 g (ed_ek a2 T t)) a14 a15 (upd a16 g 0) a17 b18 a19 a20 b21 a22 a23 a24 a25 a26) : wX_replaceStretches_185 post J x7 (nI g) (nI b) (nI i) (nI t) vL (nI T) vF vS vM vB vO vI vH vC a1 a2 a3 a4 a5 a6 a7 a8 a9 a10 a11 a12 a13 a14 a15 a16 a17 a18 a19 a20 a21 a22 a23 a24 a25 a26 := by
  have go : ∀ y, y = ed_ek a2 T t → wX_replaceStretches_215 post J x7 (nI g) (nI i) (nI t) y (nI t - nI b) (nI b) (nI g) vL (nI T) vF vS vM vB vO vI vH vC a1 a2 a3 a4 a5 a6 a7 a8 a9 a10 a11 a12 a13 a14 a15 a16 a17 a18 a19 a20 a21 a22 a23 a24 a25 a26 := by
    intro y hy
    subst hy
    rw [pk_sub hbt]
    exact ed_newStretch hg (fun m b18 b21 => nm_r (nI_1 t) (nm_r (nI_1 g) (nm_r (nI_1 i) (H m b18 b21))))
  refine pk_le T t (fun z => go _ (by unfold ed_ek; rw [if_pos z])) (fun z => ⟨pk_in t 81 (by omega), go _ (by unfold ed_ek; rw [if_neg (by omega), nI_clamp (by omega)])⟩)
theorem ed_rs137 {post : St2 → Prop} {E g fr T : Nat} (hT : T ≤ 80) (hg : g + E < 82) (hfr : fr ≤ 80) (H : ∀ (m : Int32) (b18 b21 : Nat → Int32), post (vL, nI T, vF, vS, m, vB, vO, 0, vH, vC, a1, a2, a3, a4, a5, a6, a7, a8, a9, a10, ed_wr a11 g (ed_sF a2 T fr) (E+1), ed_wr a12 g (ed_sZ a2 T fr) (E+1), ed_wr a13 g (ed_sE a2 T fr) (E+1), a14, a15, ed_wr a16 g ed_zr (E+1), a17, b18, a19, a20, b21, a22, a23, a24, a25, a26)) : ∀ (d i : Nat) (vM : Int32) (a18 a21 : Nat → Int32), i + d = E + 1 → wX_replaceStretches_137 post (nI E) (d + 1) (nI (g + i)) (nI (ed_bg a2 T fr i)) (nI i) vL (nI T) vF vS vM vB vO vI vH vC a1 a2 a3 a4 a5 a6 a7 a8 a9 a10 (ed_wr a11 g (ed_sF a2 T fr) i) (ed_wr a12 g (ed_sZ a2 T fr) i) (ed_wr a13 g (ed_sE a2 T fr) i) a14 a15 (ed_wr a16 g ed_zr i) a17 a18 a19 a20 a21 a22 a23 a24 a25 a26 := by
  intro d
  induction d with
  | zero =>
    intro i vM a18 a21 h
    have e : i = E + 1 := by omega
    subst e
    exact pk_lt E (E + 1) (fun _ => H _ _ _) (fun z => absurd z (by omega))
  | succ d ih =>
    intro i vM a18 a21 h
    have hb := ed_bg_le a2 T fr i
    have hn := ed_nx_in a2 T 81 (ed_bg a2 T fr i)
    refine pk_lt E i (fun z => absurd z (by omega)) (fun _ => ⟨82, ed_rs151 hT 81 0 _ (by omega) (by omega) ?_⟩)
    refine ed_rs185 hT (by omega) hn.1 (by omega) (fun m b18 b21 => ?_)
    have K := ih (i + 1) m b18 b21 (by omega)
    rw [← ed_wr_s, ← ed_wr_s, ← ed_wr_s, ← ed_wr_s] at K
    exact K
theorem ed_rs81 {post : St2 → Prop} {x5 x6 : Int32} {E a b S : Nat} {A11 : Nat → Int32} (hS : S ≤ 80)
    (H : ∀ b11 : Nat → Int32, (b + 1 = S → b11 = A11) → ∀ P : St2 → Prop, (∀ (vS vM : Int32) (a11 a12 a13 a14 a15 a16 a18 a19 a20 a21 : Nat → Int32), (∃ fu, wX_replaceStretches_137 post (nI E) fu (nI a) x5 0 vL vT vF vS vM vB vO vI vH vC a1 a2 a3 a4 a5 a6 a7 a8 a9 a10 a11 a12 a13 a14 a15 a16 a17 a18 a19 a20 a21 a22 a23 a24 a25 a26) → P (vL, vT, vF, vS, vM, vB, vO, vI, vH, vC, a1, a2, a3, a4, a5, a6, a7, a8, a9, a10, a11, a12, a13, a14, a15, a16, a17, a18, a19, a20, a21, a22, a23, a24, a25, a26)) → wpX_moveStretches P (vL, vT, vF, nI S, vM, vB, vO, vI, vH, vC, a1, a2, a3, a4, a5, a6, a7, a8, a9, a10, b11, a12, a13, a14, a15, a16, a17, a18, a19, a20, a21, a22, a23, a24, a25, a26) (nI (b + 1)) (nI (a + E + 1))) :
    ∀ (d k : Nat) (a11 : Nat → Int32), b + 1 ≤ k → k + d = S → (b + 1 = S → a11 = A11) → wX_replaceStretches_81 post (nI a) (nI b) x5 x6 (nI E) vL vT vF (nI S) vM vB vO vI vH vC (d + 1) (nI k) a1 a2 a3 a4 a5 a6 a7 a8 a9 a10 a11 a12 a13 a14 a15 a16 a17 a18 a19 a20 a21 a22 a23 a24 a25 a26 := by
  intro d
  induction d with
  | zero =>
    intro k a11 hk hd h
    refine pk_le S k (fun _ => ?_) (fun z => absurd z (by omega))
    rw [nI_1 b, nI_add a E, nI_1 (a + E)]
    exact H a11 h _ (fun _ _ _ _ _ _ _ _ _ _ _ _ h => h)
  | succ d ih =>
    intro k a11 hk hd h
    exact pk_le S k (fun z => absurd z (by omega)) (fun _ => ⟨pk_in k 82 (by omega), pk_in k 82 (by omega), nm_e (nm_r (nI_1 k) (ih (k + 1) _ (by omega) (by omega) (fun z => absurd z (by omega))))⟩)
theorem ed_rs38 {post : St2 → Prop} {x6 : Int32} {keep a b F fr n : Nat} (hn : fr + n = keep + F) (hk : keep + F ≤ 80) (hb : b ≤ 80)
    (H : ∃ fu, wX_replaceStretches_81 post (nI a) (nI b) (nI fr) x6 (nI (ed_ec a2 fr n)) vL vT (nI F) vS vM vB vO vI vH vC fu (nI (b + 1)) a1 a2 a3 a4 a5 a6 a7 a8 a9 a10 a11 a12 a13 a14 a15 a16 a17 a18 a19 a20 a21 a22 a23 a24 a25 a26) :
    ∀ (d k : Nat), k + d = n → wX_replaceStretches_38 post (nI keep) (nI a) (nI b) (nI fr) x6 vL vT (nI F) vS vM vB vO vI vH vC a1 a2 a3 a4 a5 a6 a7 a8 a9 a10 a11 a12 a13 a14 a15 a16 a17 a18 a19 a20 a21 a22 a23 a24 a25 a26 (d + 1) (nI (ed_ec a2 fr k)) (nI (fr + k)) := by
  intro d
  induction d with
  | zero =>
    intro k h
    have e : k = n := by omega
    subst e
    exact pk_le (keep + F) (fr + k) (fun _ => nm_r (nI_1 b) H) (fun z => absurd z (by omega)) (nI_add keep F)
  | succ d ih =>
    intro k h
    have K := ih (k + 1) (by omega)
    have hc := ed_ec_le a2 fr k
    refine pk_le (keep + F) (fr + k) (fun z => absurd z (by omega)) (fun _ => ?_) (nI_add keep F)
    unfold ed_ec at K
    refine ed_ends (by omega) (fun g => ?_) (fun g => ?_)
    · rw [if_pos g] at K
      exact br_t rfl (nm_r (nI_1 (fr + k)) K)
    · rw [if_neg g] at K
      exact br_f (by decide) (nm_r (nI_1 _) (nm_r (nI_1 (fr + k)) K))
/-- what stands behind the call of replaceStretches -/
def ed_HS (post : St2 → Prop) (T F S keep gz : Nat) (fi si : Nat → Nat) (vL vB vO vH vC : Int32) (a1 a2 a3 a4 a5 a6 a7 a8 a9 a10 a11 a12 a13 a16 a17 a22 a23 a24 a25 a26 : Nat → Int32) : Prop :=
  ∀ (a b S' E : Nat) (m : Int32) (b11 b12 b13 b14 b15 b16 b18 b19 b20 b21 : Nat → Int32), a < S → (∀ j, j < a → fi j + si j < keep) → (a + 1 = S ∨ keep ≤ fi a + si a) → b < S → (b + 1 = S ∨ keep + gz ≤ fi b + si b) → E = ed_ec a2 (fi a) (keep + F - fi a) →
    (b + 1 = S → S' = a + E + 1 ∧ b11 = ed_wr a11 a (ed_sF a2 T (fi a)) (E + 1) ∧ b12 = ed_wr a12 a (ed_sZ a2 T (fi a)) (E + 1) ∧ b13 = ed_wr a13 a (ed_sE a2 T (fi a)) (E + 1) ∧ b16 = ed_wr a16 a ed_zr (E + 1)) →
    post (vL, nI T, nI F, nI S', m, vB, vO, 0, vH, vC, a1, a2, a3, a4, a5, a6, a7, a8, a9, a10, b11, b12, b13, b14, b15, b16, a17, b18, b19, b20, b21, a22, a23, a24, a25, a26)
theorem ed_replaceStretches {post : St2 → Prop} {T F S keep gz : Nat} {fi si : Nat → Nat} (h11 : ed_ar a11 fi S) (h12 : ed_ar a12 si S) (h1 : 1 ≤ S) (hS : S ≤ 20) (hb : ∀ g, g < S → fi g + si g ≤ 20) (hT : T ≤ 40) (hk : keep + F ≤ 40) (hz : keep + gz ≤ 40)
    (hfr : ∀ a, a < S → (∀ j, j < a → fi j + si j < keep) → fi a ≤ keep)
    (H : ed_HS post T F S keep gz fi si vL vB vO vH vC a1 a2 a3 a4 a5 a6 a7 a8 a9 a10 a11 a12 a13 a16 a17 a22 a23 a24 a25 a26) :
    wpX_replaceStretches post (vL, nI T, nI F, nI S, vM, vB, vO, vI, vH, vC, a1, a2, a3, a4, a5, a6, a7, a8, a9, a10, a11, a12, a13, a14, a15, a16, a17, a18, a19, a20, a21, a22, a23, a24, a25, a26) (nI keep) (nI gz) := by
  have hb' : ∀ g, g < S → fi g + si g ≤ 1000 := fun g hg => Nat.le_trans (hb g hg) (by omega)
  refine ed_stretchWith h11 h12 h1 (by omega) (by omega) hb' (fun a ha1 ha2 ha3 => ?_)
  rw [nI_add keep gz]
  refine ed_stretchWith h11 h12 h1 (by omega) (by omega) hb' (fun b hb1 hb2 hb3 => ?_)
  have hfa := hfr a ha1 ha2
  have hec := ed_ec_le a2 (fi a) (keep + F - fi a)
  refine ⟨pk_in a 82 (by omega), nm_r (e' := nI (fi a)) (by rw [nI_clamp (by omega), h11 a ha1]) (nm_e ⟨keep + F - fi a + 1, ?_⟩)⟩
  refine ed_rs38 (n := keep + F - fi a) (by omega) (by omega) (by omega) ⟨S - (b + 1) + 1, ?_⟩ (keep + F - fi a) 0 (by omega)
  refine ed_rs81 (A11 := a11) (by omega) (fun b11 hb11 P hP => ?_) (S - (b + 1)) (b + 1) a11 (by omega) (by omega) (fun _ => rfl)
  have eS : S = b + 1 + (S - (b + 1)) := by omega
  generalize hm : S - (b + 1) = m at eS
  rw [eS]
  refine ed_moveStretches (by omega) (by omega) (fun c11 c12 c13 c14 c15 c16 c18 c19 c20 c21 hc => hP _ _ _ _ _ _ _ _ _ _ _ _ ⟨ed_ec a2 (fi a) (keep + F - fi a) + 1 + 1, ?_⟩)
  have L := ed_rs137 (post := post) (E := ed_ec a2 (fi a) (keep + F - fi a)) (g := a) (fr := fi a) (T := T) (a2 := a2) (a11 := c11) (a12 := c12) (a13 := c13) (a16 := c16) (a1 := a1) (a3 := a3) (a4 := a4) (a5 := a5) (a6 := a6) (a7 := a7) (a8 := a8) (a9 := a9) (a10 := a10) (a14 := c14) (a15 := c15) (a17 := a17) (a19 := c19) (a20 := c20) (a22 := a22) (a23 := a23) (a24 := a24) (a25 := a25) (a26 := a26) (vL := vL) (vF := nI F) (vS := nI (a + ed_ec a2 (fi a) (keep + F - fi a) + 1 + m)) (vB := vB) (vO := vO) (vI := vI) (vH := vH) (vC := vC) (by omega) (by omega) (by have := hb a ha1; omega) (fun mm b18 b21 => ?_) (ed_ec a2 (fi a) (keep + F - fi a) + 1) 0 vM c18 c21 (by omega)
  · rw [ed_wr_0, ed_wr_0, ed_wr_0, ed_wr_0] at L
    exact L
  · refine H a b (a + ed_ec a2 (fi a) (keep + F - fi a) + 1 + m) _ mm _ _ _ c14 c15 _ b18 c19 c20 b21 ha1 ha2 ha3 hb1 hb3 rfl (fun z => ?_)
    have m0 : m = 0 := by omega
    obtain ⟨e1, e2, e3, e4⟩ := hc m0
    have e5 := hb11 z
    subst e1 e2 e3 e4 e5
    exact ⟨by omega, rfl, rfl, rfl, rfl⟩
end
end
section
section
variable {vL vT vF vS vM vB vO vI vH vC : Int32} {a1 a2 a3 a4 a5 a6 a7 a8 a9 a10 a11 a12 a13 a14 a15 a16 a17 a18 a19 a20 a21 a22 a23 a24 a25 a26 : Nat → Int32}
def ed_m1 (_ : Nat) : Int32 := -1
theorem ed_rp53 {post : St2 → Prop} {keep gz F : Nat} (hk : keep + F ≤ 80) (hz : keep + gz ≤ 80)
    (H : ∀ P : St2 → Prop, (∀ (vL vT vF vS vM vB vO vI vH vC : Int32) (a1 a2 a3 a4 a5 a6 a7 a8 a9 a10 a11 a12 a13 a14 a15 a16 a17 a18 a19 a20 a21 a22 a23 a24 a25 a26 : Nat → Int32), post (vL, vT, vF, vS, vM, vB, vO, vI, vH, vC, a1, a2, a3, a4, a5, a6, a7, a8, a9, a10, a11, a12, a13, a14, a15, a16, a17, a18, a19, a20, a21, a22, a23, a24, a25, a26) → P (vL, vT, vF, vS, vM, vB, vO, vI, vH, vC, a1, a2, a3, a4, a5, a6, a7, a8, a9, a10, a11, a12, a13, a14, a15, a16, a17, a18, a19, a20, a21, a22, a23, a24, a25, a26)) → wpX_replaceStretches P (vL, vT, nI F, vS, vM, vB, vO, vI, vH, vC, a1, ed_wr a2 keep a8 F, ed_wr a3 keep a9 F, ed_wr a4 keep a10 F, a5, ed_wr a6 keep ed_m1 F, a7, a8, a9, a10, a11, a12, a13, a14, a15, a16, a17, a18, a19, a20, a21, a22, a23, a24, a25, a26) (nI keep) (nI gz)) :
    ∀ (d i : Nat), i + d = F → wX_replaceTokens_53 post (nI keep) (nI gz) vL vT (nI F) vS vM vB vO vI vH vC (d + 1) (nI i) a1 (ed_wr a2 keep a8 i) (ed_wr a3 keep a9 i) (ed_wr a4 keep a10 i) a5 (ed_wr a6 keep ed_m1 i) a7 a8 a9 a10 a11 a12 a13 a14 a15 a16 a17 a18 a19 a20 a21 a22 a23 a24 a25 a26 := by
  intro d
  induction d with
  | zero =>
    intro i h
    have e : i = F := by omega
    subst e
    refine pk_le i i (fun _ => ?_) (fun z => absurd z (by omega))
    exact H _ (fun _ _ _ _ _ _ _ _ _ _ _ _ _ _ _ _ _ _ _ _ _ _ _ _ _ _ _ _ _ _ _ _ _ _ _ _ h => h)
  | succ d ih =>
    intro i h
    have K := ih (i + 1) (by omega)
    rw [← ed_wr_s, ← ed_wr_s, ← ed_wr_s, ← ed_wr_s] at K
    have ei : (nI i).toNatClampNeg = i := nI_clamp (by omega)
    have ek : (nI keep + nI i).toNatClampNeg = keep + i := by rw [nI_add, nI_clamp (by omega)]
    have i1 : vp_in (nI i) 81 := pk_in i 81 (by omega)
    have i2 : vp_in (nI keep + nI i) 81 := pk_in (keep + i) 81 (by omega) (nI_add keep i)
    refine pk_le F i (fun z => absurd z (by omega)) (fun _ => ⟨i1, i2, nm_r (e' := upd (ed_wr a2 keep a8 i) (keep + i) (a8 i)) (by rw [ei, ek]) ⟨i1, i2, nm_r (e' := upd (ed_wr a3 keep a9 i) (keep + i) (a9 i)) (by rw [ei, ek]) ⟨i1, i2, nm_r (e' := upd (ed_wr a4 keep a10 i) (keep + i) (a10 i)) (by rw [ei, ek]) ⟨i2, nm_r (e' := upd (ed_wr a6 keep ed_m1 i) (keep + i) (ed_m1 i)) (by rw [ek]; rfl) (nm_r (nI_1 i) K)⟩⟩⟩⟩)
theorem ed_rp8 {post : St2 → Prop} {sh : Int32} {keep old gz T F : Nat} {A3 : Nat → Int32} (hT : T ≤ 80)
    (H : ∀ b3 : Nat → Int32, (old = T → b3 = A3) → ∀ P : St2 → Prop, (∀ (vT : Int32) (a2 a3 a4 a5 a6 a7 : Nat → Int32), (∃ fu, wX_replaceTokens_53 post (nI keep) (nI gz) vL vT (nI F) vS vM vB vO vI vH vC fu 0 a1 a2 a3 a4 a5 a6 a7 a8 a9 a10 a11 a12 a13 a14 a15 a16 a17 a18 a19 a20 a21 a22 a23 a24 a25 a26) → P (vL, vT, nI F, vS, vM, vB, vO, vI, vH, vC, a1, a2, a3, a4, a5, a6, a7, a8, a9, a10, a11, a12, a13, a14, a15, a16, a17, a18, a19, a20, a21, a22, a23, a24, a25, a26)) → wpX_moveTokens P (vL, nI T, nI F, vS, vM, vB, vO, vI, vH, vC, a1, a2, b3, a4, a5, a6, a7, a8, a9, a10, a11, a12, a13, a14, a15, a16, a17, a18, a19, a20, a21, a22, a23, a24, a25, a26) (nI old) (nI (keep + F))) :
    ∀ (d k : Nat) (a3 : Nat → Int32), old ≤ k → k + d = T → (old = T → a3 = A3) → wX_replaceTokens_8 post (nI keep) (nI old) sh (nI gz) vL (nI T) (nI F) vS vM vB vO vI vH vC (d + 1) (nI k) a1 a2 a3 a4 a5 a6 a7 a8 a9 a10 a11 a12 a13 a14 a15 a16 a17 a18 a19 a20 a21 a22 a23 a24 a25 a26 := by
  intro d
  induction d with
  | zero =>
    intro k a3 hk hd h
    refine pk_le T k (fun _ => ?_) (fun z => absurd z (by omega))
    rw [nI_add keep F]
    exact H a3 h _ (fun _ _ _ _ _ _ _ h => h)
  | succ d ih =>
    intro k a3 hk hd h
    exact pk_le T k (fun z => absurd z (by omega)) (fun _ => ⟨pk_in k 81 (by omega), pk_in k 81 (by omega), nm_e (nm_r (nI_1 k) (ih (k + 1) _ (by omega) (by omega) (fun z => absurd z (by omega))))⟩)
/-- what stands behind the call of replaceTokens -/
def ed_HT (post : St2 → Prop) (T F S keep old : Nat) (fi si : Nat → Nat) (vL vB vO vH vC : Int32) (a1 a2 a3 a4 a8 a9 a10 a11 a12 a13 a16 a17 a22 a23 a24 a25 a26 : Nat → Int32) : Prop :=
  ∀ (T' S' : Nat) (m : Int32) (b2 b3 b4 b5 b6 b7 b11 b12 b13 b14 b15 b16 b18 b19 b20 b21 : Nat → Int32),
    (old = T → T' = keep + F ∧ b2 = ed_wr a2 keep a8 F ∧ b3 = ed_wr a3 keep a9 F ∧ b4 = ed_wr a4 keep a10 F ∧
      ∃ a E : Nat, a < S ∧ (∀ j, j < a → fi j + si j < keep) ∧ (a + 1 = S ∨ keep ≤ fi a + si a) ∧ E = ed_ec b2 (fi a) (T' - fi a) ∧ S' = a + E + 1 ∧
        b11 = ed_wr a11 a (ed_sF b2 T' (fi a)) (E + 1) ∧ b12 = ed_wr a12 a (ed_sZ b2 T' (fi a)) (E + 1) ∧ b13 = ed_wr a13 a (ed_sE b2 T' (fi a)) (E + 1) ∧ b16 = ed_wr a16 a ed_zr (E + 1)) →
    post (vL, nI T', nI F, nI S', m, vB, vO, 0, vH, vC, a1, b2, b3, b4, b5, b6, b7, a8, a9, a10, b11, b12, b13, b14, b15, b16, a17, b18, b19, b20, b21, a22, a23, a24, a25, a26)
theorem ed_replaceTokens {post : St2 → Prop} {sh : Int32} {T F S keep old : Nat} {fi si : Nat → Nat} (h11 : ed_ar a11 fi S) (h12 : ed_ar a12 si S) (h1 : 1 ≤ S) (hS : S ≤ 20) (hb : ∀ g, g < S → fi g + si g ≤ 20) (hT : T ≤ 10) (hF : F ≤ 10) (hk : keep ≤ old) (ho : old ≤ T)
    (hfr : ∀ a, a < S → (∀ j, j < a → fi j + si j < keep) → fi a ≤ keep) (hlt : ∀ g, g + 1 < S → fi g + si g < T)
    (H : ed_HT post T F S keep old fi si vL vB vO vH vC a1 a2 a3 a4 a8 a9 a10 a11 a12 a13 a16 a17 a22 a23 a24 a25 a26) :
    wpX_replaceTokens post (vL, nI T, nI F, nI S, vM, vB, vO, vI, vH, vC, a1, a2, a3, a4, a5, a6, a7, a8, a9, a10, a11, a12, a13, a14, a15, a16, a17, a18, a19, a20, a21, a22, a23, a24, a25, a26) (nI keep) (nI old) sh := by
  refine nm_r (e' := nI (old - keep)) (pk_sub hk) ⟨T - old + 1, ?_⟩
  refine ed_rp8 (A3 := a3) (by omega) (fun b3 hb3 P hP => ?_) (T - old) old a3 (by omega) (by omega) (fun _ => rfl)
  have eT : T = old + (T - old) := by omega
  generalize hm : T - old = m at eT
  rw [eT]
  refine ed_moveTokens (by omega) (by omega) (fun c2 c3 c4 c5 c6 c7 hc => hP _ _ _ _ _ _ _ ⟨F + 1, ?_⟩)
  have L := ed_rp53 (post := post) (keep := keep) (gz := old - keep) (F := F) (a1 := a1) (a2 := c2) (a3 := c3) (a4 := c4) (a5 := c5) (a6 := c6) (a7 := c7) (a8 := a8) (a9 := a9) (a10 := a10) (a11 := a11) (a12 := a12) (a13 := a13) (a14 := a14) (a15 := a15) (a16 := a16) (a17 := a17) (a18 := a18) (a19 := a19) (a20 := a20) (a21 := a21) (a22 := a22) (a23 := a23) (a24 := a24) (a25 := a25) (a26 := a26) (vL := vL) (vT := nI (keep + F + m)) (vS := nI S) (vM := vM) (vB := vB) (vO := vO) (vI := vI) (vH := vH) (vC := vC) (by omega) (by omega) (fun P' hP' => ?_) F 0 (by omega)
  · rw [ed_wr_0, ed_wr_0, ed_wr_0, ed_wr_0] at L
    exact L
  · refine ed_replaceStretches h11 h12 h1 hS hb (by omega) (by omega) (by omega) hfr ?_
    intro a b S' E mm b11 b12 b13 b14 b15 b16 b18 b19 b20 b21 ha1 ha2 ha3 hb1 hb2 hE hx
    refine hP' _ _ _ _ _ _ _ _ _ _ _ _ _ _ _ _ _ _ _ _ _ _ _ _ _ _ _ _ _ _ _ _ _ _ _ _ ?_
    refine H (keep + F + m) S' mm _ _ _ c5 _ c7 b11 b12 b13 b14 b15 b16 b18 b19 b20 b21 (fun z => ?_)
    have m0 : m = 0 := by omega
    obtain ⟨e1, e2, e3, e4⟩ := hc m0
    have e5 := hb3 z
    have eb : b + 1 = S := by
      rcases hb2 with h | h
      · exact h
      · rcases Nat.lt_or_ge (b + 1) S with h' | h'
        · have := hlt b h'
          omega
        · omega
    obtain ⟨f1, f2, f3, f4, f5⟩ := hx eb
    subst e1 e2 e3 e4 e5
    rw [m0]
    rw [m0] at f2 f3 f4
    exact ⟨rfl, rfl, rfl, rfl, a, E, ha1, ha2, ha3, hE, f1, f2, f3, f4, f5⟩
end
end
section
section
variable {vL vT vF vS vM vB vO vI vH vC : Int32} {a1 a2 a3 a4 a5 a6 a7 a8 a9 a10 a11 a12 a13 a14 a15 a16 a17 a18 a19 a20 a21 a22 a23 a24 a25 a26 : Nat → Int32}
def ed_fu (f : Nat → Nat) (n v : Nat) : Nat → Nat := fun j => if j = n then v else f j
theorem ed_fu_s (f : Nat → Nat) (n v : Nat) : ed_fu f n v n = v := by
  unfold ed_fu
  rw [if_pos rfl]
theorem ed_fu_n {f : Nat → Nat} {n v j : Nat} (h : j ≠ n) : ed_fu f n v j = f j := by
  unfold ed_fu
  rw [if_neg h]
theorem ed_ar_up {a : Nat → Int32} {f : Nat → Nat} {n : Nat} (h : ed_ar a f n) (v : Nat) : ed_ar (upd a n (nI v)) (ed_fu f n v) (n + 1) := by
  intro k hk
  by_cases e : k = n
  · subst e
    rw [pk_us, ed_fu_s]
  · rw [pk_un e, ed_fu_n e]
    exact h k (by omega)
theorem ed_ar_0 (a : Nat → Int32) (f : Nat → Nat) : ed_ar a f 0 := fun k hk => absurd hk (by omega)
/-- the fresh tokens, read from fr up to q -/
def ed_Fr (L fr q F : Nat) (tx fk fs fz : Nat → Nat) : Prop := (∀ k, k < F → 1 ≤ fz k ∧ fr ≤ fs k ∧ fs k + fz k ≤ q ∧ ed_KR L (fs k) (tx (fs k)) (fk k) ∧ ∀ j, j < k → fs j + fz j ≤ fs k) ∧ (F = 0 → ∀ i, fr ≤ i → i < q → tx i = 18)
theorem ed_Fr_on {L fr q q' F : Nat} {tx fk fs fz : Nat → Nat} (h : ed_Fr L fr q F tx fk fs fz) (hq : q ≤ q') (hs : ∀ i, q ≤ i → i < q' → tx i = 18) : ed_Fr L fr q' F tx fk fs fz := by
  refine ⟨fun k hk => ?_, fun z i h1 h2 => ?_⟩
  · obtain ⟨g1, g2, g3, g4, g5⟩ := h.1 k hk
    exact ⟨g1, g2, by omega, g4, g5⟩
  · by_cases hi : i < q
    · exact h.2 z i h1 hi
    · exact hs i (by omega) h2
theorem ed_Fr_add {L fr q e F k : Nat} {tx fk fs fz : Nat → Nat} (h : ed_Fr L fr q F tx fk fs fz) (hf : fr ≤ q) (he : q < e) (hk : ed_KR L q (tx q) k) : ed_Fr L fr e (F + 1) tx (ed_fu fk F k) (ed_fu fs F q) (ed_fu fz F (e - q)) := by
  refine ⟨fun j hj => ?_, fun z => absurd z (by omega)⟩
  by_cases ej : j = F
  · subst ej
    rw [ed_fu_s, ed_fu_s, ed_fu_s]
    refine ⟨by omega, hf, by omega, hk, fun i hi => ?_⟩
    rw [ed_fu_n (by omega), ed_fu_n (by omega)]
    exact (h.1 i hi).2.2.1
  · rw [ed_fu_n ej, ed_fu_n ej, ed_fu_n ej]
    obtain ⟨g1, g2, g3, g4, g5⟩ := h.1 j (by omega)
    refine ⟨g1, g2, by omega, g4, fun i hi => ?_⟩
    rw [ed_fu_n (by omega), ed_fu_n (by omega)]
    exact g5 i hi
theorem ed_rt117 {post : St2 → Prop} {J : Int32 → Int32 → Int32 → Int32 → Int32 → Int32 → Int32 → Int32 → Int32 → Int32 → Int32 → Int32 → Int32 → Int32 → (Nat → Int32) → (Nat → Int32) → (Nat → Int32) → (Nat → Int32) → (Nat → Int32) → (Nat → Int32) → (Nat → Int32) → (Nat → Int32) → (Nat → Int32) → (Nat → Int32) → (Nat → Int32) → (Nat → Int32) → (Nat → Int32) → (Nat → Int32) → (Nat → Int32) → (Nat → Int32) → (Nat → Int32) → (Nat → Int32) → (Nat → Int32) → (Nat → Int32) → (Nat → Int32) → (Nat → Int32) → (Nat → Int32) → (Nat → Int32) → (Nat → Int32) → (Nat → Int32) → Prop} {x1 x2 x3 x4 x6 x9 : Int32} {L q : Nat} {tx : Nat → Nat} (hL : L ≤ 80) (h1 : ed_ar a1 tx L) (ht : ∀ i, i < L → tx i ≤ 18)
    (H : ∀ q', q ≤ q' → q' ≤ L → (q' < L → tx q' ≤ 17) → (∀ i, q ≤ i → i < q' → tx i = 18) → wX_readTokens_144 post J x1 x2 x3 x4 x6 (nI q') x9 (nI L) vT vF vS vM vB vO vI vH vC a1 a2 a3 a4 a5 a6 a7 a8 a9 a10 a11 a12 a13 a14 a15 a16 a17 a18 a19 a20 a21 a22 a23 a24 a25 a26) :
    ∀ (f r i : Nat), q ≤ r → r ≤ L → i ≤ r → (∀ k, q ≤ k → k < r → tx k = 18) → L - r < f → wX_readTokens_117 post J x1 x2 x3 x4 x6 x9 (nI L) vT vF vS vM vB vO vI vH vC a1 a2 a3 a4 a5 a6 a7 a8 a9 a10 a11 a12 a13 a14 a15 a16 a17 a18 a19 a20 a21 a22 a23 a24 a25 a26 f (nI r) (nI i) := by
  intro f
  induction f with
  | zero =>
    intro r i _ _ _ _ h
    omega
  | succ f ih =>
    intro r i hq hr hi hs hf
    refine pk_le 80 i (fun z => H r hq hr (fun z' => absurd z' (by omega)) hs) (fun z => ?_)
    refine ed_at hL (fun h => br_f (by decide) (H r hq hr (fun z' => absurd z' (by omega)) hs)) (fun h => ?_)
    have h18 := ht r h
    refine pk_eq (tx r) 18 (fun e => ?_) (fun e => H r hq hr (fun _ => by omega) hs) (h1 r h)
    refine nm_r (nI_1 r) (nm_r (nI_1 i) (ih (r + 1) (i + 1) (by omega) (by omega) (by omega) (fun k k1 k2 => ?_) (by omega)))
    by_cases ek : k = r
    · rw [ek]
      exact e
    · exact hs k k1 (by omega)
theorem ed_rt144 {post : St2 → Prop} {J : Int32 → Int32 → Int32 → Int32 → Int32 → Int32 → Int32 → Int32 → Int32 → Int32 → Int32 → Int32 → Int32 → Int32 → (Nat → Int32) → (Nat → Int32) → (Nat → Int32) → (Nat → Int32) → (Nat → Int32) → (Nat → Int32) → (Nat → Int32) → (Nat → Int32) → (Nat → Int32) → (Nat → Int32) → (Nat → Int32) → (Nat → Int32) → (Nat → Int32) → (Nat → Int32) → (Nat → Int32) → (Nat → Int32) → (Nat → Int32) → (Nat → Int32) → (Nat → Int32) → (Nat → Int32) → (Nat → Int32) → (Nat → Int32) → (Nat → Int32) → (Nat → Int32) → (Nat → Int32) → (Nat → Int32) → Prop} {x3 x4 : Int32} {L T F q o p cm i c : Nat} (hL : L ≤ 80) (hT : T ≤ 80) (hF : F < 81) (ho : o ≤ T) (hq : q ≤ L) (hpc : p + cm ≤ 1000) (hc : q < L → a1 q = nI c ∧ c ≤ 17)
    (HA : ∀ o', o ≤ o' → o' ≤ T → ((L ≤ q ∧ o' = T) ∨ (q < L ∧ p + cm ≤ q)) → J (nI o') (nI q) 0 (nI (i + 1)) (nI L) (nI T) (nI F) vS vM vB vO vI vH vC a1 a2 a3 a4 a5 a6 a7 a8 a9 a10 a11 a12 a13 a14 a15 a16 a17 a18 a19 a20 a21 a22 a23 a24 a25 a26)
    (HB : q < L → ∀ o', o ≤ o' → o' ≤ T → ∀ e k, q < e → e ≤ L → ed_KR L q c k → J (nI o') (nI e) 1 (nI (i + 1)) (nI L) (nI T) (nI (F+1)) vS vM vB vO vI vH vC a1 a2 a3 a4 a5 a6 a7 (upd a8 F (nI k)) (upd a9 F (nI q)) (upd a10 F (nI (e-q))) a11 a12 a13 a14 a15 a16 a17 a18 a19 a20 a21 a22 a23 a24 a25 a26) :
    wX_readTokens_144 post J (nI p) (nI cm) x3 x4 (nI o) (nI q) (nI i) (nI L) (nI T) (nI F) vS vM vB vO vI vH vC a1 a2 a3 a4 a5 a6 a7 a8 a9 a10 a11 a12 a13 a14 a15 a16 a17 a18 a19 a20 a21 a22 a23 a24 a25 a26 := by
  have s212 : ∀ o', L ≤ q → wX_readTokens_212 post J (nI p) (nI cm) x3 x4 o' (nI q) (nI i) (nI L) (nI T) (nI F) vS vM vB vO vI vH vC a1 a2 a3 a4 a5 a6 a7 a8 a9 a10 a11 a12 a13 a14 a15 a16 a17 a18 a19 a20 a21 a22 a23 a24 a25 a26 := fun o' z => pk_le L q (fun _ => br_t rfl (nm_r (nI_1 i) (HA T ho (Nat.le_refl T) (Or.inl ⟨z, rfl⟩)))) (fun z' => absurd z' (by omega))
  have s191 : ∀ o', o ≤ o' → o' ≤ T → wX_readTokens_191 post J (nI p) (nI cm) x3 x4 (nI o') (nI q) (nI i) (nI L) (nI T) (nI F) vS vM vB vO vI vH vC a1 a2 a3 a4 a5 a6 a7 a8 a9 a10 a11 a12 a13 a14 a15 a16 a17 a18 a19 a20 a21 a22 a23 a24 a25 a26 := fun o' k1 k2 => pk_le L q (fun z => s212 _ z) (fun z => br_t rfl (pk_le L q (fun z' => absurd z' (by omega)) (fun _ => br_f (by decide) (ed_readToken hL z (hc z).1 (hc z).2 hF (fun e k g1 g2 g3 => nm_r (nI_1 i) (HB z o' k1 k2 e k g1 g2 g3))))))
  have s192 : ∀ o', o ≤ o' → o' ≤ T → p + cm ≤ q → wX_readTokens_192 post J (nI p) (nI cm) x3 x4 (nI o') (nI q) (nI i) 1 (nI L) (nI T) (nI F) vS vM vB vO vI vH vC a1 a2 a3 a4 a5 a6 a7 a8 a9 a10 a11 a12 a13 a14 a15 a16 a17 a18 a19 a20 a21 a22 a23 a24 a25 a26 := fun o' k1 k2 k3 => pk_le L q (fun z => s212 _ z) (fun z => br_f (by decide) (pk_le L q (fun z' => absurd z' (by omega)) (fun _ => br_t rfl (nm_r (nI_1 i) (HA o' k1 k2 (Or.inr ⟨z, k3⟩))))))
  exact ed_tokenFrom hT ho (fun r k1 k2 => pk_lt q (p + cm) (fun _ => s191 r k1 k2) (fun z => pk_le T r (fun _ => s191 r k1 k2) (fun w => ⟨pk_in r 81 (by omega), br_c (fun _ => s192 r k1 k2 z) (fun _ => s191 r k1 k2)⟩)) rfl (nI_add p cm))
theorem ed_rt102 {post : St2 → Prop} {x3 : Int32} {L T p cm keep fr : Nat} {tx : Nat → Nat} (hL : L ≤ 80) (hT : T ≤ 80) (hpc : p + cm ≤ 1000) (h1 : ed_ar a1 tx L) (ht : ∀ i, i < L → tx i ≤ 18)
    (H : ∀ (old q F : Nat) (fk fs fz : Nat → Nat) (b8 b9 b10 : Nat → Int32), keep ≤ old → old ≤ T → ((L ≤ q ∧ old = T) ∨ (q < L ∧ p + cm ≤ q)) → q ≤ L → fr + F ≤ q → ed_Fr L fr q F tx fk fs fz → ed_ar b8 fk F → ed_ar b9 fs F → ed_ar b10 fz F → wX_readTokens_254 post x3 (nI keep) (nI old) (nI L) (nI T) (nI F) vS vM vB vO vI vH vC a1 a2 a3 a4 a5 a6 a7 b8 b9 b10 a11 a12 a13 a14 a15 a16 a17 a18 a19 a20 a21 a22 a23 a24 a25 a26) :
    ∀ (f o q F : Nat) (fk fs fz : Nat → Nat) (a8 a9 a10 : Nat → Int32), keep ≤ o → o ≤ T → fr + F ≤ q → q ≤ L → ed_Fr L fr q F tx fk fs fz → ed_ar a8 fk F → ed_ar a9 fs F → ed_ar a10 fz F → L - q < f → wX_readTokens_102 post (nI p) (nI cm) x3 (nI keep) (f + 1) (nI o) (nI q) 1 (nI F) (nI L) (nI T) (nI F) vS vM vB vO vI vH vC a1 a2 a3 a4 a5 a6 a7 a8 a9 a10 a11 a12 a13 a14 a15 a16 a17 a18 a19 a20 a21 a22 a23 a24 a25 a26 := by
  intro f
  induction f with
  | zero =>
    intro o q F fk fs fz a8 a9 a10 _ _ _ _ _ _ _ _ h
    omega
  | succ f ih =>
    intro o q F fk fs fz a8 a9 a10 ho1 ho2 hF hq hfr h8 h9 h10 hf
    refine pk_lt 80 F (fun z => absurd z (by omega)) (fun _ => br_f (by decide) ⟨L - q + 1, ed_rt117 (q := q) hL h1 ht (fun q' g1 g2 g3 g4 => ?_) (L - q + 1) q 0 (by omega) hq (by omega) (fun k k1 k2 => absurd k2 (by omega)) (by omega)⟩)
    refine ed_rt144 (c := tx q') hL hT (by omega) ho2 g2 hpc (fun z => ⟨h1 q' z, g3 z⟩) (fun o' k1 k2 k3 => ?_) (fun k0 o' k1 k2 e k g5 g6 g7 => ?_)
    · have K := H o' q' F fk fs fz a8 a9 a10 (by omega) k2 k3 g2 (by omega) (ed_Fr_on hfr g1 g4) h8 h9 h10
      exact pk_lt 80 (F + 1) (fun _ => K) (fun _ => br_t rfl K)
    · exact ih o' e (F + 1) _ _ _ _ _ _ (by omega) k2 (by omega) g6 (ed_Fr_add (ed_Fr_on hfr g1 g4) (by omega) g5 g7) (ed_ar_up h8 k) (ed_ar_up h9 q') (ed_ar_up h10 (e - q')) (by omega)
theorem ed_rt6 {post : St2 → Prop} {x2 x3 : Int32} {T p : Nat} {st sz : Nat → Nat} (hT : T ≤ 80) (hp : p ≤ 1000) (h3 : ed_ar a3 st T) (h4 : ed_ar a4 sz T) (hb : ∀ k, k < T → st k + sz k ≤ 1000)
    (H : ∀ k, k ≤ T → (∀ j, j < k → st j + sz j < p) → (k = T ∨ p ≤ st k + sz k) → wX_readTokens_50 post (nI p) x2 x3 (nI k) vL (nI T) vF vS vM vB vO vI vH vC a1 a2 a3 a4 a5 a6 a7 a8 a9 a10 a11 a12 a13 a14 a15 a16 a17 a18 a19 a20 a21 a22 a23 a24 a25 a26) :
    ∀ (f k : Nat), k ≤ T → (∀ j, j < k → st j + sz j < p) → T - k < f → wX_readTokens_6 post (nI p) x2 x3 vL (nI T) vF vS vM vB vO vI vH vC a1 a2 a3 a4 a5 a6 a7 a8 a9 a10 a11 a12 a13 a14 a15 a16 a17 a18 a19 a20 a21 a22 a23 a24 a25 a26 f (nI k) (nI k) := by
  intro f
  induction f with
  | zero =>
    intro k _ _ h
    omega
  | succ f ih =>
    intro k hk hj hf
    refine pk_le 80 k (fun z => H k hk hj (Or.inl (by omega))) (fun _ => pk_le T k (fun z => H k hk hj (Or.inl (by omega))) (fun z => ?_))
    have hbk := hb k z
    refine ⟨pk_in k 81 (by omega), pk_in k 81 (by omega), pk_le p (st k + sz k) (fun w => H k hk hj (Or.inr w)) (fun w => nm_r (nI_1 k) (nm_r (nI_1 k) (ih (k + 1) (by omega) (lt_s hj w) (by omega)))) rfl (by rw [nI_clamp (by omega), h3 k z, h4 k z, nI_add])⟩
theorem ed_readTokens {post : St2 → Prop} {x3 : Int32} {L T S p cm : Nat} {tx st sz fi si : Nat → Nat} (hL : L ≤ 10) (hT : T ≤ 10) (hp : p ≤ L) (hcm : cm ≤ 1) (h1 : ed_ar a1 tx L) (ht : ∀ i, i < L → tx i ≤ 18) (h3 : ed_ar a3 st T) (h4 : ed_ar a4 sz T) (hb3 : ∀ k, k < T → st k + sz k ≤ 10)
    (h11 : ed_ar a11 fi S) (h12 : ed_ar a12 si S) (hS1 : 1 ≤ S) (hS : S ≤ 20) (hb : ∀ g, g < S → fi g + si g ≤ 20)
    (hfr : ∀ keep a, a < S → (∀ j, j < a → fi j + si j < keep) → fi a ≤ keep) (hlt : ∀ g, g + 1 < S → fi g + si g < T)
    (H : ∀ (keep fr old q F : Nat) (fk fs fz : Nat → Nat) (b8 b9 b10 : Nat → Int32), keep ≤ T → (∀ j, j < keep → st j + sz j < p) → (keep = T ∨ p ≤ st keep + sz keep) → ((fr = p ∧ (keep = T ∨ p ≤ st keep)) ∨ (keep < T ∧ st keep < p ∧ fr = st keep)) → keep ≤ old → old ≤ T → ((L ≤ q ∧ old = T) ∨ (q < L ∧ p + cm ≤ q)) → q ≤ L → fr + F ≤ q → ed_Fr L fr q F tx fk fs fz → ed_ar b8 fk F → ed_ar b9 fs F → ed_ar b10 fz F →
      ed_HT post T F S keep old fi si (nI L) vB vO vH vC a1 a2 a3 a4 b8 b9 b10 a11 a12 a13 a16 a17 a22 a23 a24 a25 a26) :
    wpX_readTokens post (nI L, nI T, vF, nI S, vM, vB, vO, vI, vH, vC, a1, a2, a3, a4, a5, a6, a7, a8, a9, a10, a11, a12, a13, a14, a15, a16, a17, a18, a19, a20, a21, a22, a23, a24, a25, a26) (nI p) (nI cm) x3 := by
  refine ⟨T + 1, ed_rt6 (by omega) (by omega) h3 h4 (fun k hk => Nat.le_trans (hb3 k hk) (by omega)) (fun keep k1 k2 k3 => ?_) (T + 1) 0 (by omega) lt_0 (by omega)⟩
  have go : ∀ fr, ((fr = p ∧ (keep = T ∨ p ≤ st keep)) ∨ (keep < T ∧ st keep < p ∧ fr = st keep)) → wX_readTokens_81 post (nI p) (nI cm) x3 (nI keep) (nI fr) (nI L) (nI T) vF (nI S) vM vB vO vI vH vC a1 a2 a3 a4 a5 a6 a7 a8 a9 a10 a11 a12 a13 a14 a15 a16 a17 a18 a19 a20 a21 a22 a23 a24 a25 a26 := by
    intro fr hf
    have hfp : fr ≤ p := by
      rcases hf with h | h
      · have := h.1
        omega
      · have := h.2
        omega
    refine ⟨L + 1 + 1, ed_rt102 (fr := fr) (by omega) (by omega) (by omega) h1 ht (fun old q F fk fs fz b8 b9 b10 g1 g2 g3 g4 g5 g6 g7 g8 g9 => ?_) (L + 1) keep fr 0 (fun _ => 0) (fun _ => 0) (fun _ => 0) a8 a9 a10 (by omega) k1 (by omega) (by omega) ⟨fun k hk => absurd hk (by omega), fun _ i i1 i2 => absurd i2 (by omega)⟩ (ed_ar_0 _ _) (ed_ar_0 _ _) (ed_ar_0 _ _) (by omega)⟩
    have K := H keep fr old q F fk fs fz b8 b9 b10 k1 k2 k3 hf g1 g2 g3 g4 g5 g6 g7 g8 g9
    refine ed_replaceTokens h11 h12 hS1 hS hb hT (by omega) g1 g2 (hfr keep) hlt ?_
    intro T' S' m b2 b3 b4 b5 b6 b7 b11 b12 b13 b14 b15 b16 b18 b19 b20 b21 hx
    exact K T' S' m b2 b3 b4 b5 b6 b7 b11 b12 b13 b14 b15 b16 b18 b19 b20 b21 hx
  have ek : (nI keep).toNatClampNeg = keep := nI_clamp (by omega)
  refine pk_le T keep (fun z => go p (Or.inl ⟨rfl, Or.inl (by omega)⟩)) (fun z => ⟨pk_in keep 81 (by omega), ?_⟩)
  have hb3k := hb3 keep z
  refine pk_le p (st keep) (fun w => go p (Or.inl ⟨rfl, Or.inr w⟩)) (fun w => ⟨pk_in keep 81 (by omega), ?_⟩) rfl (by rw [ek, h3 keep z])
  rw [ek, h3 keep z]
  exact go (st keep) (Or.inr ⟨z, w, rfl⟩)
end
end
section
section
/-- the tokens: in order, not touching over, each of the kind that its first character says -/
def ed_Tok (L T : Nat) (tx kd st sz : Nat → Nat) : Prop := ∀ k, k < T → 1 ≤ sz k ∧ st k + sz k ≤ L ∧ ed_KR L (st k) (tx (st k)) (kd k) ∧ ∀ j, j < k → st j + sz j ≤ st k
/-- the stretches tile the tokens -/
def ed_Str (S T : Nat) (kd fi si : Nat → Nat) : Prop := 1 ≤ S ∧ fi 0 = 0 ∧ (∀ g, g + 1 < S → fi (g + 1) = fi g + si g + 1 ∧ 8 ≤ kd (fi g + si g)) ∧ fi (S - 1) + si (S - 1) = T ∧ (∀ g k, g < S → k < si g → kd (fi g + k) < 8)
def ed_Pic (L T S : Nat) (tx kd st sz fi si : Nat → Nat) (a1 a2 a3 a4 a11 a12 a13 a16 : Nat → Int32) : Prop :=
  ed_ar a1 tx L ∧ (∀ i, i < L → tx i ≤ 18) ∧ ed_ar a2 kd T ∧ ed_ar a3 st T ∧ ed_ar a4 sz T ∧ ed_Tok L T tx kd st sz ∧ (T = 0 → ∀ i, i < L → tx i = 18) ∧ ed_ar a11 fi S ∧ ed_ar a12 si S ∧ ed_Str S T kd fi si ∧ (∀ g, g < S → a13 g = if g + 1 < S then nI (kd (fi g + si g)) else -1) ∧ (∀ g, g < S → a16 g = 0)
theorem ed_Tok_k {L T : Nat} {tx kd st sz : Nat → Nat} (h : ed_Tok L T tx kd st sz) : ∀ k, k < T → k ≤ st k := by
  intro k
  induction k with
  | zero => exact fun _ => Nat.zero_le _
  | succ k ih =>
    intro hk
    have h1 := ih (by omega)
    have h2 := (h (k + 1) hk).2.2.2 k (by omega)
    have h3 := (h k (by omega)).1
    omega
theorem ed_Tok_T {L T : Nat} {tx kd st sz : Nat → Nat} (h : ed_Tok L T tx kd st sz) : T ≤ L := by
  cases T with
  | zero => exact Nat.zero_le _
  | succ n =>
    have h1 := ed_Tok_k h n (by omega)
    have h2 := h n (by omega)
    omega
theorem ed_Str_e {S T : Nat} {kd fi si : Nat → Nat} (h : ed_Str S T kd fi si) : ∀ d g, g + d + 1 = S → fi g + si g + d ≤ T := by
  intro d
  induction d with
  | zero =>
    intro g hg
    have e : S - 1 = g := by omega
    have h4 := h.2.2.2.1
    rw [e] at h4
    omega
  | succ d ih =>
    intro g hg
    have h1 := ih (g + 1) (by omega)
    have h2 := (h.2.2.1 g (by omega)).1
    omega
theorem ed_Str_le {S T : Nat} {kd fi si : Nat → Nat} (h : ed_Str S T kd fi si) (g : Nat) (hg : g < S) : fi g + si g ≤ T := by
  have := ed_Str_e h (S - 1 - g) g (by omega)
  omega
theorem ed_Str_lt {S T : Nat} {kd fi si : Nat → Nat} (h : ed_Str S T kd fi si) (g : Nat) (hg : g + 1 < S) : fi g + si g < T := by
  have := ed_Str_e h (S - 1 - g) g (by omega)
  omega
theorem ed_Str_g {S T : Nat} {kd fi si : Nat → Nat} (h : ed_Str S T kd fi si) : ∀ g, g < S → g ≤ fi g := by
  intro g
  induction g with
  | zero => exact fun _ => Nat.zero_le _
  | succ g ih =>
    intro hg
    have h1 := ih (by omega)
    have h2 := (h.2.2.1 g hg).1
    omega
theorem ed_Str_S {S T : Nat} {kd fi si : Nat → Nat} (h : ed_Str S T kd fi si) : S ≤ T + 1 := by
  have h0 := h.1
  have h1 := ed_Str_g h (S - 1) (by omega)
  have h2 := h.2.2.2.1
  omega
theorem ed_Str_fr {S T : Nat} {kd fi si : Nat → Nat} (h : ed_Str S T kd fi si) (keep a : Nat) (ha : a < S) (hj : ∀ j, j < a → fi j + si j < keep) : fi a ≤ keep := by
  cases a with
  | zero =>
    rw [h.2.1]
    exact Nat.zero_le _
  | succ g =>
    have h1 := (h.2.2.1 g ha).1
    have h2 := hj g (by omega)
    omega
/-- a function with another behind a place -/
def ed_jn (f : Nat → Nat) (n : Nat) (g : Nat → Nat) : Nat → Nat := fun j => if j < n then f j else g (j - n)
theorem ed_jn_lo {f g : Nat → Nat} {n j : Nat} (h : j < n) : ed_jn f n g j = f j := by
  unfold ed_jn
  rw [if_pos h]
theorem ed_jn_hi {f g : Nat → Nat} {n k : Nat} : ed_jn f n g (n + k) = g k := by
  unfold ed_jn
  rw [if_neg (by omega), show n + k - n = k by omega]
theorem ed_ar_jn {a s : Nat → Int32} {f g : Nat → Nat} {n m T : Nat} (h : ed_ar a f T) (hn : n ≤ T) (hs : ∀ k, k < m → s k = nI (g k)) : ed_ar (ed_wr a n s m) (ed_jn f n g) (n + m) := by
  intro k hk
  by_cases e : k < n
  · rw [ed_wr_lo e, ed_jn_lo e]
    exact h k (by omega)
  · obtain ⟨j, rfl⟩ : ∃ j, k = n + j := ⟨k - n, by omega⟩
    rw [ed_wr_in (by omega), ed_jn_hi]
    exact hs j (by omega)
theorem ed_app_tok {L T q F keep fr c : Nat} {tx kd st sz fk fs fz : Nat → Nat} (h : ed_Tok L T tx kd st sz) (hk : keep ≤ T) (k2 : ∀ j, j < keep → st j + sz j < L)
    (hf : (fr = L ∧ (keep = T ∨ L ≤ st keep)) ∨ (keep < T ∧ st keep < L ∧ fr = st keep)) (hq : q ≤ L + 1) (hfr : ed_Fr (L + 1) fr q F (ed_fu tx L c) fk fs fz) :
    ed_Tok (L + 1) (keep + F) (ed_fu tx L c) (ed_jn kd keep fk) (ed_jn st keep fs) (ed_jn sz keep fz) := by
  intro k hkk
  by_cases e : k < keep
  · rw [ed_jn_lo e, ed_jn_lo e, ed_jn_lo e]
    obtain ⟨g1, g2, g3, g4⟩ := h k (by omega)
    refine ⟨g1, by omega, ?_, fun j hj => ?_⟩
    · rw [ed_fu_n (by omega)]
      exact ed_KR_mono g3 (by omega)
    · rw [ed_jn_lo (by omega), ed_jn_lo (by omega)]
      exact g4 j hj
  · obtain ⟨i, rfl⟩ : ∃ i, k = keep + i := ⟨k - keep, by omega⟩
    rw [ed_jn_hi, ed_jn_hi, ed_jn_hi]
    obtain ⟨g1, g2, g3, g4, g5⟩ := hfr.1 i (by omega)
    refine ⟨g1, by omega, g4, fun j hj => ?_⟩
    by_cases ej : j < keep
    · rw [ed_jn_lo ej, ed_jn_lo ej]
      have w := k2 j ej
      rcases hf with hf | hf
      · have := hf.1
        omega
      · have := (h keep hf.1).2.2.2 j ej
        have := hf.2.2
        omega
    · obtain ⟨y, rfl⟩ : ∃ y, j = keep + y := ⟨j - keep, by omega⟩
      rw [ed_jn_hi, ed_jn_hi]
      exact g5 y (by omega)
theorem ed_app_sp {L T q F keep fr c : Nat} {tx kd st sz fk fs fz : Nat → Nat} (h : ed_Tok L T tx kd st sz) (h0 : T = 0 → ∀ i, i < L → tx i = 18) (hk : keep ≤ T)
    (hf : (fr = L ∧ (keep = T ∨ L ≤ st keep)) ∨ (keep < T ∧ st keep < L ∧ fr = st keep)) (hq : L + 1 ≤ q) (hfr : ed_Fr (L + 1) fr q F (ed_fu tx L c) fk fs fz) :
    keep + F = 0 → ∀ i, i < L + 1 → ed_fu tx L c i = 18 := by
  intro z i hi
  have hF := hfr.2 (by omega)
  have e0 : keep = 0 := by omega
  subst e0
  rcases hf with ⟨f1, f2⟩ | ⟨f1, f2, f3⟩
  · have t0 : T = 0 := by
      rcases f2 with f2 | f2
      · omega
      · rcases Nat.eq_zero_or_pos T with t | t
        · exact t
        · have := h 0 t
          omega
    by_cases e : i < L
    · rw [ed_fu_n (by omega)]
      exact h0 t0 i e
    · exact hF i (by omega) (by omega)
  · have w := hF (st 0) (by omega) (by omega)
    rw [ed_fu_n (by omega)] at w
    have := (h 0 f1).2.2.1.1
    omega
theorem ed_nx_p (a2 : Nat → Int32) (T : Nat) : ∀ f b, T ≤ b + f → (∀ j, b ≤ j → j < ed_nx a2 T f b → j < T ∧ a2 j < 8) ∧ (ed_nx a2 T f b < T → ¬ a2 (ed_nx a2 T f b) < 8) := by
  intro f
  induction f with
  | zero =>
    intro b hb
    exact ⟨fun j h1 h2 => absurd (show j < b from h2) (by omega), fun z => absurd (show b < T from z) (by omega)⟩
  | succ f ih =>
    intro b hb
    unfold ed_nx
    by_cases h1 : T ≤ b
    · rw [if_pos h1]
      exact ⟨fun j h2 h3 => absurd h3 (by omega), fun z => absurd z (by omega)⟩
    · rw [if_neg h1]
      by_cases h2 : a2 b < 8
      · rw [if_pos h2]
        have h := ih (b + 1) (by omega)
        refine ⟨fun j j1 j2 => ?_, h.2⟩
        by_cases e : j = b
        · rw [e]
          exact ⟨by omega, h2⟩
        · exact h.1 j (by omega) j2
      · rw [if_neg h2]
        exact ⟨fun j h2 h3 => absurd h3 (by omega), fun _ => h2⟩
theorem ed_ec_same {a2 : Nat → Int32} {lo n : Nat} : ∀ d, (∀ j, n ≤ j → j < n + d → a2 (lo + j) < 8) → ed_ec a2 lo (n + d) = ed_ec a2 lo n := by
  intro d
  induction d with
  | zero => exact fun _ => rfl
  | succ d ih =>
    intro h
    show ed_ec a2 lo (n + d) + (if a2 (lo + (n + d)) < 8 then 0 else 1) = ed_ec a2 lo n
    rw [if_pos (h (n + d) (by omega) (by omega)), ih (fun j h1 h2 => h j h1 (by omega))]
    rfl
theorem ed_ec_mono {a2 : Nat → Int32} {lo n : Nat} : ∀ d, ed_ec a2 lo n ≤ ed_ec a2 lo (n + d) := by
  intro d
  induction d with
  | zero => exact Nat.le_refl _
  | succ d ih =>
    show ed_ec a2 lo n ≤ ed_ec a2 lo (n + d) + _
    omega
theorem ed_bg_c {a2 : Nat → Int32} {T fr E : Nat} (hT : T ≤ 80) (hf : fr ≤ T) (hE : E = ed_ec a2 fr (T - fr)) : ∀ i, i ≤ E → fr ≤ ed_bg a2 T fr i ∧ ed_bg a2 T fr i ≤ T ∧ ed_ec a2 fr (ed_bg a2 T fr i - fr) = i ∧ (i < E → ed_nx a2 T 81 (ed_bg a2 T fr i) < T) ∧ (i = E → ed_nx a2 T 81 (ed_bg a2 T fr i) = T) := by
  have step : ∀ i, i ≤ E → fr ≤ ed_bg a2 T fr i → ed_bg a2 T fr i ≤ T → ed_ec a2 fr (ed_bg a2 T fr i - fr) = i → ed_ec a2 fr (ed_nx a2 T 81 (ed_bg a2 T fr i) - fr) = i ∧ (i < E → ed_nx a2 T 81 (ed_bg a2 T fr i) < T) ∧ (i = E → ed_nx a2 T 81 (ed_bg a2 T fr i) = T) := by
    intro i hi h1 h2 h3
    generalize hb : ed_bg a2 T fr i = b at h1 h2 h3 ⊢
    have hp := ed_nx_p a2 T 81 b (by omega)
    have hn := ed_nx_in a2 T 81 b
    generalize ht : ed_nx a2 T 81 b = t at hp hn ⊢
    have e1 : ed_ec a2 fr (t - fr) = i := by
      have w := ed_ec_same (a2 := a2) (lo := fr) (n := b - fr) (t - b) (fun j j1 j2 => (hp.1 (fr + j) (by omega) (by omega)).2)
      rw [show b - fr + (t - b) = t - fr by omega] at w
      rw [w, h3]
    refine ⟨e1, fun z => ?_, fun z => ?_⟩
    · rcases Nat.lt_or_ge t T with w | w
      · exact w
      · have e : t = T := by omega
        rw [e] at e1
        omega
    · rcases Nat.lt_or_ge t T with w | w
      · have g := hp.2 w
        have e2 : ed_ec a2 fr (t - fr + 1) = ed_ec a2 fr (t - fr) + (if a2 (fr + (t - fr)) < 8 then 0 else 1) := rfl
        rw [show fr + (t - fr) = t by omega, if_neg g, e1] at e2
        have e3 := ed_ec_mono (a2 := a2) (lo := fr) (n := t - fr + 1) (T - (t + 1))
        rw [show t - fr + 1 + (T - (t + 1)) = T - fr by omega] at e3
        omega
      · omega
  intro i
  induction i with
  | zero =>
    intro hi
    have b0 : ed_bg a2 T fr 0 = fr := rfl
    have e0 : ed_ec a2 fr (ed_bg a2 T fr 0 - fr) = 0 := by
      rw [b0, Nat.sub_self]
      rfl
    have s := step 0 hi (by omega) (by omega) e0
    exact ⟨by omega, by omega, e0, s.2⟩
  | succ i ih =>
    intro hi
    obtain ⟨h1, h2, h3, h4, h5⟩ := ih (by omega)
    have s := step i (by omega) h1 h2 h3
    have hlt := h4 (by omega)
    have hn := ed_nx_in a2 T 81 (ed_bg a2 T fr i)
    have hp := ed_nx_p a2 T 81 (ed_bg a2 T fr i) (by omega)
    have b1 : ed_bg a2 T fr (i + 1) = ed_nx a2 T 81 (ed_bg a2 T fr i) + 1 := rfl
    have g := hp.2 hlt
    generalize ed_nx a2 T 81 (ed_bg a2 T fr i) = t at s hlt hn hp b1 g
    have e2 : ed_ec a2 fr (t - fr + 1) = ed_ec a2 fr (t - fr) + (if a2 (fr + (t - fr)) < 8 then 0 else 1) := rfl
    rw [show fr + (t - fr) = t by omega, if_neg g, s.1] at e2
    have e3 : ed_ec a2 fr (ed_bg a2 T fr (i + 1) - fr) = i + 1 := by
      rw [b1, show t + 1 - fr = t - fr + 1 by omega]
      exact e2
    have s' := step (i + 1) hi (by omega) (by omega) e3
    exact ⟨by omega, by omega, e3, s'.2⟩
def ed_zz (a2 : Nat → Int32) (T fr : Nat) (i : Nat) : Nat := ed_nx a2 T 81 (ed_bg a2 T fr i) - ed_bg a2 T fr i
theorem ed_lt8 {k : Nat} (h : k ≤ 10) : (nI k < 8) ↔ k < 8 := nI_ltI (b := 8) (by omega) (by omega)
/-- an append keeps the stretches -/
theorem ed_app_str {S T T' keep a E : Nat} {kd kd' fi si : Nat → Nat} {b2 : Nat → Int32} (h : ed_Str S T kd fi si) (ha : a < S) (ha2 : ∀ j, j < a → fi j + si j < keep) (hT' : T' ≤ 80) (hkT : keep ≤ T') (hE : E = ed_ec b2 (fi a) (T' - fi a))
    (h2 : ed_ar b2 kd' T') (h10 : ∀ k, k < T' → kd' k ≤ 10) (hlo : ∀ k, k < keep → kd' k = kd k) :
    ed_Str (a + E + 1) T' kd' (ed_jn fi a (ed_bg b2 T' (fi a))) (ed_jn si a (ed_zz b2 T' (fi a))) ∧
      (∀ i, i ≤ E → ed_sE b2 T' (fi a) i = if i < E then nI (kd' (ed_bg b2 T' (fi a) i + ed_zz b2 T' (fi a) i)) else -1) := by
  have hfa := ed_Str_fr h keep a ha ha2
  have C := ed_bg_c (a2 := b2) (T := T') (fr := fi a) (E := E) hT' (by omega) hE
  have Z : ∀ i, ed_bg b2 T' (fi a) i + ed_zz b2 T' (fi a) i = ed_nx b2 T' 81 (ed_bg b2 T' (fi a) i) := by
    intro i
    have := ed_nx_in b2 T' 81 (ed_bg b2 T' (fi a) i)
    unfold ed_zz
    omega
  have P : ∀ i, i ≤ E → (∀ j, ed_bg b2 T' (fi a) i ≤ j → j < ed_nx b2 T' 81 (ed_bg b2 T' (fi a) i) → j < T' ∧ kd' j < 8) ∧ (ed_nx b2 T' 81 (ed_bg b2 T' (fi a) i) < T' → 8 ≤ kd' (ed_nx b2 T' 81 (ed_bg b2 T' (fi a) i))) := by
    intro i hi
    have w := ed_nx_p b2 T' 81 (ed_bg b2 T' (fi a) i) (by omega)
    refine ⟨fun j j1 j2 => ?_, fun z => ?_⟩
    · obtain ⟨w1, w2⟩ := w.1 j j1 j2
      rw [h2 j w1] at w2
      exact ⟨w1, (ed_lt8 (h10 j w1)).mp w2⟩
    · have w2 := w.2 z
      rw [h2 _ z] at w2
      rcases Nat.lt_or_ge (kd' (ed_nx b2 T' 81 (ed_bg b2 T' (fi a) i))) 8 with y | y
      · exact absurd ((ed_lt8 (h10 _ z)).mpr y) w2
      · exact y
  refine ⟨⟨by omega, ?_, fun g hg => ?_, ?_, fun g k hg hk => ?_⟩, fun i hi => ?_⟩
  · by_cases e : 0 < a
    · rw [ed_jn_lo e]
      exact h.2.1
    · have e0 : a = 0 := by omega
      subst e0
      show ed_jn fi 0 _ (0 + 0) = 0
      rw [ed_jn_hi]
      exact h.2.1
  · by_cases e : g < a
    · have hs := h.2.2.1 g (by omega)
      have hk := ha2 g e
      rw [ed_jn_lo e, ed_jn_lo e, hlo _ hk]
      refine ⟨?_, hs.2⟩
      by_cases e1 : g + 1 < a
      · rw [ed_jn_lo e1]
        exact hs.1
      · have e2 : g + 1 = a + 0 := by omega
        rw [e2, ed_jn_hi, ← hs.1]
        show fi a = fi (g + 1)
        rw [e2]
        rfl
    · obtain ⟨i, rfl⟩ : ∃ i, g = a + i := ⟨g - a, by omega⟩
      rw [show a + i + 1 = a + (i + 1) by omega, ed_jn_hi, ed_jn_hi, ed_jn_hi, Z i]
      exact ⟨rfl, (P i (by omega)).2 ((C i (by omega)).2.2.2.1 (by omega))⟩
  · rw [show a + E + 1 - 1 = a + E by omega, ed_jn_hi, ed_jn_hi, Z E]
    exact (C E (Nat.le_refl E)).2.2.2.2 rfl
  · by_cases e : g < a
    · rw [ed_jn_lo e] at hk
      rw [ed_jn_lo e]
      have hk2 := ha2 g e
      rw [hlo _ (by omega)]
      exact h.2.2.2.2 g k (by omega) hk
    · obtain ⟨i, rfl⟩ : ∃ i, g = a + i := ⟨g - a, by omega⟩
      rw [ed_jn_hi] at hk
      rw [ed_jn_hi]
      have z := Z i
      exact ((P i (by omega)).1 _ (by omega) (by omega)).2
  · rw [Z i]
    unfold ed_sE ed_ek
    have c := C i hi
    by_cases e : i < E
    · have w := c.2.2.2.1 e
      rw [if_pos e, if_neg (by omega), h2 _ w]
    · have w := c.2.2.2.2 (by omega)
      rw [if_neg e, if_pos (by omega)]
/-- an append keeps the picture -/
theorem ed_app {L T S keep fr q F c T' S' a E : Nat} {tx kd st sz fi si fk fs fz : Nat → Nat} {a1 a2 a3 a4 a11 a12 a13 a16 b8 b9 b10 : Nat → Int32} (h : ed_Pic L T S tx kd st sz fi si a1 a2 a3 a4 a11 a12 a13 a16) (hL : L ≤ 9) (hc : c ≤ 18)
    (hk : keep ≤ T) (k2 : ∀ j, j < keep → st j + sz j < L) (hf : (fr = L ∧ (keep = T ∨ L ≤ st keep)) ∨ (keep < T ∧ st keep < L ∧ fr = st keep)) (hq : L + 1 ≤ q) (hq2 : q ≤ L + 1)
    (hfr : ed_Fr (L + 1) fr q F (ed_fu tx L c) fk fs fz) (h8 : ed_ar b8 fk F) (h9 : ed_ar b9 fs F) (h10 : ed_ar b10 fz F) (hT' : T' = keep + F)
    (ha : a < S) (ha2 : ∀ j, j < a → fi j + si j < keep) (hE : E = ed_ec (ed_wr a2 keep b8 F) (fi a) (T' - fi a)) (hS' : S' = a + E + 1) :
    ed_Pic (L + 1) T' S' (ed_fu tx L c) (ed_jn kd keep fk) (ed_jn st keep fs) (ed_jn sz keep fz) (ed_jn fi a (ed_bg (ed_wr a2 keep b8 F) T' (fi a))) (ed_jn si a (ed_zz (ed_wr a2 keep b8 F) T' (fi a)))
      (upd a1 L (nI c)) (ed_wr a2 keep b8 F) (ed_wr a3 keep b9 F) (ed_wr a4 keep b10 F) (ed_wr a11 a (ed_sF (ed_wr a2 keep b8 F) T' (fi a)) (E + 1)) (ed_wr a12 a (ed_sZ (ed_wr a2 keep b8 F) T' (fi a)) (E + 1)) (ed_wr a13 a (ed_sE (ed_wr a2 keep b8 F) T' (fi a)) (E + 1)) (ed_wr a16 a ed_zr (E + 1)) := by
  obtain ⟨p1, p2, p3, p4, p5, p6, p7, p8, p9, p10, p11, p12⟩ := h
  subst hT'
  have tok := ed_app_tok (c := c) p6 hk k2 hf hq2 hfr
  have tl := ed_Tok_T tok
  have r2 := ed_ar_jn p3 hk h8
  have k10 : ∀ k, k < keep + F → ed_jn kd keep fk k ≤ 10 := fun k hkk => ed_KR_10 (tok k hkk).2.2.1
  have str := ed_app_str (kd' := ed_jn kd keep fk) p10 ha ha2 (by omega) (by omega) hE r2 k10 (fun k hk => ed_jn_lo hk)
  subst hS'
  refine ⟨ed_ar_up p1 c, fun i hi => ?_, r2, ed_ar_jn p4 hk h9, ed_ar_jn p5 hk h10, tok, ed_app_sp p6 p7 hk hf hq hfr, ed_ar_jn p8 (by omega) (fun k hk => rfl), ed_ar_jn p9 (by omega) (fun k hk => rfl), str.1, fun g hg => ?_, fun g hg => ?_⟩
  · by_cases e : i = L
    · subst e
      rw [ed_fu_s]
      exact hc
    · rw [ed_fu_n e]
      exact p2 i (by omega)
  · by_cases e : g < a
    · have w := ha2 g e
      rw [ed_wr_lo e, p11 g (by omega), if_pos (by omega), if_pos (by omega), ed_jn_lo e, ed_jn_lo e, ed_jn_lo w]
    · obtain ⟨i, rfl⟩ : ∃ i, g = a + i := ⟨g - a, by omega⟩
      rw [ed_wr_in (by omega), str.2 i (by omega), ed_jn_hi, ed_jn_hi]
      by_cases e : i < E
      · rw [if_pos e, if_pos (by omega)]
      · rw [if_neg e, if_neg (by omega)]
  · by_cases e : g < a
    · rw [ed_wr_lo e]
      exact p12 g (by omega)
    · obtain ⟨i, rfl⟩ : ∃ i, g = a + i := ⟨g - a, by omega⟩
      rw [ed_wr_in (by omega)]
      rfl
theorem ed_init : ed_Pic 0 0 1 (fun _ => 0) (fun _ => 0) (fun _ => 0) (fun _ => 0) (fun _ => 0) (fun _ => 0) (fun _ => 0) (fun _ => 0) (fun _ => 0) (fun _ => 0) (fun _ => 0) (fun _ => 0) (upd (fun _ => 0) 0 (-1)) (fun _ => 0) := by
  refine ⟨ed_ar_0 _ _, fun i hi => absurd hi (by omega), ed_ar_0 _ _, ed_ar_0 _ _, ed_ar_0 _ _, fun k hk => absurd hk (by omega), fun _ i hi => absurd hi (by omega), fun k hk => rfl, fun k hk => rfl, ⟨by omega, rfl, fun g hg => absurd hg (by omega), rfl, fun g k hg hk => absurd (show k < 0 from hk) (by omega)⟩, fun g hg => ?_, fun g hg => rfl⟩
  have e : g = 0 := by omega
  subst e
  rw [pk_us, if_neg (by omega)]
end
end
section
section
variable {vL vT vF vS vM vB vO vI vH vC : Int32} {a1 a2 a3 a4 a5 a6 a7 a8 a9 a10 a11 a12 a13 a14 a15 a16 a17 a18 a19 a20 a21 a22 a23 a24 a25 a26 : Nat → Int32}
def ed_G (L : Nat) (tx : Nat → Nat) (u : St2) : Prop := match u with
  | (vL, vT, vF, vS, vM, vB, vO, vI, vH, vC, a1, a2, a3, a4, a5, a6, a7, a8, a9, a10, a11, a12, a13, a14, a15, a16, a17, a18, a19, a20, a21, a22, a23, a24, a25, a26) => ∃ (T S : Nat) (kd st sz fi si : Nat → Nat), vL = nI L ∧ vT = nI T ∧ vS = nI S ∧ vI = 0 ∧ ed_Pic L T S tx kd st sz fi si a1 a2 a3 a4 a11 a12 a13 a16
/-- a part of an append that is taken: none, or a character -/
def ed_gd (x : Int32) : Prop := x = -1 ∨ ∃ c : Nat, c ≤ 18 ∧ x = nI c
theorem ed_ne1 {c : Nat} (h : c < 2 ^ 31) : ¬ nI c = -1 := by
  intro e
  have w := nI_pos h
  rw [e] at w
  exact w (by decide)
theorem ed_18 {x : Int32} (h0 : ¬ x < 0) (h1 : x ≤ 18) : ∃ c : Nat, c ≤ 18 ∧ x = nI c := nI_of2 (M := 18) (n := 18) (by decide) h0 h1
theorem ed_badCh {post : Int32 → Prop} {x : Int32} (h0 : ∀ c : Nat, c ≤ 18 → x = nI c → post 0) (h1 : (x < 0 ∨ ¬ x ≤ 18) → post 1) : wpX_badCharacter post (vL, vT, vF, vS, vM, vB, vO, vI, vH, vC, a1, a2, a3, a4, a5, a6, a7, a8, a9, a10, a11, a12, a13, a14, a15, a16, a17, a18, a19, a20, a21, a22, a23, a24, a25, a26) x :=
  br_c (fun h => h1 (Or.inl h)) (fun h => br_c (fun g => Exists.elim (ed_18 h g) (fun c hc => h0 c hc.1 hc.2)) (fun g => h1 (Or.inr g)))
theorem ed_gd_no {x : Int32} (h : ¬ x = -1) (g : x < 0 ∨ ¬ x ≤ 18) : ¬ ed_gd x := by
  intro w
  rcases w with w | ⟨c, hc, rfl⟩
  · exact h w
  · rcases g with g | g
    · exact nI_pos (by omega) g
    · exact g (nI_le (b := 18) hc (by omega))
theorem ed_badPart {post : Int32 → Prop} {x : Int32} (h0 : ed_gd x → post 0) (h1 : ¬ ed_gd x → post 1) : wpX_badPart post (vL, vT, vF, vS, vM, vB, vO, vI, vH, vC, a1, a2, a3, a4, a5, a6, a7, a8, a9, a10, a11, a12, a13, a14, a15, a16, a17, a18, a19, a20, a21, a22, a23, a24, a25, a26) x :=
  br_c (fun e => h0 (Or.inl e)) (fun e => ed_badCh (fun c hc ex => br_t rfl (h0 (Or.inr ⟨c, hc, ex⟩))) (fun g => br_f (by decide) (h1 (ed_gd_no e g))))
theorem ed_insert {post : Int32 → St2 → Prop} {L c : Nat} {tx : Nat → Nat} {u : St2} (hu : ed_G L tx u) (hL : L ≤ 9) (hc : c ≤ 18) (H : ∀ u', ed_G (L + 1) (ed_fu tx L c) u' → post (nI (L + 1)) u') : wpX_insert post u (nI L) (nI c) := by
  obtain ⟨vL, vT, vF, vS, vM, vB, vO, vI, vH, vC, a1, a2, a3, a4, a5, a6, a7, a8, a9, a10, a11, a12, a13, a14, a15, a16, a17, a18, a19, a20, a21, a22, a23, a24, a25, a26⟩ := u
  obtain ⟨T, S, kd, st, sz, fi, si, e1, e2, e3, e4, hp⟩ := hu
  subst e1 e2 e3 e4
  have hp' := hp
  obtain ⟨p1, p2, p3, p4, p5, p6, p7, p8, p9, p10, p11, p12⟩ := hp'
  have hT := ed_Tok_T p6
  have hS := ed_Str_S p10
  unfold wpX_insert
  refine ed_badCh (fun _ _ _ => br_t rfl ?_) (fun g => absurd (Or.inr ⟨c, hc, rfl⟩) (ed_gd_no (ed_ne1 (by omega)) g))
  refine br_f (nI_pos (by omega)) (pk_le L L (fun _ => ?_) (fun z => absurd z (by omega)))
  refine pk_eq L 80 (fun z => absurd z (by omega)) (fun _ => ⟨1, ?_⟩)
  refine pk_le L L (fun _ => ⟨pk_in L 80 (by omega), nm_r (e' := upd a1 L (nI c)) (by rw [nI_clamp (by omega)]) (nm_r (nI_1 L) ?_)⟩) (fun z => absurd z (by omega))
  refine ed_readTokens (cm := 1) (tx := ed_fu tx L c) (by omega) (by omega) (by omega) (by omega) (ed_ar_up p1 c) (fun i hi => ?_) p4 p5 (fun k hk => ?_) p8 p9 p10.1 (by omega) (fun g hg => ?_) (ed_Str_fr p10) (ed_Str_lt p10) ?_
  · by_cases e : i = L
    · subst e
      rw [ed_fu_s]
      exact hc
    · rw [ed_fu_n e]
      exact p2 i (by omega)
  · have := (p6 k hk).2.1
    omega
  · have := ed_Str_le p10 g hg
    omega
  · intro keep fr old q F fk fs fz b8 b9 b10 g1 g2 g3 g4 g5 g6 g7 g8 g9 g10 g11 g12 g13
    intro T' S' m b2 b3 b4 b5 b6 b7 b11 b12 b13 b14 b15 b16 b18 b19 b20 b21 hx
    have eo : old = T ∧ L + 1 ≤ q := by
      rcases g7 with g | g
      · exact ⟨g.2, g.1⟩
      · omega
    obtain ⟨x1, x2, x3, x4, a, E, y1, y2, y3, y4, y5, y6, y7, y8, y9⟩ := hx eo.1
    subst x2 x3 x4 y6 y7 y8 y9
    exact H _ ⟨T', S', _, _, _, _, _, rfl, rfl, rfl, rfl, ed_app hp hL hc g1 g2 g4 eo.2 g8 g10 g11 g12 g13 x1 y1 y2 y4 y5⟩
theorem ed_step {post : St2 → Prop} {L : Nat} {tx : Nat → Nat} {u : St2} {x : Int32} (hx : ed_gd x) (hu : ed_G L tx u) (hL : L ≤ 9) (H : ∀ (u' : St2) (L' : Nat) (tx' : Nat → Nat), L' = L + (if x = -1 then 0 else 1) → ed_G L' tx' u' → (∀ i, i < L → tx' i = tx i) → post u') : wpX_appendOne post u x := by
  obtain ⟨vL, vT, vF, vS, vM, vB, vO, vI, vH, vC, a1, a2, a3, a4, a5, a6, a7, a8, a9, a10, a11, a12, a13, a14, a15, a16, a17, a18, a19, a20, a21, a22, a23, a24, a25, a26⟩ := u
  rcases hx with rfl | ⟨c, hc, rfl⟩
  · exact br_t rfl (H _ L tx rfl hu (fun _ _ => rfl))
  · have n1 := ed_ne1 (c := c) (by omega)
    refine br_f n1 ?_
    have hu' := hu
    obtain ⟨T, S, kd, st, sz, fi, si, e1, _⟩ := hu'
    subst e1
    refine ed_insert hu hL hc (fun u' hu' => ?_)
    obtain ⟨vL, vT, vF, vS, vM, vB, vO, vI, vH, vC, a1, a2, a3, a4, a5, a6, a7, a8, a9, a10, a11, a12, a13, a14, a15, a16, a17, a18, a19, a20, a21, a22, a23, a24, a25, a26⟩ := u'
    exact H _ (L + 1) _ (by rw [if_neg n1]) hu' (fun i hi => ed_fu_n (by omega))
theorem ed_ap78 {post : Int32 → St2 → Prop} {L m : Nat} {tx : Nat → Nat} {a b z0 z1 : Int32} (ha : ed_gd a) (hb : ed_gd b) (hu : ed_G L tx (vL, vT, vF, vS, vM, vB, vO, vI, vH, vC, a1, a2, a3, a4, a5, a6, a7, a8, a9, a10, a11, a12, a13, a14, a15, a16, a17, a18, a19, a20, a21, a22, a23, a24, a25, a26)) (hL : L ≤ 5) (hm : m ≤ 4) (hz : z1 + z0 = nI m)
    (H : ∀ (u' : St2) (L' : Nat) (tx' : Nat → Nat), L' = L + (if a = -1 then 0 else 1) + (if b = -1 then 0 else 1) + (if a = -1 then 0 else 1) → ed_G L' tx' u' → (∀ i, i < L → tx' i = tx i) → post (nI L') u') : wX_append_78 post a b (-1) a z0 z1 vL vT vF vS vM vB vO vI vH vC a1 a2 a3 a4 a5 a6 a7 a8 a9 a10 a11 a12 a13 a14 a15 a16 a17 a18 a19 a20 a21 a22 a23 a24 a25 a26 := by
  have hu' := hu
  obtain ⟨T, S, kd, st, sz, fi, si, e1, _⟩ := hu'
  subst e1
  refine nm_r (e' := nI m) hz (pk_le (L + m) 80 (fun _ => ?_) (fun z => absurd z (by omega)) (nI_add L m))
  have i1 : (if a = -1 then 0 else 1) ≤ 1 := by split <;> omega
  have i2 : (if b = -1 then 0 else 1) ≤ 1 := by split <;> omega
  refine ed_step ha hu (by omega) (fun u1 L1 tx1 q1 h1 r1 => ?_)
  obtain ⟨vL, vT, vF, vS, vM, vB, vO, vI, vH, vC, a1, a2, a3, a4, a5, a6, a7, a8, a9, a10, a11, a12, a13, a14, a15, a16, a17, a18, a19, a20, a21, a22, a23, a24, a25, a26⟩ := u1
  refine ed_step hb h1 (by omega) (fun u2 L2 tx2 q2 h2 r2 => ?_)
  obtain ⟨vL, vT, vF, vS, vM, vB, vO, vI, vH, vC, a1, a2, a3, a4, a5, a6, a7, a8, a9, a10, a11, a12, a13, a14, a15, a16, a17, a18, a19, a20, a21, a22, a23, a24, a25, a26⟩ := u2
  refine ed_step (Or.inl rfl) h2 (by omega) (fun u3 L3 tx3 q3 h3 r3 => ?_)
  rw [if_pos rfl] at q3
  obtain ⟨vL, vT, vF, vS, vM, vB, vO, vI, vH, vC, a1, a2, a3, a4, a5, a6, a7, a8, a9, a10, a11, a12, a13, a14, a15, a16, a17, a18, a19, a20, a21, a22, a23, a24, a25, a26⟩ := u3
  refine ed_step ha h3 (by omega) (fun u4 L4 tx4 q4 h4 r4 => ?_)
  obtain ⟨vL, vT, vF, vS, vM, vB, vO, vI, vH, vC, a1, a2, a3, a4, a5, a6, a7, a8, a9, a10, a11, a12, a13, a14, a15, a16, a17, a18, a19, a20, a21, a22, a23, a24, a25, a26⟩ := u4
  have h4' := h4
  obtain ⟨T', S', kd', st', sz', fi', si', e1, _⟩ := h4'
  have K := H _ L4 tx4 (by omega) h4 (fun i hi => by rw [r4 i (by omega), r3 i (by omega), r2 i (by omega), r1 i hi])
  rw [← e1] at K
  exact K
theorem ed_append {post : Int32 → St2 → Prop} {L : Nat} {tx : Nat → Nat} {a b : Int32} {u : St2} (hu : ed_G L tx u) (hL : L ≤ 5) (H0 : ¬ (ed_gd a ∧ ed_gd b) → post (-1) u)
    (H : ed_gd a → ed_gd b → ∀ (u' : St2) (L' : Nat) (tx' : Nat → Nat), L' = L + (if a = -1 then 0 else 1) + (if b = -1 then 0 else 1) + (if a = -1 then 0 else 1) → ed_G L' tx' u' → (∀ i, i < L → tx' i = tx i) → post (nI L') u') : wpX_append post u a b (-1) a := by
  obtain ⟨vL, vT, vF, vS, vM, vB, vO, vI, vH, vC, a1, a2, a3, a4, a5, a6, a7, a8, a9, a10, a11, a12, a13, a14, a15, a16, a17, a18, a19, a20, a21, a22, a23, a24, a25, a26⟩ := u
  unfold wpX_append
  refine ed_badPart (fun ha => br_t rfl ?_) (fun ha => br_f (by decide) (H0 (fun w => ha w.1)))
  refine ed_badPart (fun hb => br_t rfl ?_) (fun hb => br_f (by decide) (H0 (fun w => hb w.2)))
  refine ed_badPart (fun _ => br_t rfl ?_) (fun h => absurd (Or.inl rfl) h)
  refine ed_badPart (fun _ => br_t rfl ?_) (fun h => absurd ha h)
  refine br_c (fun ea => br_c (fun eb => ?_) (fun eb => ?_)) (fun ea => br_c (fun eb => ?_) (fun eb => ?_))
  · exact br_t rfl (br_t ea (ed_ap78 (m := 0) ha hb hu hL (by omega) (by decide) (H ha hb)))
  · exact br_t rfl (br_t ea (ed_ap78 (m := 1) ha hb hu hL (by omega) (by decide) (H ha hb)))
  · exact br_t rfl (br_f ea (ed_ap78 (m := 2) ha hb hu hL (by omega) (by decide) (H ha hb)))
  · exact br_t rfl (br_f ea (ed_ap78 (m := 3) ha hb hu hL (by omega) (by decide) (H ha hb)))
theorem ed_ct2 {post : St2 → Prop} {L p n : Nat} (hL : L ≤ 10) (hn : n ≤ L)
    (H : ∀ (tx : Nat → Nat) (a1 : Nat → Int32), ed_ar a1 tx L → (∀ i, i < L → tx i ≤ 18) → ∀ P : St2 → Prop, (∀ (vL vT vF vS vM vB vO vI vH vC : Int32) (a1 a2 a3 a4 a5 a6 a7 a8 a9 a10 a11 a12 a13 a14 a15 a16 a17 a18 a19 a20 a21 a22 a23 a24 a25 a26 : Nat → Int32), post (vL, vT, vF, vS, vM, vB, vO, vI, vH, vC, a1, a2, a3, a4, a5, a6, a7, a8, a9, a10, a11, a12, a13, a14, a15, a16, a17, a18, a19, a20, a21, a22, a23, a24, a25, a26) → P (vL, vT, vF, vS, vM, vB, vO, vI, vH, vC, a1, a2, a3, a4, a5, a6, a7, a8, a9, a10, a11, a12, a13, a14, a15, a16, a17, a18, a19, a20, a21, a22, a23, a24, a25, a26)) → wpX_readTokens P (nI (L - n), vT, vF, vS, vM, vB, vO, vI, vH, vC, a1, a2, a3, a4, a5, a6, a7, a8, a9, a10, a11, a12, a13, a14, a15, a16, a17, a18, a19, a20, a21, a22, a23, a24, a25, a26) (nI p) (nI 0) (-nI n)) :
    ∀ (d k : Nat) (tx : Nat → Nat) (a1 : Nat → Int32), k + n + d = L → ed_ar a1 tx L → (∀ i, i < L → tx i ≤ 18) → wX_cut_2 post (nI p) (nI n) (nI L) vT vF vS vM vB vO vI vH vC (d + 1) (nI k) a1 a2 a3 a4 a5 a6 a7 a8 a9 a10 a11 a12 a13 a14 a15 a16 a17 a18 a19 a20 a21 a22 a23 a24 a25 a26 := by
  intro d
  induction d with
  | zero =>
    intro k tx a1 hk h1 h2
    refine pk_le L (k + n) (fun _ => nm_r (pk_sub hn) ?_) (fun z => absurd z (by omega)) rfl (nI_add k n)
    exact H tx a1 h1 h2 _ (fun _ _ _ _ _ _ _ _ _ _ _ _ _ _ _ _ _ _ _ _ _ _ _ _ _ _ _ _ _ _ _ _ _ _ _ _ h => h)
  | succ d ih =>
    intro k tx a1 hk h1 h2
    refine pk_le L (k + n) (fun z => absurd z (by omega)) (fun _ => ?_) rfl (nI_add k n)
    refine ⟨pk_in (k + n) 80 (by omega) (nI_add k n), pk_in k 80 (by omega), nm_r (e' := upd a1 k (nI (tx (k + n)))) (by rw [nI_add, nI_clamp (by omega), nI_clamp (by omega), h1 (k + n) (by omega)]) (nm_r (nI_1 k) (ih (k + 1) (ed_fu tx k (tx (k + n))) _ (by omega) (fun i hi => ?_) (fun i hi => ?_)))⟩
    · by_cases e : i = k
      · subst e
        rw [pk_us, ed_fu_s]
      · rw [pk_un e, ed_fu_n e]
        exact h1 i hi
    · by_cases e : i = k
      · subst e
        rw [ed_fu_s]
        exact h2 _ (by omega)
      · rw [ed_fu_n e]
        exact h2 i hi
theorem ed_remove {post : Int32 → St2 → Prop} {L T S : Nat} {tx kd st sz fi si : Nat → Nat} {c16 : Nat → Int32} {p n : Int32} (hp : ed_Pic L T S tx kd st sz fi si a1 a2 a3 a4 a11 a12 a13 c16) (hL : L ≤ 9)
    (H0 : (p < 0 ∨ nI L < p ∨ n < 0 ∨ ¬ n ≤ nI L - p) → ∀ u, post (-1) u) (H1 : ¬ p < 0 → ¬ nI L < p → ¬ n < 0 → n ≤ nI L - p → ∀ u, post (nI L - n) u) : wpX_remove post (nI L, nI T, vF, nI S, vM, vB, vO, vI, vH, vC, a1, a2, a3, a4, a5, a6, a7, a8, a9, a10, a11, a12, a13, a14, a15, a16, a17, a18, a19, a20, a21, a22, a23, a24, a25, a26) p n := by
  refine br_c (fun h => H0 (Or.inl h) _) (fun g1 => br_c (fun h => H0 (Or.inr (Or.inl h)) _) (fun g2 => br_c (fun h => H0 (Or.inr (Or.inr (Or.inl h))) _) (fun g3 => br_c (fun g4 => ?_) (fun h => H0 (Or.inr (Or.inr (Or.inr h))) _))))
  have K := H1 g1 g2 g3 g4
  obtain ⟨P, hP, rfl⟩ := nI_of g1
  obtain ⟨N, hN, rfl⟩ := nI_of g3
  have hPL : P ≤ L := by
    rcases Nat.lt_or_ge L P with w | w
    · exact absurd (nI_lt w hP) g2
    · exact w
  rw [pk_sub hPL] at g4
  have hNL : N ≤ L - P := (nI_leI hN (by omega)).mp g4
  rw [pk_sub (show N ≤ L by omega)] at K
  refine pk_le N 0 (fun z => ?_) (fun z => ?_)
  · have e : N = 0 := by omega
    subst e
    exact K _
  · obtain ⟨p1, p2, p3, p4, p5, p6, p7, p8, p9, p10, p11, p12⟩ := hp
    have hT := ed_Tok_T p6
    have hS := ed_Str_S p10
    refine ⟨L - N - P + 1, ed_ct2 (by omega) (by omega) (fun tx' a1' t1 t2 P' hP' => ?_) (L - N - P) P tx a1 (by omega) p1 p2⟩
    refine ed_readTokens (cm := 0) (tx := tx') (by omega) (by omega) (by omega) (by omega) (fun i hi => t1 i (by omega)) (fun i hi => t2 i (by omega)) p4 p5 (fun k hk => ?_) p8 p9 p10.1 (by omega) (fun g hg => ?_) (ed_Str_fr p10) (ed_Str_lt p10) ?_
    · have := (p6 k hk).2.1
      omega
    · have := ed_Str_le p10 g hg
      omega
    · intro keep fr old q F fk fs fz b8 b9 b10 _ _ _ _ _ _ _ _ _ _ _ _ _
      intro T' S' m b2 b3 b4 b5 b6 b7 b11 b12 b13 b14 b15 b16 b18 b19 b20 b21 _
      exact hP' _ _ _ _ _ _ _ _ _ _ _ _ _ _ _ _ _ _ _ _ _ _ _ _ _ _ _ _ _ _ _ _ _ _ _ _ (K _)
end
end
section
section
variable {vL vT vF vS vM vB vO vI vH vC : Int32} {a1 a2 a3 a4 a5 a6 a7 a8 a9 a10 a11 a12 a13 a14 a15 a16 a17 a18 a19 a20 a21 a22 a23 a24 a25 a26 : Nat → Int32}
theorem ed_fb28 {post : St2 → Prop} {S : Nat} (hS : S ≤ 80) (H : ∀ (vB vO : Int32) (a17 a22 a23 : Nat → Int32), post (vL, vT, vF, nI S, vM, vB, vO, vI, vH, vC, a1, a2, a3, a4, a5, a6, a7, a8, a9, a10, a11, a12, a13, a14, a15, a16, a17, a18, a19, a20, a21, a22, a23, a24, a25, a26)) :
    ∀ (d g w B : Nat) (vO : Int32) (a17 a22 a23 : Nat → Int32), g + d = S → w < B → B ≤ g + 1 → (∀ b, 1 ≤ b → b < B → ∃ v : Nat, v < B ∧ a22 b = nI v) → wX_findBlocks_28 post vL vT vF (nI S) vM vI vH vC (d + 1) (nI w) (nI g) (nI B) vO a1 a2 a3 a4 a5 a6 a7 a8 a9 a10 a11 a12 a13 a14 a15 a16 a17 a18 a19 a20 a21 a22 a23 a24 a25 a26 := by
  intro d
  induction d with
  | zero =>
    intro g w B vO a17 a22 a23 hg hw hB hi
    exact pk_le S g (fun _ => ⟨pk_in w 82 (by omega), nm_e (H _ _ _ _ _)⟩) (fun z => absurd z (by omega))
  | succ d ih =>
    intro g w B vO a17 a22 a23 hg hw hB hi
    have ew : (nI w).toNatClampNeg = w := nI_clamp (by omega)
    have eB : (nI B).toNatClampNeg = B := nI_clamp (by omega)
    have F127 : ∀ (b17 : Nat → Int32), (a13 (nI g).toNatClampNeg = 10 → 1 ≤ w) → wX_findBlocks_127 post (wX_findBlocks_28 post vL vT vF (nI S) vM vI vH vC (d + 1)) (nI w) (nI g) vL vT vF (nI S) vM (nI B) vO vI vH vC a1 a2 a3 a4 a5 a6 a7 a8 a9 a10 a11 a12 a13 a14 a15 a16 b17 a18 a19 a20 a21 a22 a23 a24 a25 a26 := by
      intro b17 h1
      refine ⟨pk_in g 82 (by omega), br_c (fun e => ⟨pk_in w 82 (by omega), ?_⟩) (fun _ => nm_r (nI_1 g) (ih (g + 1) w B _ _ _ _ (by omega) hw (by omega) hi))⟩
      obtain ⟨v, hv, ev⟩ := hi w (h1 e) hw
      exact nm_r (e' := nI v) (by rw [ew, ev]) (nm_r (nI_1 g) (ih (g + 1) v B _ _ _ _ (by omega) hv (by omega) hi))
    refine pk_le S g (fun z => absurd z (by omega)) (fun _ => ⟨pk_in g 82 (by omega), nm_e ⟨pk_in g 82 (by omega), br_c (fun _ => ⟨pk_in B 82 (by omega), nm_e ⟨pk_in w 82 (by omega), pk_in B 82 (by omega), nm_e (nm_r (nI_1 B) (nm_r (nI_1 g) (ih (g + 1) B (B + 1) _ _ _ _ (by omega) (by omega) (by omega) (fun b b1 b2 => ?_))))⟩⟩) (fun _ => ⟨pk_in g 82 (by omega), br_c (fun _ => br_c (fun _ => nm_e (nm_r (nI_1 g) (ih (g + 1) w B _ _ _ _ (by omega) hw (by omega) hi))) (fun n0 => F127 _ (fun _ => ?_))) (fun n10 => F127 _ (fun e => absurd e n10))⟩)⟩⟩)
    · rw [eB]
      by_cases e : b = B
      · subst e
        exact ⟨w, by omega, pk_us⟩
      · obtain ⟨v, hv, ev⟩ := hi b b1 (by omega)
        exact ⟨v, by omega, by rw [pk_un e]; exact ev⟩
    · rcases Nat.eq_zero_or_pos w with e | e
      · subst e
        exact absurd nI_0 n0
      · exact e
theorem ed_findBlocks {post : St2 → Prop} {S : Nat} (hS : S ≤ 80) (H : ∀ (vB vO : Int32) (a17 a22 a23 : Nat → Int32), post (vL, vT, vF, nI S, vM, vB, vO, vI, vH, vC, a1, a2, a3, a4, a5, a6, a7, a8, a9, a10, a11, a12, a13, a14, a15, a16, a17, a18, a19, a20, a21, a22, a23, a24, a25, a26)) : wpX_findBlocks post (vL, vT, vF, nI S, vM, vB, vO, vI, vH, vC, a1, a2, a3, a4, a5, a6, a7, a8, a9, a10, a11, a12, a13, a14, a15, a16, a17, a18, a19, a20, a21, a22, a23, a24, a25, a26) :=
  nm_e (nm_e ⟨S + 1, ed_fb28 hS H S 0 0 1 0 _ _ _ (by omega) (by omega) (by omega) (fun b b1 b2 => absurd b1 (by omega))⟩)
theorem ed_lu4 {post : Int32 → Prop} {g : Nat} {x1 x2 : Int32} (hg : g ≤ 82) (hs : ∀ k, k < g → ¬ a14 k = 2) (H : post (-1)) : ∀ k, k ≤ g → wX_lookUp_4 post x1 x2 vL vT vF vS vM vB vO vI vH vC a1 a2 a3 a4 a5 a6 a7 a8 a9 a10 a11 a12 a13 a14 a15 a16 a17 a18 a19 a20 a21 a22 a23 a24 a25 a26 (k + 1) (nI k - 1) := by
  intro k
  induction k with
  | zero =>
    intro _
    exact br_t (by decide) H
  | succ k ih =>
    intro hk
    rw [nI_pred]
    exact br_f (nI_pos (by omega)) ⟨pk_in k 82 (by omega), br_f (by rw [nI_clamp (by omega)]; exact hs k (by omega)) (nm_r (e' := nI k - 1) (by rw [Int32.sub_eq_add_neg]) (ih (by omega)))⟩
theorem ed_lookUp {post : Int32 → Prop} {g : Nat} {x2 : Int32} (hg : g ≤ 82) (hs : ∀ k, k < g → ¬ a14 k = 2) (H : post (-1)) : wpX_lookUp post (vL, vT, vF, vS, vM, vB, vO, vI, vH, vC, a1, a2, a3, a4, a5, a6, a7, a8, a9, a10, a11, a12, a13, a14, a15, a16, a17, a18, a19, a20, a21, a22, a23, a24, a25, a26) (nI g) x2 :=
  nm_e ⟨g + 1, ed_lu4 hg hs H g (Nat.le_refl g)⟩
theorem ed_bool {x : Int32} (h : x = 0 ∨ x = 1) : narrow .boolean (.int x) = .int x := by
  rcases h with rfl | rfl <;> rfl
theorem ed_sm4 {post : Int32 → St2 → Prop} {g n f0 s0 T : Nat} {kd c : Nat → Nat} (hg : g < 82) (hn : n ≤ s0) (hf : f0 + s0 ≤ T) (hT : T ≤ 80) (h2 : ed_ar a2 kd T) (hk : ∀ k, k < T → kd k ≤ 10) (h11 : a11 g = nI f0) (h15 : a15 g = nI n) (h5 : ∀ k, k < n → a5 (f0 + k) = nI (c k) ∧ c k < s0) (hs : ∀ k, k < g → ¬ a14 k = 2)
    (H : ∀ (r : Int32) (a6 a7 : Nat → Int32), (∀ k, k < n → kd (f0 + c k) = 0 → a6 (f0 + c k) = -1) → post r (vL, vT, vF, vS, vM, vB, vO, vI, vH, vC, a1, a2, a3, a4, a5, a6, a7, a8, a9, a10, a11, a12, a13, a14, a15, a16, a17, a18, a19, a20, a21, a22, a23, a24, a25, a26)) :
    ∀ (d k : Nat) (x2 : Int32) (a6 a7 : Nat → Int32), k + d = n → (x2 = 0 ∨ x2 = 1) → (∀ j, j < k → kd (f0 + c j) = 0 → a6 (f0 + c j) = -1) → wX_sameMeanings_4 post (nI g) vL vT vF vS vM vB vO vI vH vC (d + 1) x2 (nI k) a1 a2 a3 a4 a5 a6 a7 a8 a9 a10 a11 a12 a13 a14 a15 a16 a17 a18 a19 a20 a21 a22 a23 a24 a25 a26 := by
  have eg : (nI g).toNatClampNeg = g := nI_clamp (by omega)
  intro d
  induction d with
  | zero =>
    intro k x2 a6 a7 hd hx hi
    have e : k = n := by omega
    subst e
    exact ⟨pk_in g 82 hg, pk_le k k (fun _ => ⟨ed_bool hx, H x2 a6 a7 hi⟩) (fun z => absurd z (by omega)) (by rw [eg, h15])⟩
  | succ d ih =>
    intro k x2 a6 a7 hd hx hi
    obtain ⟨h5k, hck⟩ := h5 k (by omega)
    have hk10 := hk (f0 + c k) (by omega)
    have et : (nI (f0 + c k)).toNatClampNeg = f0 + c k := nI_clamp (by omega)
    have it : vp_in (nI (f0 + c k)) 81 := pk_in (f0 + c k) 81 (by omega)
    have J95 : ∀ z0 : Int32, (z0 = 0 ∨ z0 = 1) → wX_sameMeanings_95 post (wX_sameMeanings_4 post (nI g) vL vT vF vS vM vB vO vI vH vC (d + 1)) (nI g) (nI k) (nI (f0 + c k)) (-1) (-1) z0 vL vT vF vS vM vB vO vI vH vC a1 a2 a3 a4 a5 a6 a7 a8 a9 a10 a11 a12 a13 a14 a15 a16 a17 a18 a19 a20 a21 a22 a23 a24 a25 a26 := by
      intro z0 hz
      refine ⟨it, nm_r (e' := upd a6 (f0 + c k) (-1)) (by rw [et]) ⟨it, nm_e (nm_r (nI_1 k) (ih (k + 1) z0 _ _ (by omega) hz (fun j hj e0 => ?_)))⟩⟩
      by_cases e : f0 + c j = f0 + c k
      · rw [e, pk_us]
      · rw [pk_un e]
        refine hi j ?_ e0
        have : j ≠ k := fun z => e (by rw [z])
        omega
    refine ⟨pk_in g 82 hg, pk_le n k (fun z => absurd z (by omega)) (fun _ => ⟨pk_in g 82 hg, pk_in g 82 hg, pk_in (f0 + k) 81 (by omega) (by rw [eg, h11, nI_add]), nm_r (e' := nI (f0 + c k)) (by rw [eg, h11, nI_add, nI_clamp (by omega), h5k, nI_add]) ⟨it, ?_⟩⟩) (by rw [eg, h15])⟩
    refine pk_eq (kd (f0 + c k)) 0 (fun e0 => ?_) (fun e0 => ?_) (by rw [et, h2 _ (by omega)])
    · refine ed_lookUp (by omega) hs (br_t rfl ?_)
      exact br_c (fun _ => J95 0 (Or.inl rfl)) (fun _ => ⟨it, br_c (fun _ => J95 1 (Or.inr rfl)) (fun _ => J95 0 (Or.inl rfl))⟩)
    · refine nm_r (nI_1 k) (ih (k + 1) x2 a6 a7 (by omega) hx (fun j hj e1 => ?_))
      by_cases e : j = k
      · rw [e] at e1
        exact absurd e1 e0
      · exact hi j (by omega) e1
theorem ed_nb4 {post : Int32 → Prop} {t s z : Nat} (ht : t < 81) (h3 : a3 t = nI s) (h4 : a4 t = nI z) (hb : s + z ≤ 80) (H : ∀ x, post x) : ∀ (d k : Nat) (x2 : Int32), k + d = z → wX_numberOf_4 post (nI t) vL vT vF vS vM vB vO vI vH vC a1 a2 a3 a4 a5 a6 a7 a8 a9 a10 a11 a12 a13 a14 a15 a16 a17 a18 a19 a20 a21 a22 a23 a24 a25 a26 (d + 1) x2 (nI k) := by
  have et : (nI t).toNatClampNeg = t := nI_clamp (by omega)
  intro d
  induction d with
  | zero =>
    intro k x2 hd
    exact ⟨pk_in t 81 ht, pk_le z k (fun _ => H x2) (fun z' => absurd z' (by omega)) (by rw [et, h4])⟩
  | succ d ih =>
    intro k x2 hd
    exact ⟨pk_in t 81 ht, pk_le z k (fun z' => absurd z' (by omega)) (fun _ => ⟨pk_in t 81 ht, pk_in (s + k) 80 (by omega) (by rw [et, h3, nI_add]), nm_e (nm_r (nI_1 k) (ih (k + 1) _ (by omega)))⟩) (by rw [et, h4])⟩
theorem ed_numberOf {post : Int32 → Prop} {t s z : Nat} (ht : t < 81) (h3 : a3 t = nI s) (h4 : a4 t = nI z) (hb : s + z ≤ 80) (H : ∀ x, post x) : wpX_numberOf post (vL, vT, vF, vS, vM, vB, vO, vI, vH, vC, a1, a2, a3, a4, a5, a6, a7, a8, a9, a10, a11, a12, a13, a14, a15, a16, a17, a18, a19, a20, a21, a22, a23, a24, a25, a26) (nI t) :=
  ⟨z + 1, ed_nb4 ht h3 h4 hb H z 0 0 (by omega)⟩
theorem ed_joined {post : Int32 → Prop} {x y z : Int32} (H : ∀ x, post x) : wpX_joined post (vL, vT, vF, vS, vM, vB, vO, vI, vH, vC, a1, a2, a3, a4, a5, a6, a7, a8, a9, a10, a11, a12, a13, a14, a15, a16, a17, a18, a19, a20, a21, a22, a23, a24, a25, a26) x y z :=
  br_c (fun _ => H _) (fun _ => br_c (fun _ => H _) (fun _ => br_c (fun _ => H _) (fun _ => H _)))
/-- the code of a stretch: which token each place means, and how high the pile stands -/
def ed_Cd (f0 s0 n : Nat) (kd c D : Nat → Nat) (a5 : Nat → Int32) : Prop := (∀ k, k < n → a5 (f0 + k) = nI (c k) ∧ c k < s0) ∧ D 0 = 0 ∧ (∀ k, k < n → (kd (f0 + c k) ≤ 1 ∧ D (k + 1) = D k + 1) ∨ (2 ≤ kd (f0 + c k) ∧ 2 ≤ D k ∧ D (k + 1) + 1 = D k))
theorem ed_Cd_D {f0 s0 n : Nat} {kd c D : Nat → Nat} {a5 : Nat → Int32} (h : ed_Cd f0 s0 n kd c D a5) : ∀ k, k ≤ n → D k ≤ k := by
  intro k
  induction k with
  | zero =>
    intro _
    rw [h.2.1]
    exact Nat.le_refl 0
  | succ k ih =>
    intro hk
    have h1 := ih (by omega)
    rcases h.2.2 k (by omega) with w | w
    · omega
    · omega
theorem ed_wo9 {post : St2 → Prop} {g n f0 s0 T : Nat} {kd c D st sz : Nat → Nat} (hg : g < 82) (hn : n ≤ s0) (hf : f0 + s0 ≤ T) (hT : T ≤ 80) (h2 : ed_ar a2 kd T) (hk : ∀ k, k < T → kd k ≤ 10) (h3 : ed_ar a3 st T) (h4 : ed_ar a4 sz T) (hb : ∀ k, k < T → st k + sz k ≤ 80) (h11 : a11 g = nI f0) (h15 : a15 g = nI n) (hc : ed_Cd f0 s0 n kd c D a5) (h6 : ∀ k, k < n → kd (f0 + c k) = 0 → a6 (f0 + c k) = -1)
    (H : ∀ (vH : Int32) (a19 a20 a24 : Nat → Int32), post (vL, vT, vF, vS, vM, vB, vO, vI, vH, vC, a1, a2, a3, a4, a5, a6, a7, a8, a9, a10, a11, a12, a13, a14, a15, a16, a17, a18, a19, a20, a21, a22, a23, a24, a25, a26)) :
    ∀ (d k : Nat) (x2 : Int32) (a24 : Nat → Int32), k + d = n → wX_workOut_9 post (nI g) vL vT vF vS vM vB vO vI vC (d + 1) x2 (nI k) (nI (D k)) a1 a2 a3 a4 a5 a6 a7 a8 a9 a10 a11 a12 a13 a14 a15 a16 a17 a18 a19 a20 a21 a22 a23 a24 a25 a26 := by
  have eg : (nI g).toNatClampNeg = g := nI_clamp (by omega)
  have ig : vp_in (nI g) 82 := pk_in g 82 hg
  intro d
  induction d with
  | zero =>
    intro k x2 a24 hd
    exact ⟨ig, pk_le n k (fun _ => ⟨ig, nm_e (br_c (fun _ => ⟨ig, nm_e (H _ _ _ _)⟩) (fun _ => ⟨ig, nm_e (H _ _ _ _)⟩))⟩) (fun z => absurd z (by omega)) (by rw [eg, h15])⟩
  | succ d ih =>
    intro k x2 a24 hd
    obtain ⟨h5k, hck⟩ := hc.1 k (by omega)
    have hD := ed_Cd_D hc k (by omega)
    have hDk := hc.2.2 k (by omega)
    have hk10 := hk (f0 + c k) (by omega)
    have et : (nI (f0 + c k)).toNatClampNeg = f0 + c k := nI_clamp (by omega)
    have it : vp_in (nI (f0 + c k)) 81 := pk_in (f0 + c k) 81 (by omega)
    refine ⟨ig, pk_le n k (fun z => absurd z (by omega)) (fun _ => ⟨ig, ig, pk_in (f0 + k) 81 (by omega) (by rw [eg, h11, nI_add]), nm_r (e' := nI (f0 + c k)) (by rw [eg, h11, nI_add, nI_clamp (by omega), h5k, nI_add]) ⟨it, nm_r (e' := nI (kd (f0 + c k))) (by rw [et, h2 _ (by omega)]) ?_⟩⟩) (by rw [eg, h15])⟩
    have push : kd (f0 + c k) ≤ 1 → ∀ (x : Int32) (b24 : Nat → Int32), wX_workOut_9 post (nI g) vL vT vF vS vM vB vO vI vC (d + 1) x (nI (k + 1)) (nI (D k + 1)) a1 a2 a3 a4 a5 a6 a7 a8 a9 a10 a11 a12 a13 a14 a15 a16 a17 a18 a19 a20 a21 a22 a23 b24 a25 a26 := by
      intro h1 x b24
      have K := ih (k + 1) x b24 (by omega)
      have e : D (k + 1) = D k + 1 := by omega
      rw [e] at K
      exact K
    refine pk_eq (kd (f0 + c k)) 1 (fun e1 => ?_) (fun e1 => pk_eq (kd (f0 + c k)) 0 (fun e0 => ?_) (fun e0 => ?_))
    · exact ed_numberOf (by omega) (h3 _ (by omega)) (h4 _ (by omega)) (hb _ (by omega)) (fun x => ⟨pk_in (D k) 82 (by omega), nm_e (nm_r (nI_1 (D k)) (nm_r (nI_1 k) (push (by omega) _ _)))⟩)
    · have w122 : wX_workOut_122 post (wX_workOut_9 post (nI g) vL vT vF vS vM vB vO vI vC (d + 1)) (nI g) (nI k) (-1) vL vT vF vS vM vB vO vI (nI (D k)) vC a1 a2 a3 a4 a5 a6 a7 a8 a9 a10 a11 a12 a13 a14 a15 a16 a17 a18 a19 a20 a21 a22 a23 a24 a25 a26 := br_t rfl ⟨pk_in (D k) 82 (by omega), nm_e (nm_r (nI_1 (D k)) (nm_r (nI_1 k) (push (by omega) _ _)))⟩
      exact ⟨it, nm_r (e' := -1) (by rw [et, h6 k (by omega) e0]) (br_c (fun _ => w122) (fun _ => br_t rfl w122))⟩
    · have hD2 : 2 ≤ D k ∧ D (k + 1) + 1 = D k := by omega
      have K : ∀ b24 : Nat → Int32, wX_workOut_9 post (nI g) vL vT vF vS vM vB vO vI vC (d + 1) x2 (nI (k + 1)) (nI (D k - 1)) a1 a2 a3 a4 a5 a6 a7 a8 a9 a10 a11 a12 a13 a14 a15 a16 a17 a18 a19 a20 a21 a22 a23 b24 a25 a26 := by
        intro b24
        have K := ih (k + 1) x2 b24 (by omega)
        have e : D (k + 1) = D k - 1 := by omega
        rw [e] at K
        exact K
      have i2 : vp_in (nI (D k - 1) - 1) 82 := pk_in (D k - 1 - 1) 82 (by omega) (pk_sub (b := 1) (by omega))
      exact nm_r (e' := nI (D k - 1)) (pk_sub (b := 1) (by omega)) ⟨i2, pk_in (D k - 1) 82 (by omega), ed_joined (fun x => ⟨i2, nm_e (nm_r (nI_1 k) (K _))⟩)⟩
theorem ed_workOut {post : St2 → Prop} {g n f0 s0 T : Nat} {kd c D st sz : Nat → Nat} (hg : g < 82) (hn : n ≤ s0) (hf : f0 + s0 ≤ T) (hT : T ≤ 80) (h2 : ed_ar a2 kd T) (hk : ∀ k, k < T → kd k ≤ 10) (h3 : ed_ar a3 st T) (h4 : ed_ar a4 sz T) (hb : ∀ k, k < T → st k + sz k ≤ 80) (h11 : a11 g = nI f0) (h15 : a15 g = nI n) (hc : ed_Cd f0 s0 n kd c D a5) (h6 : ∀ k, k < n → kd (f0 + c k) = 0 → a6 (f0 + c k) = -1)
    (H : ∀ (vH : Int32) (a19 a20 a24 : Nat → Int32), post (vL, vT, vF, vS, vM, vB, vO, vI, vH, vC, a1, a2, a3, a4, a5, a6, a7, a8, a9, a10, a11, a12, a13, a14, a15, a16, a17, a18, a19, a20, a21, a22, a23, a24, a25, a26)) : wpX_workOut post (vL, vT, vF, vS, vM, vB, vO, vI, vH, vC, a1, a2, a3, a4, a5, a6, a7, a8, a9, a10, a11, a12, a13, a14, a15, a16, a17, a18, a19, a20, a21, a22, a23, a24, a25, a26) (nI g) := by
  have W := ed_wo9 (a19 := a19) (a20 := a20) hg hn hf hT h2 hk h3 h4 hb h11 h15 hc h6 H n 0 1 a24 (by omega)
  rw [hc.2.1] at W
  exact ⟨n + 1, W⟩
theorem ed_up116 {post : St2 → Prop} {g : Nat} (hg : g < 82) (H : ∀ (vM : Int32) (a21 : Nat → Int32), post (vL, vT, vF, vS, vM, vB, vO, vI, vH, vC, a1, a2, a3, a4, a5, a6, a7, a8, a9, a10, a11, a12, a13, a14, a15, a16, a17, a18, a19, a20, a21, a22, a23, a24, a25, a26)) : wX_update_116 post (nI g) vL vT vF vS vM vB vO vI vH vC a1 a2 a3 a4 a5 a6 a7 a8 a9 a10 a11 a12 a13 a14 a15 a16 a17 a18 a19 a20 a21 a22 a23 a24 a25 a26 :=
  nm_e ⟨pk_in g 82 hg, nm_e (H _ _)⟩
theorem ed_up35 {post : St2 → Prop} {g n f0 s0 T : Nat} {kd c D st sz : Nat → Nat} (hg : g < 82) (hn : n ≤ s0) (hf : f0 + s0 ≤ T) (hT : T ≤ 80) (h2 : ed_ar a2 kd T) (hk : ∀ k, k < T → kd k ≤ 10) (h3 : ed_ar a3 st T) (h4 : ed_ar a4 sz T) (hb : ∀ k, k < T → st k + sz k ≤ 80) (h11 : a11 g = nI f0) (h15 : a15 g = nI n) (hc : ed_Cd f0 s0 n kd c D a5) (hs : ∀ k, k < g → ¬ a14 k = 2)
    (H : ∀ (vM vH : Int32) (a6 a7 a18 a19 a20 a21 a24 : Nat → Int32), post (vL, vT, vF, vS, vM, vB, vO, vI, vH, vC, a1, a2, a3, a4, a5, a6, a7, a8, a9, a10, a11, a12, a13, a14, a15, a16, a17, a18, a19, a20, a21, a22, a23, a24, a25, a26)) : wX_update_35 post (nI g) vL vT vF vS vM vB vO vI vH vC a1 a2 a3 a4 a5 a6 a7 a8 a9 a10 a11 a12 a13 a14 a15 a16 a17 a18 a19 a20 a21 a22 a23 a24 a25 a26 := by
  have ig : vp_in (nI g) 82 := pk_in g 82 hg
  have K : ∀ (r : Int32) (b6 b7 : Nat → Int32), (∀ k, k < n → kd (f0 + c k) = 0 → b6 (f0 + c k) = -1) → wX_update_55 post (nI g) vL vT vF vS vM vB vO vI vH vC a1 a2 a3 a4 a5 b6 b7 a8 a9 a10 a11 a12 a13 a14 a15 a16 a17 a18 a19 a20 a21 a22 a23 a24 a25 a26 := by
    intro r b6 b7 h6
    refine ⟨ig, nm_e ⟨ig, nm_e ⟨ig, nm_e (ed_workOut hg hn hf hT h2 hk h3 h4 hb h11 h15 hc h6 (fun vH' a19' a20' a24' => ?_))⟩⟩⟩
    refine ⟨ig, nm_e (br_c (fun _ => ed_up116 hg (fun _ _ => H _ _ _ _ _ _ _ _ _)) (fun _ => ⟨ig, br_c (fun _ => ⟨ig, br_c (fun _ => H _ _ _ _ _ _ _ _ _) (fun _ => ed_up116 hg (fun _ _ => H _ _ _ _ _ _ _ _ _))⟩) (fun _ => ed_up116 hg (fun _ _ => H _ _ _ _ _ _ _ _ _))⟩))⟩
  refine ⟨n + 1, ed_sm4 hg hn hf hT h2 hk h11 h15 hc.1 hs (fun r b6 b7 h6 => ?_) n 0 1 a6 a7 (by omega) (Or.inr rfl) (fun j hj => absurd hj (by omega))⟩
  exact ⟨ig, br_c (fun _ => K r b6 b7 h6) (fun _ => br_c (fun _ => K r b6 b7 h6) (fun _ => H _ _ _ _ _ _ _ _ _))⟩
theorem ed_update {post : St2 → Prop} {g f0 s0 T v : Nat} {kd st sz : Nat → Nat} (hg : g < 82) (hf : f0 + s0 ≤ T) (hT : T ≤ 80) (h2 : ed_ar a2 kd T) (hk : ∀ k, k < T → kd k ≤ 10) (h3 : ed_ar a3 st T) (h4 : ed_ar a4 sz T) (hb : ∀ k, k < T → st k + sz k ≤ 80) (h11 : a11 g = nI f0) (h14 : a14 g = nI v) (hv : v ≤ 3)
    (hc : v = 1 ∨ v = 2 → ∃ (n : Nat) (c D : Nat → Nat), n ≤ s0 ∧ a15 g = nI n ∧ ed_Cd f0 s0 n kd c D a5 ∧ ∀ k, k < g → ¬ a14 k = 2)
    (H : ∀ (vM vH : Int32) (a6 a7 a18 a19 a20 a21 a24 : Nat → Int32), post (vL, vT, vF, vS, vM, vB, vO, vI, vH, vC, a1, a2, a3, a4, a5, a6, a7, a8, a9, a10, a11, a12, a13, a14, a15, a16, a17, a18, a19, a20, a21, a22, a23, a24, a25, a26)) : wpX_update post (vL, vT, vF, vS, vM, vB, vO, vI, vH, vC, a1, a2, a3, a4, a5, a6, a7, a8, a9, a10, a11, a12, a13, a14, a15, a16, a17, a18, a19, a20, a21, a22, a23, a24, a25, a26) (nI g) := by
  have ig : vp_in (nI g) 82 := pk_in g 82 hg
  have eg : (nI g).toNatClampNeg = g := nI_clamp (by omega)
  have K : v = 1 ∨ v = 2 → wX_update_35 post (nI g) vL vT vF vS vM vB vO vI vH vC a1 a2 a3 a4 a5 a6 a7 a8 a9 a10 a11 a12 a13 a14 a15 a16 a17 a18 a19 a20 a21 a22 a23 a24 a25 a26 := by
    intro h
    obtain ⟨n, c, D, c1, c2, c3, c4⟩ := hc h
    exact ed_up35 hg c1 hf hT h2 hk h3 h4 hb h11 c2 c3 c4 H
  exact ⟨ig, pk_eq v 1 (fun e => K (Or.inl e)) (fun _ => ⟨ig, pk_eq v 2 (fun e => K (Or.inr e)) (fun _ => ⟨ig, nm_e ⟨ig, nm_e (H _ _ _ _ _ _ _ _ _)⟩⟩) (by rw [eg, h14])⟩) (by rw [eg, h14])⟩
end
end
section
section
variable {vL vT vF vS vM vB vO vI vH vC : Int32} {a1 a2 a3 a4 a5 a6 a7 a8 a9 a10 a11 a12 a13 a14 a15 a16 a17 a18 a19 a20 a21 a22 a23 a24 a25 a26 : Nat → Int32}
/-- how many operators stand in h places of the pile -/
def ed_op (kd pl : Nat → Nat) : Nat → Nat
  | 0 => 0
  | h + 1 => ed_op kd pl h + (if kd (pl h) = 6 then 0 else 1)
theorem ed_op_ext {kd pl pl' : Nat → Nat} : ∀ h, (∀ i, i < h → pl i = pl' i) → ed_op kd pl h = ed_op kd pl' h := by
  intro h
  induction h with
  | zero => exact fun _ => rfl
  | succ h ih =>
    intro e
    show ed_op kd pl h + (if kd (pl h) = 6 then 0 else 1) = ed_op kd pl' h + (if kd (pl' h) = 6 then 0 else 1)
    rw [ih (fun i hi => e i (by omega)), e h (by omega)]
theorem ed_op_push (kd pl : Nat → Nat) (h t : Nat) : ed_op kd (ed_fu pl h t) (h + 1) = ed_op kd pl h + (if kd t = 6 then 0 else 1) := by
  show ed_op kd (ed_fu pl h t) h + (if kd (ed_fu pl h t h) = 6 then 0 else 1) = _
  rw [ed_fu_s, ed_op_ext (pl := ed_fu pl h t) (pl' := pl) h (fun i hi => ed_fu_n (by omega))]
/-- reading an expression: the code so far, the pile -/
def ed_X (f0 s0 : Nat) (kd : Nat → Nat) (g n h : Nat) (c D pl : Nat → Nat) (a5 a15 a24 : Nat → Int32) : Prop :=
  a15 g = nI n ∧ ed_Cd f0 s0 n kd c D a5 ∧ (∀ i, i < h → a24 i = nI (pl i) ∧ f0 ≤ pl i ∧ pl i < f0 + s0 ∧ 3 ≤ kd (pl i) ∧ kd (pl i) ≤ 6)
theorem ed_X_emit {f0 s0 g n h t d : Nat} {kd c D pl : Nat → Nat} {a5 a15 a24 : Nat → Int32} (x : ed_X f0 s0 kd g n h c D pl a5 a15 a24) (h1 : f0 ≤ t) (h2 : t < f0 + s0) (hd : (kd t ≤ 1 ∧ d = D n + 1) ∨ (2 ≤ kd t ∧ 2 ≤ D n ∧ d + 1 = D n)) :
    ed_X f0 s0 kd g (n + 1) h (ed_fu c n (t - f0)) (ed_fu D (n + 1) d) pl (upd a5 (f0 + n) (nI (t - f0))) (upd a15 g (nI (n + 1))) a24 := by
  obtain ⟨x1, ⟨x2, x3, x4⟩, x5⟩ := x
  refine ⟨pk_us, ⟨fun k hk => ?_, ?_, fun k hk => ?_⟩, x5⟩
  · by_cases e : k = n
    · subst e
      rw [pk_us, ed_fu_s]
      exact ⟨rfl, by omega⟩
    · rw [pk_un (by omega), ed_fu_n e]
      exact x2 k (by omega)
  · rw [ed_fu_n (by omega)]
    exact x3
  · by_cases e : k = n
    · subst e
      rw [ed_fu_s, ed_fu_s, ed_fu_n (show k ≠ k + 1 by omega), show f0 + (t - f0) = t by omega]
      exact hd
    · rw [ed_fu_n e, ed_fu_n (show k ≠ n + 1 by omega), ed_fu_n (show k + 1 ≠ n + 1 by omega)]
      exact x4 k (by omega)
theorem ed_X_push {f0 s0 g n h t : Nat} {kd c D pl : Nat → Nat} {a5 a15 a24 : Nat → Int32} (x : ed_X f0 s0 kd g n h c D pl a5 a15 a24) (h1 : f0 ≤ t) (h2 : t < f0 + s0) (h3 : 3 ≤ kd t) (h6 : kd t ≤ 6) :
    ed_X f0 s0 kd g n (h + 1) c D (ed_fu pl h t) a5 a15 (upd a24 h (nI t)) := by
  obtain ⟨x1, x2, x5⟩ := x
  refine ⟨x1, x2, fun i hi => ?_⟩
  by_cases e : i = h
  · subst e
    rw [pk_us, ed_fu_s]
    exact ⟨rfl, h1, h2, h3, h6⟩
  · rw [pk_un e, ed_fu_n e]
    exact x5 i (by omega)
theorem ed_X_pop {f0 s0 g n h h' : Nat} {kd c D pl : Nat → Nat} {a5 a15 a24 : Nat → Int32} (x : ed_X f0 s0 kd g n h c D pl a5 a15 a24) (hh : h' ≤ h) : ed_X f0 s0 kd g n h' c D pl a5 a15 a24 :=
  ⟨x.1, x.2.1, fun i hi => x.2.2 i (by omega)⟩
theorem ed_emit {post : St2 → Prop} {g n f0 t : Nat} (hg : g < 82) (hn : f0 + n < 81) (ht : f0 ≤ t) (h11 : a11 g = nI f0) (h15 : a15 g = nI n) (H : post (vL, vT, vF, vS, vM, vB, vO, vI, vH, vC, a1, a2, a3, a4, upd a5 (f0 + n) (nI (t - f0)), a6, a7, a8, a9, a10, a11, a12, a13, a14, upd a15 g (nI (n + 1)), a16, a17, a18, a19, a20, a21, a22, a23, a24, a25, a26)) : wpX_emit post (vL, vT, vF, vS, vM, vB, vO, vI, vH, vC, a1, a2, a3, a4, a5, a6, a7, a8, a9, a10, a11, a12, a13, a14, a15, a16, a17, a18, a19, a20, a21, a22, a23, a24, a25, a26) (nI g) (nI t) := by
  have eg : (nI g).toNatClampNeg = g := nI_clamp (by omega)
  have ig : vp_in (nI g) 82 := pk_in g 82 hg
  exact ⟨ig, ig, ig, pk_in (f0 + n) 81 hn (by rw [eg, h11, h15, nI_add]), nm_r (e' := upd a5 (f0 + n) (nI (t - f0))) (by rw [eg, h11, h15, nI_add, nI_clamp (by omega), pk_sub ht]) ⟨ig, ig, nm_r (e' := upd a15 g (nI (n + 1))) (by rw [eg, h15, nI_1]) H⟩⟩
/-- how strongly an operator holds -/
def ed_sg (k : Nat) : Nat := if k = 3 then 1 else if k = 4 then 2 else if k = 5 then 3 else 0
theorem ed_sg_in (k : Nat) : ed_sg k ≤ 3 ∧ (1 ≤ ed_sg k → 3 ≤ k ∧ k ≤ 5) ∧ (3 ≤ k → k ≤ 5 → 1 ≤ ed_sg k) := by
  unfold ed_sg
  split
  · omega
  · split
    · omega
    · split <;> omega
theorem ed_strength {post : Int32 → Prop} {k : Nat} (hk : k ≤ 1000) (H : post (nI (ed_sg k))) : wpX_strength post (vL, vT, vF, vS, vM, vB, vO, vI, vH, vC, a1, a2, a3, a4, a5, a6, a7, a8, a9, a10, a11, a12, a13, a14, a15, a16, a17, a18, a19, a20, a21, a22, a23, a24, a25, a26) (nI k) := by
  unfold ed_sg at H
  refine pk_eq k 3 (fun e => ?_) (fun e3 => pk_eq k 4 (fun e => ?_) (fun e4 => pk_eq k 5 (fun e => ?_) (fun e5 => ?_)))
  · rw [if_pos e] at H
    exact H
  · rw [if_neg e3, if_pos e] at H
    exact H
  · rw [if_neg e3, if_neg e4, if_pos e] at H
    exact H
  · rw [if_neg e3, if_neg e4, if_neg e5] at H
    exact H
theorem ed_pd2 {post : St2 → Prop} {g f0 s0 T l N : Nat} {kd pl : Nat → Nat} (hg : g < 82) (hf : f0 + s0 ≤ T) (hT : T ≤ 40) (hN : N ≤ 40) (hl : 1 ≤ l) (hl4 : l ≤ 10) (h2 : ed_ar a2 kd T) (hk : ∀ k, k < T → kd k ≤ 10) (h11 : a11 g = nI f0)
    (H : ∀ (n h : Nat) (c D : Nat → Nat) (a5 a15 : Nat → Int32), ed_X f0 s0 kd g n h c D pl a5 a15 a24 → D n = ed_op kd pl h + 1 → n + h = N → (h = 0 ∨ ∃ h0, h = h0 + 1 ∧ ed_sg (kd (pl h0)) < l) → post (vL, vT, vF, vS, vM, vB, vO, vI, nI h, vC, a1, a2, a3, a4, a5, a6, a7, a8, a9, a10, a11, a12, a13, a14, a15, a16, a17, a18, a19, a20, a21, a22, a23, a24, a25, a26)) :
    ∀ (h i n : Nat) (c D : Nat → Nat) (a5 a15 : Nat → Int32), i + h ≤ 80 → ed_X f0 s0 kd g n h c D pl a5 a15 a24 → D n = ed_op kd pl h + 1 → n + h = N → wX_popDown_2 post (nI g) (nI l) (h + 1) (nI i) vL vT vF vS vM vB vO vI (nI h) vC a1 a2 a3 a4 a5 a6 a7 a8 a9 a10 a11 a12 a13 a14 a15 a16 a17 a18 a19 a20 a21 a22 a23 a24 a25 a26 := by
  intro h
  induction h with
  | zero =>
    intro i n c D a5 a15 hi x hD hn
    have K := H n 0 c D a5 a15 x hD hn (Or.inl rfl)
    exact pk_le 80 i (fun _ => K) (fun _ => pk_le 0 0 (fun _ => K) (fun z => absurd z (by omega)))
  | succ h ih =>
    intro i n c D a5 a15 hi x hD hn
    obtain ⟨p1, p2, p3, p4, p5⟩ := x.2.2 h (by omega)
    have hkp := hk (pl h) (by omega)
    have eh : (nI h).toNatClampNeg = h := nI_clamp (by omega)
    have sg := ed_sg_in (kd (pl h))
    refine pk_le 80 i (fun z => absurd z (by omega)) (fun _ => pk_le (h + 1) 0 (fun z => absurd z (by omega)) (fun _ => ?_))
    rw [nI_pred h, eh, p1]
    refine ⟨pk_in h 82 (by omega), pk_in (pl h) 81 (by omega), ?_⟩
    rw [nI_clamp (show pl h < 2 ^ 31 by omega), h2 (pl h) (by omega)]
    refine ed_strength (by omega) (pk_lt (ed_sg (kd (pl h))) l (fun z => H n (h + 1) c D a5 a15 x hD hn (Or.inr ⟨h, rfl, z⟩)) (fun z => nm_e ⟨pk_in h 82 (by omega), ?_⟩))
    rw [eh, p1]
    have e6 : ed_op kd pl (h + 1) = ed_op kd pl h + 1 := by
      show ed_op kd pl h + (if kd (pl h) = 6 then 0 else 1) = _
      rw [if_neg (by omega)]
    refine ed_emit hg (by omega) p2 h11 x.1 ?_
    refine nm_r (nI_1 i) (ih (i + 1) (n + 1) (ed_fu c n (pl h - f0)) (ed_fu D (n + 1) (D n - 1)) _ _ (by omega) (ed_X_pop (ed_X_emit x p2 p3 (Or.inr ⟨by omega, by omega, by omega⟩)) (by omega)) ?_ (by omega))
    rw [ed_fu_s]
    omega
theorem ed_popDown {post : St2 → Prop} {g f0 s0 T l N n h : Nat} {kd pl c D : Nat → Nat} (hg : g < 82) (hf : f0 + s0 ≤ T) (hT : T ≤ 40) (hN : N ≤ 40) (hl : 1 ≤ l) (hl4 : l ≤ 10) (h2 : ed_ar a2 kd T) (hk : ∀ k, k < T → kd k ≤ 10) (h11 : a11 g = nI f0)
    (x : ed_X f0 s0 kd g n h c D pl a5 a15 a24) (hD : D n = ed_op kd pl h + 1) (hn : n + h = N)
    (H : ∀ (n h : Nat) (c D : Nat → Nat) (a5 a15 : Nat → Int32), ed_X f0 s0 kd g n h c D pl a5 a15 a24 → D n = ed_op kd pl h + 1 → n + h = N → (h = 0 ∨ ∃ h0, h = h0 + 1 ∧ ed_sg (kd (pl h0)) < l) → post (vL, vT, vF, vS, vM, vB, vO, vI, nI h, vC, a1, a2, a3, a4, a5, a6, a7, a8, a9, a10, a11, a12, a13, a14, a15, a16, a17, a18, a19, a20, a21, a22, a23, a24, a25, a26)) :
    wpX_popDown post (vL, vT, vF, vS, vM, vB, vO, vI, nI h, vC, a1, a2, a3, a4, a5, a6, a7, a8, a9, a10, a11, a12, a13, a14, a15, a16, a17, a18, a19, a20, a21, a22, a23, a24, a25, a26) (nI g) (nI l) :=
  ⟨h + 1, ed_pd2 hg hf hT hN hl hl4 h2 hk h11 H h 0 n c D a5 a15 (by omega) x hD hn⟩
theorem ed_readOperator {post : Int32 → St2 → Prop} {g f0 s0 T N n h t : Nat} {kd pl c D : Nat → Nat} (hg : g < 82) (hf : f0 + s0 ≤ T) (hT : T ≤ 40) (hN : N ≤ 40) (h2 : ed_ar a2 kd T) (hk : ∀ k, k < T → kd k ≤ 10) (h11 : a11 g = nI f0)
    (x : ed_X f0 s0 kd g n h c D pl a5 a15 a24) (hD : D n = ed_op kd pl h + 1) (hn : n + h = N) (t1 : f0 ≤ t) (t2 : t < f0 + s0) (t3 : 3 ≤ kd t) (t5 : kd t ≤ 5)
    (H : ∀ (r : Int32) (n h : Nat) (c D pl : Nat → Nat) (a5 a15 a24 : Nat → Int32), ed_X f0 s0 kd g n h c D pl a5 a15 a24 → D n = ed_op kd pl h → n + h = N + 1 → post r (vL, vT, vF, vS, vM, vB, vO, vI, nI h, vC, a1, a2, a3, a4, a5, a6, a7, a8, a9, a10, a11, a12, a13, a14, a15, a16, a17, a18, a19, a20, a21, a22, a23, a24, a25, a26)) :
    wpX_readOperator post (vL, vT, vF, vS, vM, vB, vO, vI, nI h, vC, a1, a2, a3, a4, a5, a6, a7, a8, a9, a10, a11, a12, a13, a14, a15, a16, a17, a18, a19, a20, a21, a22, a23, a24, a25, a26) (nI g) (nI t) := by
  have et : (nI t).toNatClampNeg = t := nI_clamp (by omega)
  have sg := ed_sg_in (kd t)
  refine ⟨pk_in t 81 (by omega), nm_r (e' := nI (kd t)) (by rw [et, h2 t (by omega)]) (ed_strength (by omega) ?_)⟩
  have K65 : ∀ (z : Int32) (n h : Nat) (c D : Nat → Nat) (a5 a15 : Nat → Int32), ed_X f0 s0 kd g n h c D pl a5 a15 a24 → D n = ed_op kd pl h + 1 → n + h = N → wX_readOperator_65 post (nI t) z vL vT vF vS vM vB vO vI (nI h) vC a1 a2 a3 a4 a5 a6 a7 a8 a9 a10 a11 a12 a13 a14 a15 a16 a17 a18 a19 a20 a21 a22 a23 a24 a25 a26 := by
    intro z n' h' c' D' b5 b15 x' hD' hn'
    have Q : ∀ r, post r (vL, vT, vF, vS, vM, vB, vO, vI, nI (h' + 1), vC, a1, a2, a3, a4, b5, a6, a7, a8, a9, a10, a11, a12, a13, a14, b15, a16, a17, a18, a19, a20, a21, a22, a23, upd a24 h' (nI t), a25, a26) := fun r => H r n' (h' + 1) c' D' (ed_fu pl h' t) b5 b15 _ (ed_X_push x' t1 t2 t3 (by omega)) (by rw [ed_op_push, if_neg (by omega)]; exact hD') (by omega)
    exact ⟨pk_in h' 82 (by omega), nm_r (e' := upd a24 h' (nI t)) (by rw [nI_clamp (by omega)]) (nm_r (nI_1 h') (br_c (fun _ => Q _) (fun _ => Q _)))⟩
  have K24 : ∀ (z0 : Int32) (l : Nat), 1 ≤ l → l ≤ 10 → nI (ed_sg (kd t)) + z0 = nI l → wX_readOperator_24 post (nI t) (nI (kd t)) z0 (nI (ed_sg (kd t))) (nI g) vL vT vF vS vM vB vO vI (nI h) vC a1 a2 a3 a4 a5 a6 a7 a8 a9 a10 a11 a12 a13 a14 a15 a16 a17 a18 a19 a20 a21 a22 a23 a24 a25 a26 := by
    intro z0 l l1 l2 e
    unfold wX_readOperator_24
    rw [e]
    refine ed_popDown hg hf hT hN l1 l2 h2 hk h11 x hD hn (fun n' h' c' D' b5 b15 x' hD' hn' hs => ?_)
    have Q : ∀ z, wX_readOperator_65 post (nI t) z vL vT vF vS vM vB vO vI (nI h') vC a1 a2 a3 a4 b5 a6 a7 a8 a9 a10 a11 a12 a13 a14 b15 a16 a17 a18 a19 a20 a21 a22 a23 a24 a25 a26 := fun z => K65 z n' h' c' D' b5 b15 x' hD' hn'
    refine br_c (fun _ => ?_) (fun _ => Q 0)
    rcases hs with e0 | ⟨h0, e0, _⟩
    · subst e0
      exact br_t (by decide) (Q 0)
    · subst e0
      obtain ⟨p1, p2, p3, p4, p5⟩ := x'.2.2 h0 (by omega)
      refine pk_le (h0 + 1) 0 (fun z => absurd z (by omega)) (fun _ => ?_)
      rw [nI_pred h0, nI_clamp (show h0 < 2 ^ 31 by omega), p1]
      exact ⟨pk_in h0 82 (by omega), pk_in (pl h0) 81 (by omega), br_c (fun _ => Q 1) (fun _ => Q 0)⟩
  exact br_c (fun _ => K24 1 (ed_sg (kd t) + 1) (by omega) (by omega) (nI_1 _)) (fun _ => K24 0 (ed_sg (kd t)) (by omega) (by omega) (nI_add _ 0))
theorem ed_readClose {post : Int32 → St2 → Prop} {g f0 s0 T N n h : Nat} {kd pl c D : Nat → Nat} (hg : g < 82) (hf : f0 + s0 ≤ T) (hT : T ≤ 40) (hN : N ≤ 40) (h2 : ed_ar a2 kd T) (hk : ∀ k, k < T → kd k ≤ 10) (h11 : a11 g = nI f0)
    (x : ed_X f0 s0 kd g n h c D pl a5 a15 a24) (hD : D n = ed_op kd pl h + 1) (hn : n + h = N)
    (H0 : ∀ (vH : Int32) (a5 a15 : Nat → Int32), post 0 (vL, vT, vF, vS, vM, vB, vO, vI, vH, vC, a1, a2, a3, a4, a5, a6, a7, a8, a9, a10, a11, a12, a13, a14, a15, a16, a17, a18, a19, a20, a21, a22, a23, a24, a25, a26))
    (H : ∀ (n h : Nat) (c D : Nat → Nat) (a5 a15 : Nat → Int32), ed_X f0 s0 kd g n h c D pl a5 a15 a24 → D n = ed_op kd pl h + 1 → n + h ≤ N → post 1 (vL, vT, vF, vS, vM, vB, vO, vI, nI h, vC, a1, a2, a3, a4, a5, a6, a7, a8, a9, a10, a11, a12, a13, a14, a15, a16, a17, a18, a19, a20, a21, a22, a23, a24, a25, a26)) :
    wpX_readClose post (vL, vT, vF, vS, vM, vB, vO, vI, nI h, vC, a1, a2, a3, a4, a5, a6, a7, a8, a9, a10, a11, a12, a13, a14, a15, a16, a17, a18, a19, a20, a21, a22, a23, a24, a25, a26) (nI g) := by
  unfold wpX_readClose
  refine ed_popDown (l := 1) hg hf hT hN (by omega) (by omega) h2 hk h11 x hD hn (fun n' h' c' D' b5 b15 x' hD' hn' hs => ?_)
  rcases hs with e0 | ⟨h0, e0, hs⟩
  · subst e0
    exact br_t (by decide) (br_t rfl ⟨rfl, H0 _ _ _⟩)
  · subst e0
    obtain ⟨p1, p2, p3, p4, p5⟩ := x'.2.2 h0 (by omega)
    have sg := ed_sg_in (kd (pl h0))
    have e6 : ed_op kd pl (h0 + 1) = ed_op kd pl h0 := by
      show ed_op kd pl h0 + (if kd (pl h0) = 6 then 0 else 1) = _
      rw [if_pos (by omega)]
      rfl
    exact pk_le (h0 + 1) 0 (fun z => absurd z (by omega)) (fun _ => br_f (by decide) (nm_r (nI_pred h0) ⟨rfl, H n' h0 c' D' b5 b15 (ed_X_pop x' (by omega)) (by omega) (by omega)⟩))
theorem ed_re0 {post : Int32 → St2 → Prop} {x1 x4 x5 x6 : Int32} (H0 : post 0 (vL, vT, vF, vS, vM, vB, vO, vI, vH, vC, a1, a2, a3, a4, a5, a6, a7, a8, a9, a10, a11, a12, a13, a14, a15, a16, a17, a18, a19, a20, a21, a22, a23, a24, a25, a26)) (d : Nat) : wX_readExpression_35 post x1 x5 (d + 1) 0 x4 x6 vL vT vF vS vM vB vO vI vH vC a1 a2 a3 a4 a5 a6 a7 a8 a9 a10 a11 a12 a13 a14 a15 a16 a17 a18 a19 a20 a21 a22 a23 a24 a25 a26 :=
  br_c (fun _ => br_t rfl (br_t rfl H0)) (fun _ => br_t rfl (br_t rfl (br_t rfl H0)))
theorem ed_re35 {post : Int32 → St2 → Prop} {g f0 s0 T fr : Nat} {kd : Nat → Nat} (hg : g < 82) (hf : f0 + s0 ≤ T) (hT : T ≤ 40) (hfr : f0 ≤ fr) (h2 : ed_ar a2 kd T) (hk : ∀ k, k < s0 → kd (f0 + k) < 8) (hk10 : ∀ k, k < T → kd k ≤ 10) (h11 : a11 g = nI f0)
    (H0 : ∀ (vH : Int32) (a5 a15 a24 : Nat → Int32), post 0 (vL, vT, vF, vS, vM, vB, vO, vI, vH, vC, a1, a2, a3, a4, a5, a6, a7, a8, a9, a10, a11, a12, a13, a14, a15, a16, a17, a18, a19, a20, a21, a22, a23, a24, a25, a26))
    (H1 : ∀ (vH : Int32) (n : Nat) (c D : Nat → Nat) (a5 a15 a24 : Nat → Int32), n ≤ s0 → a15 g = nI n → ed_Cd f0 s0 n kd c D a5 → fr < f0 + s0 → post 1 (vL, vT, vF, vS, vM, vB, vO, vI, vH, vC, a1, a2, a3, a4, a5, a6, a7, a8, a9, a10, a11, a12, a13, a14, a15, a16, a17, a18, a19, a20, a21, a22, a23, a24, a25, a26)) :
    ∀ (d t b n h : Nat) (c D pl : Nat → Nat) (a5 a15 a24 : Nat → Int32), t + d = f0 + s0 → fr ≤ t → ed_X f0 s0 kd g n h c D pl a5 a15 a24 → D n = ed_op kd pl h + b → b ≤ 1 → fr + (n + h) ≤ t → (b = 1 → fr < t) → wX_readExpression_35 post (nI g) (nI (f0 + s0)) (d + 1) 1 (nI b) (nI t) vL vT vF vS vM vB vO vI (nI h) vC a1 a2 a3 a4 a5 a6 a7 a8 a9 a10 a11 a12 a13 a14 a15 a16 a17 a18 a19 a20 a21 a22 a23 a24 a25 a26 := by
  intro d
  induction d with
  | zero =>
    intro t b n h c D pl a5 a15 a24 ht hft x hD hb hn hb1
    refine pk_le (f0 + s0) t (fun _ => br_f (by decide) ?_) (fun z => absurd z (by omega))
    refine pk_eq b 0 (fun e => ?_) (fun e => ?_)
    · subst e
      exact br_f (by decide) (br_t rfl (H0 _ _ _ _))
    · have e1 : b = 1 := by omega
      subst e1
      refine ed_popDown (l := 1) hg hf hT (by omega) (by omega) (by omega) h2 hk10 h11 x hD rfl (fun n' h' c' D' b5 b15 x' hD' hn' hs => ?_)
      refine br_f (by decide) (br_f (by decide) (pk_eq h' 0 (fun e0 => ?_) (fun _ => H0 _ _ _ _)))
      exact H1 _ n' c' D' b5 b15 a24 (by omega) x'.1 x'.2.1 (by have := hb1 rfl; omega)
  | succ d ih =>
    intro t b n h c D pl a5 a15 a24 ht hft x hD hb hn hb1
    have et : (nI t).toNatClampNeg = t := nI_clamp (by omega)
    have k8 : kd t < 8 := by
      have := hk (t - f0) (by omega)
      rw [show f0 + (t - f0) = t by omega] at this
      exact this
    have fail : ∀ (x4 x6 vH : Int32) (a5 a15 a24 : Nat → Int32), wX_readExpression_35 post (nI g) (nI (f0 + s0)) (d + 1) 0 x4 x6 vL vT vF vS vM vB vO vI vH vC a1 a2 a3 a4 a5 a6 a7 a8 a9 a10 a11 a12 a13 a14 a15 a16 a17 a18 a19 a20 a21 a22 a23 a24 a25 a26 := fun x4 x6 vH a5 a15 a24 => ed_re0 (H0 vH a5 a15 a24) d
    have val : kd t ≤ 1 → wX_readExpression_66 post (wX_readExpression_35 post (nI g) (nI (f0 + s0)) (d + 1)) (nI g) (nI b) (nI (f0 + s0)) (nI t) vL vT vF vS vM vB vO vI (nI h) vC a1 a2 a3 a4 a5 a6 a7 a8 a9 a10 a11 a12 a13 a14 a15 a16 a17 a18 a19 a20 a21 a22 a23 a24 a25 a26 := by
      intro h1
      refine pk_eq b 0 (fun e => ?_) (fun e => ?_)
      · refine ed_emit hg (by omega) (by omega) h11 x.1 (nm_r (nI_1 t) (ih (t + 1) 1 (n + 1) h _ (ed_fu D (n + 1) (D n + 1)) pl _ _ _ (by omega) (by omega) (ed_X_emit x (by omega) (by omega) (Or.inl ⟨h1, rfl⟩)) ?_ (by omega) (by omega) (fun _ => by omega)))
        rw [ed_fu_s]
        omega
      · exact ed_emit hg (by omega) (by omega) h11 x.1 (nm_e (fail _ _ _ _ _ _))
    refine pk_le (f0 + s0) t (fun z => absurd z (by omega)) (fun _ => br_f (by decide) ⟨pk_in t 81 (by omega), nm_r (e' := nI (kd t)) (by rw [et, h2 t (by omega)]) ?_⟩)
    refine pk_eq (kd t) 0 (fun e => val (by omega)) (fun e0 => pk_eq (kd t) 1 (fun e => val (by omega)) (fun e1 => pk_eq (kd t) 6 (fun e => ?_) (fun e6 => pk_eq (kd t) 7 (fun e => ?_) (fun e7 => ?_))))
    · have eh : (nI h).toNatClampNeg = h := nI_clamp (by omega)
      refine pk_eq b 0 (fun eb => ?_) (fun eb => ?_)
      · subst eb
        refine ⟨pk_in h 82 (by omega), nm_r (e' := upd a24 h (nI t)) (by rw [eh]) (nm_r (nI_1 h) (nm_r (nI_1 t) (ih (t + 1) 0 n (h + 1) c D (ed_fu pl h t) _ _ _ (by omega) (by omega) (ed_X_push x (by omega) (by omega) (by omega) (by omega)) ?_ (by omega) (by omega) (fun z => absurd z (by omega)))))⟩
        rw [ed_op_push, if_pos e]
        exact hD
      · exact ⟨pk_in h 82 (by omega), nm_e (nm_e (nm_e (fail _ _ _ _ _ _)))⟩
    · refine pk_eq b 0 (fun eb => nm_e (fail _ _ _ _ _ _)) (fun eb => ?_)
      have b1 : b = 1 := by omega
      subst b1
      refine ed_readClose hg hf hT (by omega) h2 hk10 h11 x hD rfl (fun vH' b5 b15 => br_t rfl (nm_e (fail _ _ _ _ _ _))) (fun n' h' c' D' b5 b15 x' hD' hn' => ?_)
      exact br_f (by decide) (nm_r (nI_1 t) (ih (t + 1) 1 n' h' c' D' pl _ _ _ (by omega) (by omega) x' hD' (by omega) (by omega) (fun _ => by omega)))
    · refine pk_eq b 0 (fun eb => nm_e (fail _ _ _ _ _ _)) (fun eb => pk_eq (kd t) 2 (fun _ => nm_e (fail _ _ _ _ _ _)) (fun e2 => ?_))
      have b1 : b = 1 := by omega
      subst b1
      refine ed_readOperator hg hf hT (by omega) h2 hk10 h11 x hD rfl (by omega) (by omega) (by omega) (by omega) (fun r n' h' c' D' pl' b5 b15 b24 x' hD' hn' => ?_)
      exact br_c (fun _ => nm_e (fail _ _ _ _ _ _)) (fun _ => nm_r (nI_1 t) (ih (t + 1) 0 n' h' c' D' pl' _ _ _ (by omega) (by omega) x' hD' (by omega) (by omega) (fun z => absurd z (by omega))))
theorem ed_readExpression {post : Int32 → St2 → Prop} {g f0 s0 T fr : Nat} {kd : Nat → Nat} (hg : g < 82) (hf : f0 + s0 ≤ T) (hT : T ≤ 40) (hfr : f0 ≤ fr) (hfr2 : fr ≤ f0 + s0) (h2 : ed_ar a2 kd T) (hk : ∀ k, k < s0 → kd (f0 + k) < 8) (hk10 : ∀ k, k < T → kd k ≤ 10) (h11 : a11 g = nI f0) (h12 : a12 g = nI s0)
    (H0 : ∀ (vH : Int32) (a5 a15 a24 : Nat → Int32), post 0 (vL, vT, vF, vS, vM, vB, vO, vI, vH, vC, a1, a2, a3, a4, a5, a6, a7, a8, a9, a10, a11, a12, a13, a14, a15, a16, a17, a18, a19, a20, a21, a22, a23, a24, a25, a26))
    (H1 : ∀ (vH : Int32) (n : Nat) (c D : Nat → Nat) (a5 a15 a24 : Nat → Int32), n ≤ s0 → a15 g = nI n → ed_Cd f0 s0 n kd c D a5 → fr < f0 + s0 → post 1 (vL, vT, vF, vS, vM, vB, vO, vI, vH, vC, a1, a2, a3, a4, a5, a6, a7, a8, a9, a10, a11, a12, a13, a14, a15, a16, a17, a18, a19, a20, a21, a22, a23, a24, a25, a26)) :
    wpX_readExpression post (vL, vT, vF, vS, vM, vB, vO, vI, vH, vC, a1, a2, a3, a4, a5, a6, a7, a8, a9, a10, a11, a12, a13, a14, a15, a16, a17, a18, a19, a20, a21, a22, a23, a24, a25, a26) (nI g) (nI fr) := by
  have eg : (nI g).toNatClampNeg = g := nI_clamp (by omega)
  have ig : vp_in (nI g) 82 := pk_in g 82 hg
  refine ⟨ig, nm_r (e' := upd a15 g 0) (by rw [eg]) ⟨ig, ig, nm_r (e' := nI (f0 + s0)) (by rw [eg, h11, h12, nI_add]) ⟨f0 + s0 - fr + 1, ?_⟩⟩⟩
  exact ed_re35 hg hf hT hfr h2 hk hk10 h11 H0 H1 (f0 + s0 - fr) fr 0 0 0 (fun _ => 0) (fun _ => 0) (fun _ => 0) _ _ _ (by omega) (Nat.le_refl fr) ⟨pk_us, ⟨fun k hk => absurd hk (by omega), rfl, fun k hk => absurd hk (by omega)⟩, fun i hi => absurd hi (by omega)⟩ rfl (by omega) (by omega) (fun z => absurd z (by omega))
theorem ed_readStretch {post : St2 → Prop} {g f0 s0 T : Nat} {kd : Nat → Nat} (hg : g < 82) (hf : f0 + s0 ≤ T) (hT : T ≤ 40) (h2 : ed_ar a2 kd T) (hk : ∀ k, k < s0 → kd (f0 + k) < 8) (hk10 : ∀ k, k < T → kd k ≤ 10) (h11 : a11 g = nI f0) (h12 : a12 g = nI s0)
    (H : ∀ (v : Nat) (vH : Int32) (a5 a15 a24 : Nat → Int32), v ≤ 3 → (v = 3 ↔ s0 = 0) → (v = 2 → 3 ≤ s0) → (v = 1 ∨ v = 2 → ∃ (n : Nat) (c D : Nat → Nat), n ≤ s0 ∧ a15 g = nI n ∧ ed_Cd f0 s0 n kd c D a5) → post (vL, vT, vF, vS, vM, vB, vO, vI, vH, vC, a1, a2, a3, a4, a5, a6, a7, a8, a9, a10, a11, a12, a13, upd a14 g (nI v), a15, upd a16 g 1, a17, a18, a19, a20, a21, a22, a23, a24, a25, a26)) :
    wpX_readStretch post (vL, vT, vF, vS, vM, vB, vO, vI, vH, vC, a1, a2, a3, a4, a5, a6, a7, a8, a9, a10, a11, a12, a13, a14, a15, a16, a17, a18, a19, a20, a21, a22, a23, a24, a25, a26) (nI g) := by
  have eg : (nI g).toNatClampNeg = g := nI_clamp (by omega)
  have ig : vp_in (nI g) 82 := pk_in g 82 hg
  refine ⟨ig, nm_r (e' := upd a16 g 1) (by rw [eg]) ⟨ig, pk_eq s0 0 (fun e => ?_) (fun e => ⟨ig, ?_⟩) (by rw [eg, h12])⟩⟩
  · exact ⟨ig, nm_r (e' := upd a14 g (nI 3)) (by rw [eg]; rfl) (H 3 _ _ _ _ (by omega) ⟨fun _ => e, fun _ => rfl⟩ (fun z => absurd z (by omega)) (fun z => absurd z (by omega)))⟩
  · have K115 : ∀ (x2 vH : Int32) (a5 a15 a24 : Nat → Int32), wX_readStretch_115 post (nI g) x2 vL vT vF vS vM vB vO vI vH vC a1 a2 a3 a4 a5 a6 a7 a8 a9 a10 a11 a12 a13 a14 a15 (upd a16 g 1) a17 a18 a19 a20 a21 a22 a23 a24 a25 a26 := fun x2 vH a5 a15 a24 => br_t rfl ⟨ig, nm_r (e' := upd a14 g (nI 0)) (by rw [eg]; rfl) (H 0 _ _ _ _ (by omega) ⟨fun z => absurd z (by omega), fun z => absurd z e⟩ (fun z => absurd z (by omega)) (fun z => absurd z (by omega)))⟩
    have K70 : ∀ b : Nat, b ≤ 1 → (b = 1 → 2 ≤ s0) → wX_readStretch_70 post (nI g) (nI b) vL vT vF vS vM vB vO vI vH vC a1 a2 a3 a4 a5 a6 a7 a8 a9 a10 a11 a12 a13 a14 a15 (upd a16 g 1) a17 a18 a19 a20 a21 a22 a23 a24 a25 a26 := by
      intro b hb hb2
      refine ⟨ig, br_c (fun _ => ?_) (fun _ => K115 _ _ _ _ _)⟩
      refine pk_eq b 0 (fun eb => ⟨ig, ?_⟩) (fun eb => ⟨ig, ?_⟩)
      · subst eb
        rw [eg, h11]
        refine ed_readExpression hg hf hT (Nat.le_refl f0) (by omega) h2 hk hk10 h11 h12 (fun vH' b5 b15 b24 => br_t rfl (K115 _ _ _ _ _)) (fun vH' n c D b5 b15 b24 n1 n2 n3 n4 => br_f (by decide) ?_)
        exact br_f (by decide) (br_t rfl ⟨ig, nm_r (e' := upd a14 g (nI 1)) (by rw [eg]; rfl) (H 1 _ _ _ _ (by omega) ⟨fun z => absurd z (by omega), fun z => absurd z e⟩ (fun z => absurd z (by omega)) (fun _ => ⟨n, c, D, n1, n2, n3⟩))⟩)
      · have e1 : b = 1 := by omega
        subst e1
        have s2 := hb2 rfl
        have ef : nI f0 + 2 = nI (f0 + 2) := nI_add f0 2
        rw [eg, h11, ef]
        refine ed_readExpression hg hf hT (show f0 ≤ f0 + 2 by omega) (by omega) h2 hk hk10 h11 h12 (fun vH' b5 b15 b24 => br_t rfl (K115 _ _ _ _ _)) (fun vH' n c D b5 b15 b24 n1 n2 n3 n4 => br_f (by decide) ?_)
        exact br_f (by decide) (br_f (by decide) ⟨ig, nm_r (e' := upd a14 g (nI 2)) (by rw [eg]; rfl) (H 2 _ _ _ _ (by omega) ⟨fun z => absurd z (by omega), fun z => absurd z e⟩ (fun _ => by omega) (fun _ => ⟨n, c, D, n1, n2, n3⟩))⟩)
    have K69 : wX_readStretch_69 post (nI g) vL vT vF vS vM vB vO vI vH vC a1 a2 a3 a4 a5 a6 a7 a8 a9 a10 a11 a12 a13 a14 a15 (upd a16 g 1) a17 a18 a19 a20 a21 a22 a23 a24 a25 a26 := K70 0 (by omega) (fun z => absurd z (by omega))
    refine pk_le s0 1 (fun _ => K69) (fun w => ⟨ig, pk_in f0 81 (by omega) (by rw [eg, h11]), br_c (fun _ => ⟨ig, pk_in (f0 + 1) 81 (by omega) (by rw [eg, h11, nI_1]), br_c (fun _ => K70 1 (by omega) (fun _ => by omega)) (fun _ => K69)⟩) (fun _ => K69)⟩) (by rw [eg, h12])
end
end
section
section
variable {vL vT vF vS vM vB vO vI vH vC : Int32} {a1 a2 a3 a4 a5 a6 a7 a8 a9 a10 a11 a12 a13 a14 a15 a16 a17 a18 a19 a20 a21 a22 a23 a24 a25 a26 : Nat → Int32}
/-- how many of n stretches are not empty -/
def ed_it (si : Nat → Nat) : Nat → Nat
  | 0 => 0
  | k + 1 => ed_it si k + (if si k = 0 then 0 else 1)
theorem ed_it_le (si : Nat → Nat) (n : Nat) : ed_it si n ≤ n := by
  induction n with
  | zero => exact Nat.le_refl 0
  | succ n ih =>
    unfold ed_it
    split <;> omega
theorem ed_it_fi {S T : Nat} {kd fi si : Nat → Nat} (h : ed_Str S T kd fi si) : ∀ g, g < S → ed_it si g ≤ fi g := by
  intro g
  induction g with
  | zero => exact fun _ => Nat.zero_le _
  | succ g ih =>
    intro hg
    have h1 := ih (by omega)
    have h2 := (h.2.2.1 g hg).1
    unfold ed_it
    split <;> omega
theorem ed_it_T {S T : Nat} {kd fi si : Nat → Nat} (h : ed_Str S T kd fi si) : ed_it si S ≤ T := by
  have h0 := h.1
  have h1 := ed_it_fi h (S - 1) (by omega)
  have h2 := h.2.2.2.1
  obtain ⟨s, rfl⟩ : ∃ s, S = s + 1 := ⟨S - 1, by omega⟩
  rw [show s + 1 - 1 = s by omega] at h1 h2
  unfold ed_it
  split <;> omega
theorem ed_st14 {post : St2 → Prop} {L T S : Nat} {tx kd st sz fi si : Nat → Nat} (hL : L ≤ 4) (h2 : ed_ar a2 kd T) (h3 : ed_ar a3 st T) (h4 : ed_ar a4 sz T) (tok : ed_Tok L T tx kd st sz) (h11 : ed_ar a11 fi S) (h12 : ed_ar a12 si S) (str : ed_Str S T kd fi si)
    (H : ∀ (vM vH : Int32) (a5 a6 a7 a14 a15 a16 a18 a19 a20 a21 a24 : Nat → Int32), (∀ k, k < S → (a14 k = 3 ↔ si k = 0)) → post (vL, vT, vF, nI S, vM, vB, vO, 1, vH, vC, a1, a2, a3, a4, a5, a6, a7, a8, a9, a10, a11, a12, a13, a14, a15, a16, a17, a18, a19, a20, a21, a22, a23, a24, a25, a26)) :
    ∀ (d g : Nat) (vM vH : Int32) (a5 a6 a7 a14 a15 a16 a18 a19 a20 a21 a24 : Nat → Int32), g + d = S → (∀ k, k < g → (a14 k = 3 ↔ si k = 0) ∧ (a14 k = 2 → 3 ≤ si k)) → (∀ k, g ≤ k → k < S → a16 k = 0) → wX_study_14 post (d + 1) (nI g) vL vT vF (nI S) vM vB vO vI vH vC a1 a2 a3 a4 a5 a6 a7 a8 a9 a10 a11 a12 a13 a14 a15 a16 a17 a18 a19 a20 a21 a22 a23 a24 a25 a26 := by
  have hT := ed_Tok_T tok
  have hS := ed_Str_S str
  have k10 : ∀ k, k < T → kd k ≤ 10 := fun k hk => ed_KR_10 (tok k hk).2.2.1
  have hb : ∀ k, k < T → st k + sz k ≤ 80 := fun k hk => Nat.le_trans (tok k hk).2.1 (by omega)
  intro d
  induction d with
  | zero =>
    intro g vM vH a5 a6 a7 a14 a15 a16 a18 a19 a20 a21 a24 hd hi h16
    have e : g = S := by omega
    subst e
    exact pk_le g g (fun _ => H _ _ _ _ _ _ _ _ _ _ _ _ _ (fun k hk => (hi k hk).1)) (fun z => absurd z (by omega))
  | succ d ih =>
    intro g vM vH a5 a6 a7 a14 a15 a16 a18 a19 a20 a21 a24 hd hi h16
    have hg : g < S := by omega
    have hle := ed_Str_le str g hg
    refine pk_le S g (fun z => absurd z (by omega)) (fun _ => ⟨pk_in g 82 (by omega), br_t (by rw [nI_clamp (by omega)]; exact h16 g (Nat.le_refl g) hg) ?_⟩)
    refine ed_readStretch (by omega) hle (by omega) h2 (fun k hk => str.2.2.2.2 g k hg hk) k10 (h11 g hg) (h12 g hg) (fun v vH' b5 b15 b24 v1 v2 v3 v4 => ?_)
    refine ed_update (f0 := fi g) (s0 := si g) (v := v) (by omega) hle (by omega) h2 k10 h3 h4 hb (h11 g hg) pk_us v1 (fun z => ?_) (fun vM' vH' b6 b7 b18 b19 b20 b21 b24 => ?_)
    · obtain ⟨n, c, D, n1, n2, n3⟩ := v4 z
      refine ⟨n, c, D, n1, n2, n3, fun k hk e2 => ?_⟩
      rw [pk_un (by omega)] at e2
      have s3 := (hi k hk).2 e2
      have s0 : si g ≠ 0 := fun y => by
        have := v2.mpr y
        omega
      have f1 : ∀ d' k', k' + d' + 1 = g → fi k' + si k' + 1 ≤ fi g := by
        intro d'
        induction d' with
        | zero =>
          intro k' hk'
          have := (str.2.2.1 k' (by omega)).1
          rw [show k' + 1 = g by omega] at this
          omega
        | succ d' ih' =>
          intro k' hk'
          have h1 := ih' (k' + 1) (by omega)
          have h2 := (str.2.2.1 k' (by omega)).1
          omega
      have := f1 (g - k - 1) k (by omega)
      omega
    · refine nm_r (nI_1 g) (ih (g + 1) _ _ _ _ _ _ _ _ _ _ _ _ _ (by omega) (fun k hk => ?_) (fun k k1 k2 => ?_))
      · by_cases e : k = g
        · subst e
          rw [pk_us]
          refine ⟨Iff.trans (nI_eq (b := 3) (by omega) (by omega)) v2, fun z => v3 ((nI_eq (b := 2) (by omega) (by omega)).mp z)⟩
        · rw [pk_un e]
          exact hi k (by omega)
      · rw [pk_un (by omega)]
        exact h16 k (by omega) k2
theorem ed_in4 {post : Int32 → Prop} {S : Nat} {si : Nat → Nat} {x1 : Int32} (hS : S ≤ 80) (hx : x1 = nI S) (h14 : ∀ k, k < S → (a14 k = 3 ↔ si k = 0)) (H : post (nI (ed_it si S))) : ∀ (d k : Nat), k + d = S → wX_itemNumber_4 post x1 vL vT vF vS vM vB vO vI vH vC a1 a2 a3 a4 a5 a6 a7 a8 a9 a10 a11 a12 a13 a14 a15 a16 a17 a18 a19 a20 a21 a22 a23 a24 a25 a26 (d + 1) (nI (ed_it si k)) (nI k) := by
  subst hx
  intro d
  induction d with
  | zero =>
    intro k hd
    have e : k = S := by omega
    subst e
    exact pk_le k k (fun _ => H) (fun z => absurd z (by omega))
  | succ d ih =>
    intro k hd
    have K := ih (k + 1) (by omega)
    have hle := ed_it_le si k
    have hk := h14 k (by omega)
    unfold ed_it at K
    refine pk_le S k (fun z => absurd z (by omega)) (fun _ => ⟨pk_in k 82 (by omega), ?_⟩)
    rw [nI_clamp (show k < 2 ^ 31 by omega)]
    refine br_c (fun e => ?_) (fun e => ?_)
    · rw [if_pos (hk.mp e)] at K
      exact nm_r (nI_1 k) K
    · rw [if_neg (fun z => e (hk.mpr z))] at K
      exact nm_r (nI_1 _) (nm_r (nI_1 k) K)
theorem ed_items {post : Int32 → St2 → Prop} {L T S : Nat} {tx kd st sz fi si : Nat → Nat} (hL : L ≤ 4) (hp : ed_Pic L T S tx kd st sz fi si a1 a2 a3 a4 a11 a12 a13 a16)
    (H : ∀ (vM vB vO vH : Int32) (a5 a6 a7 a14 a15 a16 a17 a18 a19 a20 a21 a22 a23 a24 : Nat → Int32), post (nI (ed_it si S)) (nI L, nI T, vF, nI S, vM, vB, vO, 1, vH, vC, a1, a2, a3, a4, a5, a6, a7, a8, a9, a10, a11, a12, a13, a14, a15, a16, a17, a18, a19, a20, a21, a22, a23, a24, a25, a26)) : wpX_items post (nI L, nI T, vF, nI S, vM, vB, vO, 0, vH, vC, a1, a2, a3, a4, a5, a6, a7, a8, a9, a10, a11, a12, a13, a14, a15, a16, a17, a18, a19, a20, a21, a22, a23, a24, a25, a26) := by
  obtain ⟨p1, p2, p3, p4, p5, p6, p7, p8, p9, p10, p11, p12⟩ := hp
  have hT := ed_Tok_T p6
  have hS := ed_Str_S p10
  unfold wpX_items
  refine br_t rfl (ed_findBlocks (by omega) (fun vB' vO' b17 b22 b23 => ⟨S + 1, ?_⟩))
  refine ed_st14 hL p3 p4 p5 p6 p8 p9 p10 (fun vM' vH' b5 b6 b7 b14 b15 b16 b18 b19 b20 b21 b24 h14 => ?_) S 0 _ _ _ _ _ _ _ _ _ _ _ _ _ (by omega) lt_0 (fun k _ hk => p12 k hk)
  exact ⟨S + 1, ed_in4 (by omega) rfl h14 (H _ _ _ _ _ _ _ _ _ _ _ _ _ _ _ _ _ _) S 0 (by omega)⟩
end
end
section
section
variable {mc ms kc ks : Nat} {x0 x1 x2 x3 x4 x6 x7 x8 x9 x10 x11 x12 x13 x14 x16 x17 x18 x19 x20 x21 : Int32}
/-- the law's post -/
def ed_po (r : Int32) (_ : St0) : Prop := r = 1
theorem ed_l406 (h1 : ¬ x16 < x8) (h2 : ¬ x8 < x10) (h3 : 0 < x16 ∨ x9 = -3) (r0 : x17 = 0 → x11 = -1) (r1 : ¬ x17 = 0 → x11 = x16 - x4) : wL_lawOf_406 ed_po mc ms x4 x8 x9 x10 x11 x16 x17 kc ks := by
  have tail : ((0 < x16 → ed_po 1 ()) ∧ (¬ 0 < x16 → ((x9 = (-3) → ed_po 1 ()) ∧ (¬ x9 = (-3) → ed_po 0 ())))) := br_c (fun _ => rfl) (fun g => br_t (h3.resolve_left g) rfl)
  exact br_f h1 (br_f h2 (br_c (fun z => br_t (r0 z) tail) (fun z => br_t (r1 z) tail)))
/-- what is checked of one character alone -/
def ed_one (k : Nat) (x8 x9 x10 : Int32) : Prop := (k = 18 → x8 = 0 ∧ x9 = -3 ∧ x10 = 0) ∧ (k < 18 → x8 = 1 ∧ x9 = nI (if k < 5 then 0 else if k < 10 then 1 else if k = 10 then 2 else k - 7) ∧ (k < 15 → x10 = 1) ∧ (15 ≤ k → x10 = 0))
theorem ed_l312 {z0 : Int32} (p0 : x12 = 0 → x6 = -1) (p1 : ¬ x12 = 0 → x6 = 1) (m0 : x13 = 0 → x7 = -1) (m1 : ¬ x13 = 0 → x7 = x16)
    (K : ((x19 = 0 → (wL_lawOf_406 ed_po mc ms x4 x8 x9 x10 x11 x16 x17 kc ks)) ∧ (¬ x19 = 0 → (((x18 = 18 → (wL_lawOf_364 ed_po mc ms x4 x8 x9 x10 x11 x16 x17 x18 x20 z0 0 x8 kc ks)) ∧ (¬ x18 = 18 → (wL_lawOf_364 ed_po mc ms x4 x8 x9 x10 x11 x16 x17 x18 x20 z0 1 x8 kc ks))))))) :
    wL_lawOf_312 ed_po mc ms x4 x6 x7 x8 x9 x10 x11 x12 x13 x16 x17 x18 x19 x20 z0 kc ks :=
  br_c (fun z => br_t (p0 z) (br_c (fun w => br_t (m0 w) K) (fun w => br_t (m1 w) K))) (fun z => br_t (p1 z) (br_c (fun w => br_t (m0 w) K) (fun w => br_t (m1 w) K)))
theorem ed_l249B (p0 : x12 = 0 → x6 = -1) (p1 : ¬ x12 = 0 → x6 = 1) (m0 : x13 = 0 → x7 = -1) (m1 : ¬ x13 = 0 → x7 = x16) (h : wL_lawOf_406 ed_po mc ms x4 x8 x9 x10 x11 x16 x17 kc ks) :
    wL_lawOf_249 ed_po mc ms x4 x6 x7 x8 x9 x10 x11 x12 x13 x16 x17 x18 0 kc ks := by
  have B : ∀ o, wL_lawOf_288 ed_po mc ms x4 x6 x7 x8 x9 x10 x11 x12 x13 x16 x17 x18 0 o kc ks := fun o => br_t rfl (ed_l312 p0 p1 m0 m1 (br_t rfl h))
  exact br_c (fun _ => br_c (fun _ => br_c (fun _ => B _) (fun _ => B _)) (fun _ => B _)) (fun _ => B _)
theorem ed_l249A {k : Nat} (hk : k ≤ 18) (o : ed_one k x8 x9 x10) (p0 : x12 = 0 → x6 = -1) (p1 : ¬ x12 = 0 → x6 = 1) (m0 : x13 = 0 → x7 = -1) (m1 : ¬ x13 = 0 → x7 = x16) (h : wL_lawOf_406 ed_po mc ms x4 x8 x9 x10 x11 x16 x17 kc ks) :
    wL_lawOf_249 ed_po mc ms x4 x6 x7 x8 x9 x10 x11 x12 x13 x16 x17 (nI k) 1 kc ks := by
  have A : ∀ y, (k < 18 → x9 = y) → wL_lawOf_288 ed_po mc ms x4 x6 x7 x8 x9 x10 x11 x12 x13 x16 x17 (nI k) 1 y kc ks := by
    intro y hy
    refine br_f (by decide) (br_f (nI_pos (by omega)) (pk_le 18 k (fun z => ?_) (fun z => ?_)))
    · obtain ⟨o1, o2, o3⟩ := o.1 (by omega)
      exact ed_l312 p0 p1 m0 m1 (br_f (by decide) (pk_eq k 18 (fun _ => br_t o1 (br_t rfl (br_t o2 (br_t rfl (br_t o3 h))))) (fun w => absurd w (by omega))))
    · obtain ⟨o1, o2, o3, o4⟩ := o.2 z
      refine ed_l312 p0 p1 m0 m1 (br_f (by decide) (pk_eq k 18 (fun w => absurd w (by omega)) (fun _ => br_t o1 (br_f (by decide) (br_t (hy z) (br_f (by decide) (pk_le 15 k (fun w => br_t (o4 w) h) (fun w => br_t (o3 w) h))))))))
  refine pk_le 5 k (fun z5 => pk_le 10 k (fun z10 => pk_eq k 10 (fun e => A _ (fun w => ?_)) (fun e => A _ (fun w => ?_))) (fun z10 => A _ (fun w => ?_))) (fun z5 => A _ (fun w => ?_))
  · have := (o.2 w).2.1
    rw [if_neg (by omega), if_neg (by omega), if_pos e] at this
    exact this
  · have := (o.2 w).2.1
    rw [if_neg (by omega), if_neg (by omega), if_neg e, ← pk_sub (by omega)] at this
    exact this
  · have := (o.2 w).2.1
    rw [if_neg (by omega), if_pos (by omega)] at this
    exact this
  · have := (o.2 w).2.1
    rw [if_pos z5] at this
    exact this
theorem ed_l161 (p0 : x12 = 0 → x6 = -1) (p1 : ¬ x12 = 0 → x6 = 1) (m0 : x13 = 0 → x7 = -1) (m1 : ¬ x13 = 0 → x7 = x16) (h1 : ¬ x16 < x8) (h2 : ¬ x8 < x10) (h3 : 0 < x16 ∨ x9 = -3)
    (R0 : (x0 < 0 ∨ x16 < x0 ∨ x4 < 0 ∨ (x16 - x0) < x4) → x11 = -1) (R1 : ¬ x0 < 0 → ¬ x16 < x0 → ¬ x4 < 0 → ¬ (x16 - x0) < x4 → x11 = x16 - x4)
    (A : ¬ x12 = 0 → (x13 = 0 ∨ ¬ 0 < x14) → ∃ k : Nat, k ≤ 18 ∧ x1 = nI k ∧ ed_one k x8 x9 x10) :
    wL_lawOf_161 ed_po mc ms x0 x1 x2 x3 x4 x6 x7 x8 x9 x10 x11 x12 x13 x14 x16 kc ks := by
  have w192 : ∀ z0 : Int32, (z0 = 0 → x11 = -1) → (¬ z0 = 0 → x11 = x16 - x4) → wL_lawOf_192 ed_po mc ms x1 x2 x3 x4 x6 x7 x8 x9 x10 x11 x12 x13 x14 x16 z0 kc ks := by
    intro z0 r0 r1
    have h : wL_lawOf_406 ed_po mc ms x4 x8 x9 x10 x11 x16 z0 kc ks := ed_l406 h1 h2 h3 r0 r1
    have B : ∀ y, wL_lawOf_249 ed_po mc ms x4 x6 x7 x8 x9 x10 x11 x12 x13 x16 z0 y 0 kc ks := fun y => ed_l249B p0 p1 m0 m1 h
    have C : ¬ x12 = 0 → (x13 = 0 ∨ ¬ 0 < x14) → wL_lawOf_249 ed_po mc ms x4 x6 x7 x8 x9 x10 x11 x12 x13 x16 z0 x1 1 kc ks := by
      intro g1 g2
      obtain ⟨k, k1, k2, k3⟩ := A g1 g2
      rw [k2]
      exact ed_l249A k1 k3 p0 p1 m0 m1 h
    refine br_c (fun z => ?_) (fun z => br_f z (br_c (fun w => C z (Or.inl w)) (fun w => br_c (fun _ => B x1) (fun v => C z (Or.inr v)))))
    exact br_c (fun _ => br_t z (B _)) (fun _ => br_c (fun _ => br_t z (B _)) (fun _ => br_c (fun _ => br_t z (B _)) (fun _ => br_t z (B _))))
  have w0 : x11 = -1 → wL_lawOf_191 ed_po mc ms x1 x2 x3 x4 x6 x7 x8 x9 x10 x11 x12 x13 x14 x16 kc ks := fun e => w192 0 (fun _ => e) (fun z => absurd rfl z)
  exact br_c (fun g => w0 (R0 (Or.inl g))) (fun g1 => br_c (fun g => w0 (R0 (Or.inr (Or.inl g)))) (fun g2 => br_c (fun g => w0 (R0 (Or.inr (Or.inr (Or.inl g))))) (fun g3 => br_c (fun g => w0 (R0 (Or.inr (Or.inr (Or.inr g))))) (fun g4 => w192 1 (fun z => absurd z (by decide)) (fun _ => R1 g1 g2 g3 g4)))))
theorem ed_gd_iff (x : Int32) : ed_gd x ↔ (¬ x < -1 ∧ ¬ 18 < x) := by
  constructor
  · intro h
    rcases h with rfl | ⟨c, hc, rfl⟩
    · exact ⟨by decide, by decide⟩
    · refine ⟨fun z => ?_, nI_nlt (a := 18) hc (by omega)⟩
      rw [Int32.lt_iff_toInt_lt, nI_toInt (by omega)] at z
      have e : (-1 : Int32).toInt = -1 := by decide
      omega
  · intro ⟨h1, h2⟩
    by_cases e : x < 0
    · left
      rw [Int32.lt_iff_toInt_lt] at h1 e
      have e1 : (-1 : Int32).toInt = -1 := by decide
      have e0 : (0 : Int32).toInt = 0 := by decide
      apply Int32.toInt_inj.mp
      omega
    · right
      refine ed_18 e ?_
      exact Int32.not_lt.mp h2
theorem ed_l80 {f L : Nat} {z a b c p n r6 r7 r8 r9 r10 r11 : Int32} (hz : (z = 0 ∧ f = 0) ∨ (z = 1 ∧ f = 1)) (p0 : z = 0 → r6 = -1) (p1 : ¬ z = 0 → r6 = 1)
    (m0 : ¬ (ed_gd a ∧ ed_gd b) → r7 = -1 ∧ L = f) (m1 : ed_gd a → ed_gd b → r7 = nI L ∧ L = f + (if a = -1 then 0 else 1) + (if b = -1 then 0 else 1) + (if a = -1 then 0 else 1))
    (h1 : ¬ nI L < r8) (h2 : ¬ r8 < r10) (h3 : 0 < nI L ∨ r9 = -3)
    (R0 : (p < 0 ∨ nI L < p ∨ n < 0 ∨ (nI L - p) < n) → r11 = -1) (R1 : ¬ p < 0 → ¬ nI L < p → ¬ n < 0 → ¬ (nI L - p) < n → r11 = nI L - n)
    (A : ¬ z = 0 → (¬ (ed_gd a ∧ ed_gd b) ∨ (a = -1 ∧ b = -1)) → ∃ k : Nat, k ≤ 18 ∧ c = nI k ∧ ed_one k r8 r9 r10) :
    wL_lawOf_80 ed_po mc ms p c a b n r6 r7 r8 r9 r10 r11 z kc ks := by
  have no : ¬ (ed_gd a ∧ ed_gd b) → wL_lawOf_108 ed_po mc ms p c a b n r6 r7 r8 r9 r10 r11 z kc ks := by
    intro h
    obtain ⟨e1, e2⟩ := m0 h
    have K : ∀ y x : Int32, x = nI L → wL_lawOf_161 ed_po mc ms p c a b n r6 r7 r8 r9 r10 r11 z 0 y x kc ks := by
      intro y x hx
      subst hx
      exact ed_l161 p0 p1 (fun _ => e1) (fun z => absurd rfl z) h1 h2 h3 R0 R1 (fun g1 _ => A g1 (Or.inl h))
    have K2 : ∀ y z1 : Int32, wL_lawOf_131 ed_po mc ms p c a b n r6 r7 r8 r9 r10 r11 z 0 y z1 kc ks := by
      intro y z1
      refine nm_e (br_c (fun g => br_t rfl (K _ 0 ?_)) (fun g => br_t rfl (K _ 1 ?_)))
      · rcases hz with w | w
        · rw [e2, w.2]
          rfl
        · rw [w.1] at g
          exact absurd g (by decide)
      · rcases hz with w | w
        · exact absurd w.1 g
        · rw [e2, w.2]
          rfl
    exact br_c (fun _ => br_c (fun _ => K2 _ _) (fun _ => K2 _ _)) (fun _ => br_c (fun _ => K2 _ _) (fun _ => K2 _ _))
  have yes : ed_gd a → ed_gd b → wL_lawOf_109 ed_po mc ms p c a b n r6 r7 r8 r9 r10 r11 z 1 kc ks := by
    intro ha hb
    obtain ⟨e1, e2⟩ := m1 ha hb
    have K : ∀ y x : Int32, x = nI L → (¬ 0 < y → a = -1 ∧ b = -1) → wL_lawOf_161 ed_po mc ms p c a b n r6 r7 r8 r9 r10 r11 z 1 y x kc ks := by
      intro y x hx hy
      subst hx
      exact ed_l161 p0 p1 (fun z => absurd z (by decide)) (fun _ => e1) h1 h2 h3 R0 R1 (fun g1 g2 => A g1 (Or.inr (hy (g2.resolve_left (by decide)))))
    have K2 : ∀ (y z1 : Int32) (m : Nat), z1 + y = nI m → L = f + m → m < 10 → (m = 0 → a = -1 ∧ b = -1) → wL_lawOf_131 ed_po mc ms p c a b n r6 r7 r8 r9 r10 r11 z 1 y z1 kc ks := by
      intro y z1 m hm hL hm10 h0
      have hy : ¬ 0 < nI m → a = -1 ∧ b = -1 := by
        intro g
        refine h0 ?_
        rcases Nat.eq_zero_or_pos m with w | w
        · exact w
        · exact absurd (nI_lt (a := 0) w (by omega)) g
      refine nm_r (e' := nI m) hm (br_c (fun g => br_f (by decide) (K _ _ ?_ hy)) (fun g => br_f (by decide) (K _ _ ?_ hy)))
      · rcases hz with w | w
        · rw [hL, w.2]
          exact nI_add 0 m
        · rw [w.1] at g
          exact absurd g (by decide)
      · rcases hz with w | w
        · exact absurd w.1 g
        · rw [hL, w.2]
          exact nI_add 1 m
    refine br_c (fun ea => br_c (fun eb => ?_) (fun eb => ?_)) (fun ea => br_c (fun eb => ?_) (fun eb => ?_))
    · rw [if_pos ea, if_pos eb] at e2
      exact K2 _ _ 0 (by decide) (by omega) (by omega) (fun _ => ⟨ea, eb⟩)
    · rw [if_pos ea, if_neg eb] at e2
      exact K2 _ _ 1 (by decide) (by omega) (by omega) (fun w => absurd w (by omega))
    · rw [if_neg ea, if_pos eb] at e2
      exact K2 _ _ 2 (by decide) (by omega) (by omega) (fun w => absurd w (by omega))
    · rw [if_neg ea, if_neg eb] at e2
      exact K2 _ _ 3 (by decide) (by omega) (by omega) (fun w => absurd w (by omega))
  refine br_c (fun g => no (fun w => ((ed_gd_iff a).mp w.1).1 g)) (fun g1 => br_c (fun g => no (fun w => ((ed_gd_iff a).mp w.1).2 g)) (fun g2 => br_c (fun g => no (fun w => ((ed_gd_iff b).mp w.2).1 g)) (fun g3 => br_c (fun g => no (fun w => ((ed_gd_iff b).mp w.2).2 g)) (fun g4 => yes ((ed_gd_iff a).mpr ⟨g1, g2⟩) ((ed_gd_iff b).mpr ⟨g3, g4⟩)))))
end
end
section
section
variable {vL vT vF vS vM vB vO vI vH vC : Int32} {a1 a2 a3 a4 a5 a6 a7 a8 a9 a10 a11 a12 a13 a14 a15 a16 a17 a18 a19 a20 a21 a22 a23 a24 a25 a26 : Nat → Int32}
theorem ed_single {k T S : Nat} {tx kd st sz fi si : Nat → Nat} {a1 a2 a3 a4 a11 a12 a13 a16 : Nat → Int32} (hp : ed_Pic 1 T S tx kd st sz fi si a1 a2 a3 a4 a11 a12 a13 a16) (ht : tx 0 = k) :
    (k = 18 → T = 0 ∧ ed_it si S = 0) ∧ (k < 18 → T = 1 ∧ kd 0 = (if k < 5 then 0 else if k < 10 then 1 else if k = 10 then 2 else k - 7) ∧ (k < 15 → ed_it si S = 1) ∧ (15 ≤ k → ed_it si S = 0)) := by
  obtain ⟨p1, p2, p3, p4, p5, p6, p7, p8, p9, p10, p11, p12⟩ := hp
  have hT := ed_Tok_T p6
  have hS := ed_Str_S p10
  obtain ⟨s1, s2, s3, s4, s5⟩ := p10
  rcases Nat.eq_zero_or_pos T with t | t
  · subst t
    have k18 := p7 rfl 0 (by omega)
    have eS : S = 1 := by omega
    subst eS
    have e0 : si 0 = 0 := by
      have w : fi 0 + si 0 = 0 := s4
      omega
    refine ⟨fun _ => ⟨rfl, ?_⟩, fun z => absurd z (by omega)⟩
    show 0 + (if si 0 = 0 then 0 else 1) = 0
    rw [if_pos e0]
  · have eT : T = 1 := by omega
    subst eT
    obtain ⟨q1, q2, q3, q4⟩ := p6 0 (by omega)
    have e0 : st 0 = 0 := by omega
    rw [e0, ht] at q3
    obtain ⟨r1, r2, r3, r4, r5⟩ := q3
    refine ⟨fun z => absurd z (by omega), fun _ => ⟨rfl, ?_, fun z => ?_, fun z => ?_⟩⟩
    · by_cases c5 : k < 5
      · rw [if_pos c5]
        exact r2 c5
      · rw [if_neg c5]
        by_cases c10 : k < 10
        · rw [if_pos c10]
          exact r3 (by omega) c10
        · rw [if_neg c10]
          by_cases ce : k = 10
          · rw [if_pos ce]
            have := r4 ce
            omega
          · rw [if_neg ce]
            exact r5 (by omega)
    · have k8 : kd 0 < 8 := by
        by_cases c5 : k < 5
        · have := r2 c5
          omega
        · by_cases c10 : k < 10
          · have := r3 (by omega) c10
            omega
          · by_cases ce : k = 10
            · have := r4 ce
              omega
            · have := r5 (by omega)
              omega
      have eS : S = 1 := by
        rcases Nat.lt_or_ge 1 S with w | w
        · have e2 : S = 2 := by omega
          subst e2
          obtain ⟨g1, g2⟩ := s3 0 (by omega)
          have g3 : fi (0 + 1) + si 1 = 1 := s4
          rw [show fi 0 + si 0 = 0 by omega] at g2
          omega
        · omega
      subst eS
      have e1 : si 0 = 1 := by
        have w : fi 0 + si 0 = 1 := s4
        omega
      show 0 + (if si 0 = 0 then 0 else 1) = 1
      rw [if_neg (by omega)]
    · have k8 : 8 ≤ kd 0 := by
        have := r5 (by omega)
        omega
      have eS : S = 2 := by
        rcases Nat.lt_or_ge 1 S with w | w
        · omega
        · have e2 : S = 1 := by omega
          subst e2
          have w : fi 0 + si 0 = 1 := s4
          have := s5 0 0 (by omega) (by omega)
          rw [s2] at this
          have z0 : kd (0 + 0) = kd 0 := rfl
          omega
      subst eS
      obtain ⟨g1, g2⟩ := s3 0 (by omega)
      have g3 : fi (0 + 1) + si 1 = 1 := s4
      show 0 + (if si 0 = 0 then 0 else 1) + (if si 1 = 0 then 0 else 1) = 0
      rw [if_pos (by omega), if_pos (by omega)]
theorem ed_kind {post : Int32 → Prop} {T : Nat} {kd : Nat → Nat} (hT : T ≤ 80) (h2 : ed_ar a2 kd T) (H : ∀ x : Int32, (T = 0 → x = -3) → (0 < T → x = nI (kd 0)) → post x) : wpX_kind post (vL, nI T, vF, vS, vM, vB, vO, vI, vH, vC, a1, a2, a3, a4, a5, a6, a7, a8, a9, a10, a11, a12, a13, a14, a15, a16, a17, a18, a19, a20, a21, a22, a23, a24, a25, a26) 0 := by
  unfold wpX_kind
  refine br_f (by decide) (pk_lt 0 T (fun z => br_t rfl ⟨pk_in 0 81 (by omega), ?_⟩) (fun z => br_f (by decide) (H _ (fun _ => rfl) (fun w => absurd w (by omega)))))
  rw [sb_cl0]
  exact H _ (fun w => absurd w (by omega)) (fun w => h2 0 w)
theorem ed_insert0 {post : Int32 → St2 → Prop} {p c : Int32} {u : St2} {tx : Nat → Nat} (hu : ed_G 0 tx u)
    (H : ∀ (f : Nat) (r : Int32) (tx1 : Nat → Nat) (u1 : St2), ((¬ (p = 0 ∧ ¬ c < 0 ∧ ¬ 18 < c) ∧ f = 0 ∧ r = -1) ∨ ((p = 0 ∧ ¬ c < 0 ∧ ¬ 18 < c) ∧ f = 1 ∧ r = 1 ∧ tx1 0 ≤ 18 ∧ c = nI (tx1 0))) → ed_G f tx1 u1 → post r u1) : wpX_insert post u p c := by
  by_cases ok : p = 0 ∧ ¬ c < 0 ∧ ¬ 18 < c
  · obtain ⟨k, hk, ek⟩ := ed_18 ok.2.1 (Int32.not_lt.mp ok.2.2)
    have K : wpX_insert post u (nI 0) (nI k) := ed_insert hu (by omega) hk (fun u' hu' => H 1 1 _ u' (Or.inr ⟨ok, rfl, rfl, by rw [ed_fu_s]; exact hk, by rw [ed_fu_s]; exact ek⟩) hu')
    rw [ok.1, ek]
    exact K
  · have no : post (-1) u := H 0 (-1) tx u (Or.inl ⟨ok, rfl, rfl⟩) hu
    obtain ⟨vL, vT, vF, vS, vM, vB, vO, vI, vH, vC, a1, a2, a3, a4, a5, a6, a7, a8, a9, a10, a11, a12, a13, a14, a15, a16, a17, a18, a19, a20, a21, a22, a23, a24, a25, a26⟩ := u
    obtain ⟨T, S, kd, st, sz, fi, si, e1, _⟩ := hu
    subst e1
    unfold wpX_insert
    refine ed_badCh (fun k hk ek => br_t rfl (br_c (fun _ => no) (fun g1 => br_c (fun g2 => absurd ⟨?_, ?_, ?_⟩ ok) (fun _ => no)))) (fun _ => br_f (by decide) no)
    · obtain ⟨j, hj, ej⟩ := nI_of2 (M := nI 0) (n := 0) (by decide) g1 g2
      have j0 : j = 0 := by omega
      rw [ej, j0]
      exact nI_0
    · rw [ek]
      exact nI_pos (by omega)
    · rw [ek]
      exact nI_nlt (a := 18) hk (by omega)
theorem ed_append2 {post : Int32 → St2 → Prop} {L : Nat} {tx : Nat → Nat} {a b : Int32} {u : St2} (hu : ed_G L tx u) (hL : L ≤ 5)
    (H : ∀ (r : Int32) (u' : St2) (L' : Nat) (tx' : Nat → Nat), (¬ (ed_gd a ∧ ed_gd b) → r = -1 ∧ L' = L) → (ed_gd a → ed_gd b → r = nI L' ∧ L' = L + (if a = -1 then 0 else 1) + (if b = -1 then 0 else 1) + (if a = -1 then 0 else 1)) → ed_G L' tx' u' → (∀ i, i < L → tx' i = tx i) → post r u') : wpX_append post u a b (-1) a :=
  ed_append hu hL (fun h => H (-1) u L tx (fun _ => ⟨rfl, rfl⟩) (fun ha hb => absurd ⟨ha, hb⟩ h) hu (fun _ _ => rfl)) (fun ha hb u' L' tx' e h r => H (nI L') u' L' tx' (fun z => absurd ⟨ha, hb⟩ z) (fun _ _ => ⟨rfl, e⟩) h r)
theorem ed_remove2 {post : Int32 → St2 → Prop} {L T S : Nat} {tx kd st sz fi si : Nat → Nat} {c16 : Nat → Int32} {p n : Int32} (hp : ed_Pic L T S tx kd st sz fi si a1 a2 a3 a4 a11 a12 a13 c16) (hL : L ≤ 9)
    (H : ∀ (r : Int32) (u : St2), ((p < 0 ∨ nI L < p ∨ n < 0 ∨ (nI L - p) < n) → r = -1) → (¬ p < 0 → ¬ nI L < p → ¬ n < 0 → ¬ (nI L - p) < n → r = nI L - n) → post r u) : wpX_remove post (nI L, nI T, vF, nI S, vM, vB, vO, vI, vH, vC, a1, a2, a3, a4, a5, a6, a7, a8, a9, a10, a11, a12, a13, a14, a15, a16, a17, a18, a19, a20, a21, a22, a23, a24, a25, a26) p n := by
  refine ed_remove hp hL (fun h u => H (-1) u (fun _ => rfl) (fun g1 g2 g3 g4 => ?_)) (fun g1 g2 g3 g4 u => H _ u (fun h => ?_) (fun _ _ _ _ => rfl))
  · rcases h with h | h | h | h
    · exact absurd h g1
    · exact absurd h g2
    · exact absurd h g3
    · exact absurd (Int32.not_lt.mp g4) h
  · rcases h with h | h | h | h
    · exact absurd h g1
    · exact absurd h g2
    · exact absurd h g3
    · exact absurd h (Int32.not_lt.mpr g4)
theorem ed_tokens {post : Int32 → Prop} (H : post vT) : wpX_tokens post (vL, vT, vF, vS, vM, vB, vO, vI, vH, vC, a1, a2, a3, a4, a5, a6, a7, a8, a9, a10, a11, a12, a13, a14, a15, a16, a17, a18, a19, a20, a21, a22, a23, a24, a25, a26) := H
theorem ed_mk {post : St2 → Prop} (H : ∀ u, ed_G 0 (fun _ => 0) u → post u) : wpX_init post 100 5000 (0, 0, 0, 0, 0, 0, 0, 0, 0, 0) := by
  unfold wpX_init
  repeat (refine ⟨by omega, ?_⟩)
  exact nm_e (H _ ⟨0, 1, _, _, _, _, _, rfl, rfl, rfl, rfl, ed_init⟩)
theorem ed_lawOf (p c a b n : Int32) : wpL_lawOf ed_po 1000 10000 () p c a b n := by
  refine ⟨by omega, by omega, 100, 5000, by omega, by omega, ed_mk (fun u0 hu0 => ?_)⟩
  obtain ⟨vL, vT, vF, vS, vM, vB, vO, vI, vH, vC, a1, a2, a3, a4, a5, a6, a7, a8, a9, a10, a11, a12, a13, a14, a15, a16, a17, a18, a19, a20, a21, a22, a23, a24, a25, a26⟩ := u0
  refine ed_insert0 hu0 (fun f r97 tx1 u1 h97 hu1 => ?_)
  obtain ⟨vL, vT, vF, vS, vM, vB, vO, vI, vH, vC, a1, a2, a3, a4, a5, a6, a7, a8, a9, a10, a11, a12, a13, a14, a15, a16, a17, a18, a19, a20, a21, a22, a23, a24, a25, a26⟩ := u1
  have hf1 : f ≤ 1 := by
    rcases h97 with h | h
    · have := h.2.1
      omega
    · have := h.2.1
      omega
  refine ed_append2 hu1 (by omega) (fun r186 u2 L tx2 m0 m1 hu2 htx => ?_)
  obtain ⟨vL, vT, vF, vS, vM, vB, vO, vI, vH, vC, a1, a2, a3, a4, a5, a6, a7, a8, a9, a10, a11, a12, a13, a14, a15, a16, a17, a18, a19, a20, a21, a22, a23, a24, a25, a26⟩ := u2
  have hL : L ≤ 4 := by
    have i1 : (if a = -1 then 0 else 1) ≤ 1 := by split <;> omega
    have i2 : (if b = -1 then 0 else 1) ≤ 1 := by split <;> omega
    by_cases h : ed_gd a ∧ ed_gd b
    · have := (m1 h.1 h.2).2
      omega
    · have := (m0 h).2
      omega
  obtain ⟨T, S, kd, st, sz, fi, si, e1, e2, e3, e4, hp⟩ := hu2
  subst e1 e2 e3 e4
  have hp' := hp
  obtain ⟨p1, p2, p3, p4, p5, p6, p7, p8, p9, p10, p11, p12⟩ := hp'
  have hT := ed_Tok_T p6
  have hit := ed_it_T p10
  refine ed_tokens ?_
  refine ed_kind (by omega) p3 (fun r276 k0 k1 => ?_)
  refine ed_items hL hp (fun vM' vB' vO' vH' b5 b6 b7 b14 b15 b16 b17 b18 b19 b20 b21 b22 b23 b24 => ?_)
  refine ed_remove2 hp (by omega) (fun r366 u3 R0 R1 => ?_)
  obtain ⟨vL, vT, vF, vS, vM, vB, vO, vI, vH, vC, a1, a2, a3, a4, a5, a6, a7, a8, a9, a10, a11, a12, a13, a14, a15, a16, a17, a18, a19, a20, a21, a22, a23, a24, a25, a26⟩ := u3
  have h1 : ¬ nI L < nI T := nI_nlt hT (by omega)
  have h2 : ¬ nI T < nI (ed_it si S) := nI_nlt hit (by omega)
  have h3 : 0 < nI L ∨ r276 = -3 := by
    rcases Nat.eq_zero_or_pos L with z | z
    · exact Or.inr (k0 (by omega))
    · exact Or.inl (nI_lt (a := 0) z (by omega))
  have no : ¬ (p = 0 ∧ ¬ c < 0 ∧ ¬ 18 < c) → wL_lawOf_79 ed_po 1000 10000 p c a b n r97 r186 (nI T) r276 (nI (ed_it si S)) r366 (1 + 100) (36 + 5000) := by
    intro h
    rcases h97 with w | w
    · exact ed_l80 (f := f) (L := L) (Or.inl ⟨rfl, w.2.1⟩) (fun _ => w.2.2) (fun z => absurd rfl z) m0 m1 h1 h2 h3 R0 R1 (fun z => absurd rfl z)
    · exact absurd w.1 h
  have yes : (p = 0 ∧ ¬ c < 0 ∧ ¬ 18 < c) → wL_lawOf_80 ed_po 1000 10000 p c a b n r97 r186 (nI T) r276 (nI (ed_it si S)) r366 1 (1 + 100) (36 + 5000) := by
    intro h
    rcases h97 with w | ⟨_, w1, w2, w3, w4⟩
    · exact absurd h w.1
    · refine ed_l80 (f := f) (L := L) (Or.inr ⟨rfl, w1⟩) (fun z => absurd z (by decide)) (fun _ => w2) m0 m1 h1 h2 h3 R0 R1 (fun _ hs => ⟨tx1 0, w3, w4, ?_⟩)
      have eL : L = 1 := by
        rcases hs with hs | hs
        · have := (m0 hs).2
          omega
        · have := (m1 (Or.inl hs.1) (Or.inl hs.2)).2
          rw [if_pos hs.1, if_pos hs.2] at this
          omega
      subst eL
      obtain ⟨g1, g2⟩ := ed_single hp (htx 0 (by omega))
      refine ⟨fun z => ?_, fun z => ?_⟩
      · obtain ⟨y1, y2⟩ := g1 z
        exact ⟨by rw [y1]; rfl, k0 y1, by rw [y2]; rfl⟩
      · obtain ⟨y1, y2, y3, y4⟩ := g2 z
        exact ⟨by rw [y1]; rfl, by rw [k1 (by omega), y2], fun w => by rw [y3 w]; rfl, fun w => by rw [y4 w]; rfl⟩
  exact br_c (fun e0 => br_c (fun g => no (fun w => w.2.1 g)) (fun g1 => br_c (fun g => no (fun w => w.2.2 g)) (fun g2 => yes ⟨e0, g1, g2⟩))) (fun e0 => no (fun w => e0 w.1))
theorem ed_cell {post : Int32 → Prop} {L k : Nat} {xs : Nat → Int32} (hL : L ≤ 5) (hk : k ≤ 4) (H : ∀ x, post x) : wpL_cellAt post L xs () (nI k) :=
  pk_le L k (fun _ => H _) (fun z => ⟨pk_in k L z, H _⟩)
end
theorem i_vc (xs : Nat → Int32) (L : Nat) (hL : L ≤ 5) : wpL_law (fun r => r = 1) L xs := by
  unfold wpL_law
  refine ed_cell (k := 0) hL (by omega) (fun r1 => ?_)
  refine ed_cell (k := 1) hL (by omega) (fun r2 => ?_)
  refine ed_cell (k := 2) hL (by omega) (fun r3 => ?_)
  refine ed_cell (k := 3) hL (by omega) (fun r4 => ?_)
  refine ed_cell (k := 4) hL (by omega) (fun r5 => ?_)
  exact ⟨1000, 10000, by omega, by omega, ed_lawOf r1 r2 r3 r4 r5⟩
end
