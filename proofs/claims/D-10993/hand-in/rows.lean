section
/-! ===== pure picture: at most street 0 stands, from corner α to corner β, of length δ; σ = 1: it is in the set, σ = 0: it isn't ===== -/
/-- the least ways -/
def sw_m (σ α β δ x y : Nat) : Nat := if x = y then 0 else if σ = 1 ∧ ((x = α ∧ y = β) ∨ (x = β ∧ y = α)) then δ else 100000
theorem sw_m_le {σ α β δ x y : Nat} (hd : δ ≤ 20) : sw_m σ α β δ x y ≤ 100000 := by
  unfold sw_m
  split
  · omega
  · split <;> omega
theorem sw_tri {σ α β δ x c y : Nat} (hd : δ ≤ 20) : sw_m σ α β δ x y ≤ sw_m σ α β δ x c + sw_m σ α β δ c y := by
  unfold sw_m
  repeat' split
  all_goals omega
theorem sw_m_0 {α β δ x y : Nat} (h : ¬ x = y) : sw_m 0 α β δ x y = 100000 := by
  unfold sw_m
  rw [if_neg h, if_neg (fun z => absurd z.1 (by decide))]
theorem sw_m_ab {α β δ : Nat} (h : ¬ α = β) : sw_m 1 α β δ α β = δ := by
  unfold sw_m
  rw [if_neg h, if_pos ⟨rfl, Or.inl ⟨rfl, rfl⟩⟩]
theorem sw_m_ba {α β δ : Nat} (h : ¬ α = β) : sw_m 1 α β δ β α = δ := by
  unfold sw_m
  rw [if_neg (fun z => h z.symm), if_pos ⟨rfl, Or.inr ⟨rfl, rfl⟩⟩]
theorem sw_m_1 {σ α β δ x y : Nat} (h : ¬ ((x = α ∧ y = β) ∨ (x = β ∧ y = α))) : sw_m σ α β δ x y = sw_m 0 α β δ x y := by
  unfold sw_m
  by_cases e : x = y
  · rw [if_pos e, if_pos e]
  · rw [if_neg e, if_neg e, if_neg (fun z => h z.2), if_neg (fun z => h z.2)]
/-- the corners of street 0 -/
def sw_E (α β : Nat) : Int32 := ((1 : Int32) <<< (nI α &&& 31)) ||| ((1 : Int32) <<< (nI β &&& 31))
/-- the corners of the set -/
def sw_R (σ α β : Nat) : Int32 := if σ = 1 then sw_E α β else 0
theorem sw_R0 {σ α β : Nat} (h : ¬ σ = 1) : sw_R σ α β = 0 := if_neg h
theorem sw_R1 {α β : Nat} : sw_R 1 α β = sw_E α β := if_pos rfl
/-- street 0 is laid -/
def sw_K (α β δ : Nat) (a1 a2 a3 : Nat → Int32) : Prop := α < 6 ∧ β < 6 ∧ ¬ α = β ∧ δ ≤ 20 ∧ a1 0 = nI α ∧ a2 0 = nI β ∧ a3 0 = nI δ
/-! bits -/
theorem sw_bit : ∀ σ, σ < 2 → ∀ i, i < 10 → (((nI σ >>> (nI i &&& 31)) &&& 1) = 0 ↔ ¬ (i = 0 ∧ σ = 1)) := by decide +kernel
theorem sw_bitm : ∀ m, m < 64 → ∀ i, i < 6 → (((nI m >>> (nI i &&& 31)) &&& 1) = 0 ↔ m.testBit i = false) := by decide +kernel
theorem sw_rest : ∀ m, m < 64 → ∀ l, l < 6 → ∀ c, c < 6 → (nI m &&& (((1 : Int32) <<< (nI l &&& 31)) ^^^ (-1))) &&& (((1 : Int32) <<< (nI c &&& 31)) ^^^ (-1)) = nI ((m &&& (63 ^^^ 2 ^ l)) &&& (63 ^^^ 2 ^ c)) := by decide +kernel
theorem sw_rest_lt {m l c : Nat} (h : m < 64) : (m &&& (63 ^^^ 2 ^ l)) &&& (63 ^^^ 2 ^ c) < 64 :=
  Nat.lt_of_le_of_lt Nat.and_le_left (Nat.lt_of_le_of_lt Nat.and_le_left h)
theorem sw_rest0 : ∀ h, h < 6 → ∀ l, l < h → ((2 ^ l + 2 ^ h) &&& (63 ^^^ 2 ^ l)) &&& (63 ^^^ 2 ^ h) = 0 := by decide +kernel
theorem sw_two : ∀ h, h < 6 → ∀ l, l < h → ∀ i, i < 6 → ((2 ^ l + 2 ^ h).testBit i = false ↔ ¬ (i = l ∨ i = h)) := by decide +kernel
theorem sw_two_lt : ∀ h, h < 6 → ∀ l, l < h → 0 < 2 ^ l + 2 ^ h ∧ 2 ^ l + 2 ^ h < 64 := by decide +kernel
theorem sw_self : ∀ w, w < 64 → nI w &&& (nI w ^^^ (-1)) = 0 := by decide +kernel
theorem sw_E_nI : ∀ α, α < 6 → ∀ β, β < 6 → (¬ α = β → sw_E α β = nI (2 ^ α + 2 ^ β)) := by decide +kernel
theorem sw_E_cor : ∀ α, α < 6 → ∀ β, β < 6 → ((sw_E α β >>> (nI α &&& 31)) &&& 1 = 1) := by decide +kernel
theorem sw_E_first : ∀ α, α < 6 → ∀ β, β < 6 → ¬ (sw_E α β &&& (sw_E α β &&& (-sw_E α β)) = 0) ∧ (sw_E α β &&& (-sw_E α β)) ||| sw_E α β = sw_E α β := by decide +kernel
theorem sw_E_a : ∀ α, α < 6 → ∀ β, β < 6 → ¬ (sw_E α β &&& ((1 : Int32) <<< (nI α &&& 31)) = 0) ∧ ((1 : Int32) <<< (nI α &&& 31)) ||| sw_E α β = sw_E α β := by decide +kernel
theorem sw_E_b : ∀ α, α < 6 → ∀ β, β < 6 → ¬ (sw_E α β &&& ((1 : Int32) <<< (nI β &&& 31)) = 0) ∧ ((1 : Int32) <<< (nI β &&& 31)) ||| sw_E α β = sw_E α β := by decide +kernel
theorem sw_E_sub : ∀ α, α < 6 → ∀ β, β < 6 → sw_E α β &&& (sw_E α β ^^^ (-1)) = 0 := by decide +kernel
theorem sw_E_self : ∀ α, α < 6 → ∀ β, β < 6 → ¬ (sw_E α β &&& sw_E α β = 0) ∧ sw_E α β ||| sw_E α β = sw_E α β := by decide +kernel
theorem sw_byte : ∀ n, n < 21 → (nI n).toInt8.toInt32 = nI n := by decide +kernel
theorem sw_z1 (x : Int32) : (0 : Int32) &&& x = 0 := by
  apply Int32.toBitVec_inj.mp
  simp
theorem sw_z2 (x : Int32) : (0 : Int32) ||| x = x := by
  apply Int32.toBitVec_inj.mp
  simp
theorem sw_z3 (x : Int32) : (0 : Int32) ^^^ x = x := by
  apply Int32.toBitVec_inj.mp
  simp
/-! ===== the small methods ===== -/
theorem sw_corner {post : Int32 → Prop} {p : Int32} (h1 : ¬ p < 0 → ¬ 6 ≤ p → post 1) (h0 : (p < 0 ∨ 6 ≤ p) → post 0) : wpX_isCorner post () p :=
  br_c (fun z => h0 (Or.inl z)) (fun z => br_c (fun y => h0 (Or.inr y)) (fun y => h1 z y))
theorem sw_has {post : Int32 → Prop} {σ i : Nat} {a1 a2 a3 a4 a5 a6 : Nat → Int32} (hσ : σ < 2) (hi : i < 10) (h1 : i = 0 → σ = 1 → post 1) (h0 : ¬ (i = 0 ∧ σ = 1) → post 0) : wpX_has post (nI σ, a1, a2, a3, a4, a5, a6) (nI i) :=
  br_f (nI_pos (by omega)) (pk_le 10 i (fun z => absurd z (by omega)) (fun _ => ek_if (sw_bit σ hσ i hi) h0 (fun z => h1 (Decidable.not_not.mp z).1 (Decidable.not_not.mp z).2)))
theorem sw_ends {post : Int32 → Prop} {α β δ : Nat} {p : Int32} {a1 a2 a3 a4 a5 a6 : Nat → Int32} (k : sw_K α β δ a1 a2 a3) (h : post (sw_E α β)) : wpX_endsOf post (p, a1, a2, a3, a4, a5, a6) (nI 0) := by
  obtain ⟨_, _, _, _, e1, e2, _⟩ := k
  refine ⟨pk_in 0 10 (by omega), pk_in 0 10 (by omega), ?_⟩
  rw [nI_clamp (show 0 < 2 ^ 31 by omega), e1, e2]
  exact h
theorem sw_odd {post : Int32 → Prop} {σ α β δ : Nat} {a1 a2 a3 a4 a5 a6 : Nat → Int32} (hσ : σ < 2) (k : σ = 1 → sw_K α β δ a1 a2 a3) (h : post (sw_R σ α β)) : wpX_odd post (nI σ, a1, a2, a3, a4, a5, a6) := by
  refine pk_loop (fun n i s => wX_odd_4 post (nI σ) a1 a2 a3 a4 a5 a6 n s (nI i)) (fun i s => (i = 0 ∧ s = 0) ∨ (0 < i ∧ s = sw_R σ α β)) 10 0 0 (by omega) (Or.inl ⟨rfl, rfl⟩) ?_ ?_
  · intro n s hs
    refine pk_le 10 10 (fun _ => ?_) (fun z => absurd z (by omega))
    rcases hs with hs | hs
    · exact absurd hs.1 (by omega)
    · rw [hs.2]
      exact h
  · intro n i s hi hs hw
    refine pk_le 10 i (fun z => absurd z (by omega)) (fun _ => sw_has hσ hi (fun e0 e1 => ?_) (fun z => ?_))
    · subst e0
      subst e1
      refine br_f (by decide) (sw_ends (k rfl) (nm_e (nm_r (nI_1 _) (hw _ (Or.inr ⟨by omega, ?_⟩)))))
      rcases hs with hs | hs
      · rw [hs.2, sw_z3, sw_R1]
      · exact absurd hs.1 (by omega)
    · refine br_t rfl (nm_r (nI_1 _) (hw _ (Or.inr ⟨by omega, ?_⟩)))
      rcases hs with hs | hs
      · rw [hs.2, sw_R0 (fun e => z ⟨hs.1, e⟩)]
      · exact hs.2
theorem sw_touched {post : Int32 → Prop} {σ α β δ : Nat} {p : Int32} {a1 a2 a3 a4 a5 a6 : Nat → Int32} (hσ : σ < 2) (k : σ = 1 → sw_K α β δ a1 a2 a3) (h : post (sw_R σ α β)) : wpX_touched post (p, a1, a2, a3, a4, a5, a6) (nI σ) := by
  refine pk_loop (fun n i s => wX_touched_4 post (nI σ) p a1 a2 a3 a4 a5 a6 n s (nI i)) (fun i s => (i = 0 ∧ s = 0) ∨ (0 < i ∧ s = sw_R σ α β)) 10 0 0 (by omega) (Or.inl ⟨rfl, rfl⟩) ?_ ?_
  · intro n s hs
    refine pk_le 10 10 (fun _ => ?_) (fun z => absurd z (by omega))
    rcases hs with hs | hs
    · exact absurd hs.1 (by omega)
    · rw [hs.2]
      exact h
  · intro n i s hi hs hw
    refine pk_le 10 i (fun z => absurd z (by omega)) (fun _ => ek_if (sw_bit σ hσ i hi) (fun z => ?_) (fun z => ?_))
    · refine nm_r (nI_1 _) (hw _ (Or.inr ⟨by omega, ?_⟩))
      rcases hs with hs | hs
      · rw [hs.2, sw_R0 (fun e => z ⟨hs.1, e⟩)]
      · exact hs.2
    · obtain ⟨e0, e1⟩ := Decidable.not_not.mp z
      subst e0
      subst e1
      refine sw_ends (k rfl) (nm_e (nm_r (nI_1 _) (hw _ (Or.inr ⟨by omega, ?_⟩))))
      rcases hs with hs | hs
      · rw [hs.2, sw_z2, sw_R1]
      · exact absurd hs.1 (by omega)
/-- one round of 'reached' -/
theorem sw_reach1 {post : Int32 → Prop} {J : Int32 → Int32 → Prop} {σ α β δ r : Nat} {x y p : Int32} {a1 a2 a3 a4 a5 a6 : Nat → Int32} (hσ : σ < 2) (k : σ = 1 → sw_K α β δ a1 a2 a3)
    (h1 : σ = 1 → ¬ (sw_E α β &&& x = 0) ∧ x ||| sw_E α β = y) (h0 : ¬ σ = 1 → y = x) (H : J y (nI (r + 1))) : ∃ n, wX_reached_15 post J (nI σ) (nI r) p a1 a2 a3 a4 a5 a6 n x 0 := by
  refine pk_loop (fun n i s => wX_reached_15 post J (nI σ) (nI r) p a1 a2 a3 a4 a5 a6 n s (nI i)) (fun i s => (i = 0 ∧ s = x) ∨ (0 < i ∧ s = y)) 10 0 x (by omega) (Or.inl ⟨rfl, rfl⟩) ?_ ?_
  · intro n s hs
    refine pk_le 10 10 (fun _ => ?_) (fun z => absurd z (by omega))
    rcases hs with hs | hs
    · exact absurd hs.1 (by omega)
    · rw [hs.2]
      exact nm_r (nI_1 _) H
  · intro n i s hi hs hw
    refine pk_le 10 i (fun z => absurd z (by omega)) (fun _ => ek_if (sw_bit σ hσ i hi) (fun z => ?_) (fun z => ?_))
    · refine nm_r (nI_1 _) (hw _ (Or.inr ⟨by omega, ?_⟩))
      rcases hs with hs | hs
      · rw [hs.2, h0 (fun e => z ⟨hs.1, e⟩)]
      · exact hs.2
    · obtain ⟨e0, e1⟩ := Decidable.not_not.mp z
      subst e0
      subst e1
      obtain ⟨g1, g2⟩ := h1 rfl
      rcases hs with hs | hs
      · rw [hs.2]
        exact sw_ends (k rfl) (br_f g1 (sw_ends (k rfl) (nm_e (nm_r (nI_1 _) (hw _ (Or.inr ⟨by omega, g2⟩))))))
      · exact absurd hs.1 (by omega)
theorem sw_reached {post : Int32 → Prop} {σ α β δ : Nat} {x p : Int32} {a1 a2 a3 a4 a5 a6 : Nat → Int32} (hσ : σ < 2) (k : σ = 1 → sw_K α β δ a1 a2 a3)
    (h1 : σ = 1 → ¬ (sw_E α β &&& x = 0) ∧ x ||| sw_E α β = sw_E α β) (H : post (if σ = 1 then sw_E α β else x)) : wpX_reached post (p, a1, a2, a3, a4, a5, a6) x (nI σ) := by
  refine pk_loop (fun n i s => wX_reached_5 post (nI σ) p a1 a2 a3 a4 a5 a6 n s (nI i)) (fun i s => (i = 0 ∧ s = x) ∨ (0 < i ∧ s = if σ = 1 then sw_E α β else x)) 6 0 x (by omega) (Or.inl ⟨rfl, rfl⟩) ?_ ?_
  · intro n s hs
    refine pk_le 6 6 (fun _ => ?_) (fun z => absurd z (by omega))
    rcases hs with hs | hs
    · exact absurd hs.1 (by omega)
    · rw [hs.2]
      exact H
  · intro n i s hi hs hw
    refine pk_le 6 i (fun z => absurd z (by omega)) (fun _ => ?_)
    refine sw_reach1 (y := if σ = 1 then sw_E α β else x) hσ k (fun e => ?_) (fun e => ?_) (hw _ (Or.inr ⟨by omega, rfl⟩))
    · rw [if_pos e]
      rcases hs with hs | hs
      · rw [hs.2]
        exact h1 e
      · rw [hs.2, if_pos e]
        obtain ⟨q1, q2, _⟩ := k e
        exact sw_E_self α q1 β q2
    · rw [if_neg e]
      rcases hs with hs | hs
      · exact hs.2.symm
      · rw [hs.2, if_neg e]
theorem sw_conn {post : Int32 → Prop} {σ α β δ : Nat} {a1 a2 a3 a4 a5 a6 : Nat → Int32} (hσ : σ < 2) (k : σ = 1 → sw_K α β δ a1 a2 a3) (h : post 1) : wpX_connected post (nI σ, a1, a2, a3, a4, a5, a6) := by
  refine sw_touched hσ k (nm_e (sw_reached hσ k (fun e => ?_) ?_))
  · subst e
    obtain ⟨q1, q2, _⟩ := k rfl
    rw [sw_R1]
    exact sw_E_first α q1 β q2
  · by_cases e : σ = 1
    · rw [if_pos e]
      subst e
      obtain ⟨q1, q2, _⟩ := k rfl
      rw [sw_R1]
      exact br_t (sw_E_sub α q1 β q2) h
    · rw [if_neg e, sw_R0 e]
      exact br_t (by decide) h
theorem sw_still {post : Int32 → Prop} {κ : Nat} {p : Int32} {a1 a2 a3 a4 a5 a6 : Nat → Int32} (hκ : κ < 2) (h0 : a6 0 = nI κ) (h1 : ∀ j, 0 < j → j < 10 → a6 j = 0) (h : post (nI κ)) : wpX_stillLeft post (p, a1, a2, a3, a4, a5, a6) := by
  refine pk_loop (fun n i s => wX_stillLeft_4 post p a1 a2 a3 a4 a5 a6 n s (nI i)) (fun i s => (i = 0 ∧ s = 0) ∨ (0 < i ∧ s = nI κ)) 10 0 0 (by omega) (Or.inl ⟨rfl, rfl⟩) ?_ ?_
  · intro n s hs
    refine pk_le 10 10 (fun _ => ?_) (fun z => absurd z (by omega))
    rcases hs with hs | hs
    · exact absurd hs.1 (by omega)
    · rw [hs.2]
      exact h
  · intro n i s hi hs hw
    refine pk_le 10 i (fun z => absurd z (by omega)) (fun _ => ⟨pk_in i 10 hi, ?_⟩)
    rw [nI_clamp (show i < 2 ^ 31 by omega)]
    rcases hs with hs | hs
    · obtain ⟨e0, es⟩ := hs
      subst e0
      subst es
      rw [h0]
      refine pk_le κ 0 (fun z => ?_) (fun z => ?_)
      · exact nm_r (nI_1 _) (hw _ (Or.inr ⟨by omega, by rw [show κ = 0 by omega]; rfl⟩))
      · exact nm_e (nm_r (nI_1 _) (hw _ (Or.inr ⟨by omega, by rw [show κ = 1 by omega]; decide⟩)))
    · rw [h1 i hs.1 hi]
      exact br_t (by decide) (nm_r (nI_1 _) (hw _ (Or.inr ⟨by omega, hs.2⟩)))
end
section
/-! ===== measure: the least ways ===== -/
/-- the ways are those of the picture -/
def sw_W (σ α β δ : Nat) (s : Nat → Int32) : Prop := ∀ j, j < 36 → s j = nI (sw_m σ α β δ (j / 6) (j % 6))
theorem sw_W_at {σ α β δ x y : Nat} {s : Nat → Int32} (h : sw_W σ α β δ s) (hx : x < 6) (hy : y < 6) : s (x * 6 + y) = nI (sw_m σ α β δ x y) := by
  rw [h (x * 6 + y) (by omega), show (x * 6 + y) / 6 = x by omega, show (x * 6 + y) % 6 = y by omega]
theorem sw_shorten {post : St2 → Prop} {p : Int32} {x y l : Nat} {a1 a2 a3 a4 a5 a6 : Nat → Int32} (hx : x < 6) (hy : y < 6) (hl : l ≤ 20) (h4 : a4 (x * 6 + y) = 100000) (H : post (p, a1, a2, a3, upd a4 (x * 6 + y) (nI l), a5, a6)) :
    wpX_shorten post (p, a1, a2, a3, a4, a5, a6) (nI x) (nI y) (nI l) := by
  have e : nI x * 6 + nI y = nI (x * 6 + y) := by
    rw [← nI_add, ← pk_mul]
    rfl
  refine nm_r e ⟨pk_in (x * 6 + y) 36 (by omega), ?_⟩
  rw [nI_clamp (show x * 6 + y < 2 ^ 31 by omega), h4]
  exact pk_le 100000 l (fun z => absurd z (by omega)) (fun _ => ⟨pk_in (x * 6 + y) 36 (by omega), nm_e H⟩)
theorem sw_113 {post : St2 → Prop} {J : Int32 → (Nat → Int32) → (Nat → Int32) → (Nat → Int32) → (Nat → Int32) → (Nat → Int32) → (Nat → Int32) → Prop} {σ α β δ c : Nat} {p : Int32} {a1 a2 a3 a4 a5 a6 : Nat → Int32}
    (hd : δ ≤ 20) (hc : c < 6) (h4 : sw_W σ α β δ a4) (H : J (nI (c + 1)) a1 a2 a3 a4 a5 a6) : ∃ n, wX_measure_113 post J (nI c) p n 0 a1 a2 a3 a4 a5 a6 := by
  refine pk_loop (σ := Unit) (fun n i _ => wX_measure_113 post J (nI c) p n (nI i) a1 a2 a3 a4 a5 a6) (fun _ _ => True) 36 0 () (by omega) trivial ?_ ?_
  · intro n _ _
    exact pk_le 36 36 (fun _ => nm_r (nI_1 _) H) (fun z => absurd z (by omega))
  · intro n i _ hi _ hw
    have hx : i / 6 < 6 := by omega
    have hy : i % 6 < 6 := by omega
    have e1 : nI i / 6 * 6 + nI c = nI (i / 6 * 6 + c) := by
      have t : nI i / 6 = nI (i / 6) := pk_div (d := 6) (by omega) (by omega) (by omega)
      rw [t, ← nI_add, ← pk_mul]
      rfl
    have e2 : nI c * 6 + (nI i - nI i / 6 * 6) = nI (c * 6 + i % 6) := by
      have t : nI i - nI i / 6 * 6 = nI (i % 6) := pk_rem (d := 6) (by omega) (by omega) (by omega)
      rw [t, ← nI_add, ← pk_mul]
      rfl
    refine pk_le 36 i (fun z => absurd z (by omega)) (fun _ => ?_)
    rw [e1, e2, nI_clamp (show i < 2 ^ 31 by omega), nI_clamp (show i / 6 * 6 + c < 2 ^ 31 by omega), nI_clamp (show c * 6 + i % 6 < 2 ^ 31 by omega), sw_W_at h4 hx hc, sw_W_at h4 hc hy, h4 i hi, nI_add]
    refine ⟨by decide, pk_in (i / 6 * 6 + c) 36 (by omega), by decide, pk_in (c * 6 + i % 6) 36 (by omega), nm_e ⟨pk_in i 36 hi, ?_⟩⟩
    have b1 := sw_m_le (σ := σ) (α := α) (β := β) (δ := δ) (x := i / 6) (y := i % 6) hd
    have b2 := sw_m_le (σ := σ) (α := α) (β := β) (δ := δ) (x := i / 6) (y := c) hd
    have b3 := sw_m_le (σ := σ) (α := α) (β := β) (δ := δ) (x := c) (y := i % 6) hd
    exact br_t (nI_le (sw_tri hd) (by omega)) (nm_r (nI_1 _) (hw () trivial))
theorem sw_105 {post : St2 → Prop} {σ α β δ : Nat} {p : Int32} {a1 a2 a3 a4 a5 a6 : Nat → Int32} (hd : δ ≤ 20) (h4 : sw_W σ α β δ a4) (H : post (p, a1, a2, a3, a4, a5, a6)) : ∃ n, wX_measure_105 post p n 0 a1 a2 a3 a4 a5 a6 := by
  refine pk_loop (σ := Unit) (fun n i _ => wX_measure_105 post p n (nI i) a1 a2 a3 a4 a5 a6) (fun _ _ => True) 6 0 () (by omega) trivial ?_ ?_
  · intro n _ _
    exact pk_le 6 6 (fun _ => H) (fun z => absurd z (by omega))
  · intro n i _ hi _ hw
    exact pk_le 6 i (fun z => absurd z (by omega)) (fun _ => sw_113 hd hi h4 (hw () trivial))
theorem sw_put2 {α β δ : Nat} {s : Nat → Int32} (ha : α < 6) (hb : β < 6) (hab : ¬ α = β) (h : sw_W 0 α β δ s) : sw_W 1 α β δ (upd (upd s (α * 6 + β) (nI δ)) (β * 6 + α) (nI δ)) := by
  intro j hj
  by_cases e1 : j = β * 6 + α
  · subst e1
    rw [pk_us, show (β * 6 + α) / 6 = β by omega, show (β * 6 + α) % 6 = α by omega, sw_m_ba hab]
  · rw [pk_un e1]
    by_cases e2 : j = α * 6 + β
    · subst e2
      rw [pk_us, show (α * 6 + β) / 6 = α by omega, show (α * 6 + β) % 6 = β by omega, sw_m_ab hab]
    · rw [pk_un e2, h j hj, sw_m_1 (σ := 1)]
      omega
theorem sw_39 {post : St2 → Prop} {σ α β δ : Nat} {p : Int32} {a1 a2 a3 a4 a5 a6 : Nat → Int32} (hσ : σ < 2) (hd : δ ≤ 20) (k : σ = 1 → sw_K α β δ a1 a2 a3) (h4 : sw_W 0 α β δ a4)
    (H : ∀ w, sw_W σ α β δ w → post (p, a1, a2, a3, w, a5, a6)) : ∃ n, wX_measure_39 post (nI σ) n 0 p a1 a2 a3 a4 a5 a6 := by
  refine pk_loop (fun n i s => wX_measure_39 post (nI σ) n (nI i) p a1 a2 a3 s a5 a6) (fun i s => (i = 0 ∧ sw_W 0 α β δ s) ∨ (0 < i ∧ sw_W σ α β δ s)) 10 0 a4 (by omega) (Or.inl ⟨rfl, h4⟩) ?_ ?_
  · intro n s hs
    refine pk_le 10 10 (fun _ => ?_) (fun z => absurd z (by omega))
    rcases hs with hs | hs
    · exact absurd hs.1 (by omega)
    · exact sw_105 hd hs.2 (H s hs.2)
  · intro n i s hi hs hw
    refine pk_le 10 i (fun z => absurd z (by omega)) (fun _ => ek_if (sw_bit σ hσ i hi) (fun z => ?_) (fun z => ?_))
    · refine nm_r (nI_1 _) (hw _ (Or.inr ⟨by omega, ?_⟩))
      rcases hs with hs | hs
      · have e : σ = 0 := by omega
        rw [e]
        exact hs.2
      · exact hs.2
    · obtain ⟨e0, e1⟩ := Decidable.not_not.mp z
      subst e0
      subst e1
      rcases hs with hs | hs
      · obtain ⟨q1, q2, q3, q4, k1, k2, k3⟩ := k rfl
        have hs' := hs.2
        refine ⟨pk_in 0 10 (by omega), pk_in 0 10 (by omega), pk_in 0 10 (by omega), ?_⟩
        rw [nI_clamp (show 0 < 2 ^ 31 by omega), k1, k2, k3]
        refine sw_shorten q1 q2 q4 ?_ ⟨pk_in 0 10 (by omega), pk_in 0 10 (by omega), pk_in 0 10 (by omega), ?_⟩
        · rw [sw_W_at hs' q1 q2, sw_m_0 q3]
          rfl
        · rw [k1, k2, k3]
          refine sw_shorten q2 q1 q4 ?_ (nm_r (nI_1 _) (hw _ (Or.inr ⟨by omega, sw_put2 q1 q2 q3 hs'⟩)))
          rw [pk_un (by omega), sw_W_at hs' q2 q1, sw_m_0 (fun z => q3 z.symm)]
          rfl
      · exact absurd hs.1 (by omega)
theorem sw_measure {post : St2 → Prop} {σ α β δ : Nat} {p : Int32} {a1 a2 a3 a4 a5 a6 : Nat → Int32} (hσ : σ < 2) (hd : δ ≤ 20) (k : σ = 1 → sw_K α β δ a1 a2 a3)
    (H : ∀ w, sw_W σ α β δ w → post (p, a1, a2, a3, w, a5, a6)) : wpX_measure post (p, a1, a2, a3, a4, a5, a6) (nI σ) := by
  refine pk_loop (fun n i s => wX_measure_2 post (nI σ) p n (nI i) a1 a2 a3 s a5 a6) (fun i s => ∀ j, j < i → s j = nI (sw_m 0 α β δ (j / 6) (j % 6))) 36 0 a4 (by omega) (fun j hj => absurd hj (by omega)) ?_ ?_
  · intro n s hs
    exact pk_le 36 36 (fun _ => sw_39 hσ hd k hs H) (fun z => absurd z (by omega))
  · intro n i s hi hs hw
    have t1 : nI i / 6 = nI (i / 6) := pk_div (d := 6) (by omega) (by omega) (by omega)
    have t2 : nI i - nI i / 6 * 6 = nI (i % 6) := pk_rem (d := 6) (by omega) (by omega) (by omega)
    have F : ∀ v, v = nI (sw_m 0 α β δ (i / 6) (i % 6)) → ∀ j, j < i + 1 → upd s i v j = nI (sw_m 0 α β δ (j / 6) (j % 6)) := by
      intro v hv j hj
      by_cases e : j = i
      · rw [e, pk_us, hv]
      · rw [pk_un e]
        exact hs j (by omega)
    refine pk_le 36 i (fun z => absurd z (by omega)) (fun _ => ⟨by decide, by decide, ?_⟩)
    rw [t2, t1, nI_clamp (show i < 2 ^ 31 by omega)]
    refine pk_eq (i / 6) (i % 6) (fun z => ?_) (fun z => ?_)
    · exact ⟨pk_in i 36 hi, nm_e (nm_r (nI_1 _) (hw _ (F _ (by unfold sw_m; rw [if_pos z]; rfl))))⟩
    · exact ⟨pk_in i 36 hi, nm_e (nm_r (nI_1 _) (hw _ (F _ (by rw [sw_m_0 z]; rfl))))⟩
end
section
/-! ===== pairUp, join ===== -/
theorem sw_pu2 {post : Int32 → Prop} {m : Nat} {p : Int32} {a1 a2 a3 a4 a5 a6 : Nat → Int32} (hm : m < 64) (H6 : (∀ j, j < 6 → m.testBit j = false) → post 200000)
    (H : ∀ l, l < 6 → ¬ m.testBit l = false → (∀ j, j < l → m.testBit j = false) → ∃ fu, wX_pairUp_30 post (nI m) (nI l) p a1 a2 a3 a4 a5 a6 fu 200000 (nI (l + 1))) : wpX_pairUp post (p, a1, a2, a3, a4, a5, a6) (nI m) := by
  refine pk_loop (σ := Unit) (fun n i _ => wX_pairUp_2 post (nI m) p a1 a2 a3 a4 a5 a6 n (nI i)) (fun i _ => ∀ j, j < i → m.testBit j = false) 6 0 () (by omega) (fun j hj => absurd hj (by omega)) ?_ ?_
  · intro n _ hs
    exact pk_le 6 6 (fun _ => nm_r (nI_1 _) ⟨1, pk_le 6 7 (fun _ => H6 hs) (fun z => absurd z (by omega))⟩) (fun z => absurd z (by omega))
  · intro n i _ hi hs hw
    refine pk_le 6 i (fun z => absurd z (by omega)) (fun _ => ek_if (sw_bitm m hm i hi) (fun z => ?_) (fun z => ?_))
    · exact nm_r (nI_1 _) (hw () (lt_s hs z))
    · exact nm_r (nI_1 _) (H i hi z hs)
theorem sw_pu_any {post : Int32 → Prop} {m : Nat} {p : Int32} {a1 a2 a3 a4 a5 a6 : Nat → Int32} (hm : m < 64) (H : ∀ r, post r) : wpX_pairUp post (p, a1, a2, a3, a4, a5, a6) (nI m) := by
  refine sw_pu2 hm (fun _ => H _) (fun l hl _ _ => ?_)
  refine pk_loop (fun n i s => wX_pairUp_30 post (nI m) (nI l) p a1 a2 a3 a4 a5 a6 n s (nI i)) (fun _ _ => True) 6 (l + 1) 200000 (by omega) trivial ?_ ?_
  · intro n s _
    exact pk_le 6 6 (fun _ => H s) (fun z => absurd z (by omega))
  · intro n i s hi _ hw
    have e : nI l * 6 + nI i = nI (l * 6 + i) := by
      rw [← nI_add, ← pk_mul]
      rfl
    refine pk_le 6 i (fun z => absurd z (by omega)) (fun _ => br_c (fun _ => nm_r (nI_1 _) (hw s trivial)) (fun _ => nm_r (sw_rest m hm l hl i hi) ⟨pk_in (l * 6 + i) 36 (by omega) e, pk_in _ 64 (sw_rest_lt hm) rfl, nm_e ?_⟩))
    exact br_c (fun _ => nm_r (nI_1 _) (hw s trivial)) (fun _ => nm_r (nI_1 _) (hw _ trivial))
theorem sw_pairUp {post : Int32 → Prop} {l h V : Nat} {p : Int32} {a1 a2 a3 a4 a5 a6 : Nat → Int32} (hl : l < h) (hh : h < 6) (hV : V < 200000) (h4 : a4 (l * 6 + h) = nI V) (h5 : a5 0 = 0) (hp : post (nI V)) :
    wpX_pairUp post (p, a1, a2, a3, a4, a5, a6) (nI (2 ^ l + 2 ^ h)) := by
  have hm := (sw_two_lt h hh l hl).2
  have tb := sw_two h hh l hl
  refine sw_pu2 hm (fun z => absurd (Or.inl rfl) ((tb l (by omega)).mp (z l (by omega)))) (fun c hc z1 z2 => ?_)
  have ec : c = l := by
    have t1 : c = l ∨ c = h := Decidable.not_not.mp (fun z => z1 ((tb c hc).mpr z))
    rcases t1 with t1 | t1
    · exact t1
    · exact absurd (Or.inl rfl) ((tb l (by omega)).mp (z2 l (by omega)))
  subst ec
  refine pk_loop (fun n i s => wX_pairUp_30 post (nI (2 ^ c + 2 ^ h)) (nI c) p a1 a2 a3 a4 a5 a6 n s (nI i)) (fun i s => c < i ∧ ((i ≤ h ∧ s = 200000) ∨ (h < i ∧ s = nI V))) 6 (c + 1) 200000 (by omega) ⟨by omega, Or.inl ⟨by omega, rfl⟩⟩ ?_ ?_
  · intro n s hs
    refine pk_le 6 6 (fun _ => ?_) (fun z => absurd z (by omega))
    rcases hs.2 with hs | hs
    · exact absurd hs.1 (by omega)
    · rw [hs.2]
      exact hp
  · intro n i s hi hs hw
    obtain ⟨hci, hs⟩ := hs
    refine pk_le 6 i (fun z => absurd z (by omega)) (fun _ => ek_if ((sw_bitm _ hm i hi).trans (tb i hi)) (fun z => ?_) (fun z => ?_))
    · refine nm_r (nI_1 _) (hw _ ⟨by omega, ?_⟩)
      rcases hs with hs | hs
      · exact Or.inl ⟨by omega, hs.2⟩
      · exact Or.inr ⟨by omega, hs.2⟩
    · have ei : i = h := by omega
      subst ei
      have e : nI c * 6 + nI i = nI (c * 6 + i) := by
        rw [← nI_add, ← pk_mul]
        rfl
      have er := sw_rest _ hm c hc i hi
      rw [sw_rest0 i hi c hci] at er
      refine nm_r er ⟨pk_in (c * 6 + i) 36 (by omega) e, pk_in 0 64 (by omega), ?_⟩
      rw [e, nI_clamp (show c * 6 + i < 2 ^ 31 by omega), nI_clamp (show 0 < 2 ^ 31 by omega), h4, h5]
      refine nm_r (Int32.add_zero (nI V)) ?_
      rcases hs with hs | hs
      · rw [hs.2]
        exact pk_le 200000 V (fun z => absurd z (by omega)) (fun _ => nm_r (nI_1 _) (hw _ ⟨by omega, Or.inr ⟨by omega, rfl⟩⟩))
      · exact absurd hs.1 (by omega)
theorem sw_join {post : Int32 → St2 → Prop} {σ α β δ w V : Nat} {p : Int32} {a1 a2 a3 a4 a5 a6 : Nat → Int32} (hσ : σ < 2) (hd : δ ≤ 20) (k : σ = 1 → sw_K α β δ a1 a2 a3) (hw64 : w < 64)
    (hV : (w = 0 ∧ V = 0) ∨ ∃ l h, l < h ∧ h < 6 ∧ w = 2 ^ l + 2 ^ h ∧ V = sw_m σ α β δ l h)
    (H : ∀ a4 a5, post (nI V) (p, a1, a2, a3, a4, a5, a6)) : wpX_join post (p, a1, a2, a3, a4, a5, a6) (nI w) (nI σ) := by
  refine sw_measure hσ hd k (fun b hb => nm_e ?_)
  refine pk_loop (fun n i s => wX_join_14 post (nI w) p n (nI i) a1 a2 a3 b s a6) (fun i s => 0 < i ∧ s 0 = 0 ∧ (w < i → s w = nI V)) 64 1 (upd a5 0 0) (by omega) ⟨by omega, pk_us, fun z => ?_⟩ ?_ ?_
  · have e : w = 0 := by omega
    rcases hV with hV | ⟨l, h, q1, q2, q3, _⟩
    · rw [hV.1, hV.2]
      exact pk_us
    · have := (sw_two_lt h q2 l q1).1
      omega
  · intro n s hs
    refine pk_le 64 64 (fun _ => ⟨pk_in w 64 hw64, ?_⟩) (fun z => absurd z (by omega))
    rw [nI_clamp (show w < 2 ^ 31 by omega), hs.2.2 hw64]
    exact H b s
  · intro n i s hi hs hw
    obtain ⟨i0, s0, sw⟩ := hs
    have F : ∀ r, (i = w → r = nI V) → 0 < i + 1 ∧ upd (upd s i 200000) i r 0 = 0 ∧ (w < i + 1 → upd (upd s i 200000) i r w = nI V) := by
      intro r hr
      refine ⟨by omega, ?_, fun z => ?_⟩
      · rw [pk_un (by omega), pk_un (by omega), s0]
      · by_cases e : i = w
        · rw [← e, pk_us]
          exact hr e
        · rw [pk_un (by omega), pk_un (by omega)]
          exact sw (by omega)
    refine pk_le 64 i (fun z => absurd z (by omega)) (fun _ => ⟨pk_in i 64 hi, ?_⟩)
    rw [nI_clamp (show i < 2 ^ 31 by omega)]
    refine nm_e (br_c (fun _ => ?_) (fun g => ?_))
    · by_cases e : i = w
      · rcases hV with hV | ⟨l, h, q1, q2, q3, q4⟩
        · omega
        · have b1 := sw_m_le (σ := σ) (α := α) (β := β) (δ := δ) (x := l) (y := h) hd
          have e3 : nI i = nI (2 ^ l + 2 ^ h) := by rw [e, q3]
          refine ek_v (P := fun z => wpX_pairUp _ _ z) e3 (sw_pairUp (V := V) q1 q2 (by omega) (by rw [sw_W_at hb (by omega) q2, q4]) (by rw [pk_un (by omega), s0]) ?_)
          exact ⟨pk_in i 64 hi, nm_e (nm_r (nI_1 _) (hw _ (F _ (fun _ => rfl))))⟩
      · exact sw_pu_any hi (fun r => ⟨pk_in i 64 hi, nm_e (nm_r (nI_1 _) (hw _ (F r (fun z => absurd z e))))⟩)
    · refine nm_r (nI_1 _) (hw _ ?_)
      have e : ¬ i = w := fun z => g (by rw [z]; exact sw_self w hw64)
      refine ⟨by omega, ?_, fun z => ?_⟩
      · rw [pk_un (by omega), s0]
      · rw [pk_un (by omega)]
        exact sw (by omega)
end
section
/-! ===== extra, walkLength, bestSet, nextStreet, walkAt ===== -/
/-- what is wanted, as a number -/
def sw_w (σ α β : Nat) : Nat := if σ = 1 then 2 ^ α + 2 ^ β else 0
theorem sw_R_w {σ α β δ : Nat} {a1 a2 a3 : Nat → Int32} (k : σ = 1 → sw_K α β δ a1 a2 a3) : sw_R σ α β = nI (sw_w σ α β) := by
  unfold sw_R sw_w
  by_cases e : σ = 1
  · obtain ⟨q1, q2, q3, _⟩ := k e
    rw [if_pos e, if_pos e, sw_E_nI α q1 β q2 q3]
  · rw [if_neg e, if_neg e]
    rfl
theorem sw_w_lt {σ α β δ : Nat} {a1 a2 a3 : Nat → Int32} (k : σ = 1 → sw_K α β δ a1 a2 a3) : sw_w σ α β < 64 := by
  unfold sw_w
  by_cases e : σ = 1
  · obtain ⟨q1, q2, q3, _⟩ := k e
    rw [if_pos e]
    rcases Nat.lt_or_ge α β with z | z
    · exact (sw_two_lt β q2 α z).2
    · rw [Nat.add_comm]
      exact (sw_two_lt α q1 β (by omega)).2
  · rw [if_neg e]
    omega
/-- the corners of street 0 are joined out of the set τ -/
theorem sw_joinE {post : Int32 → St2 → Prop} {τ α β δ : Nat} {p : Int32} {a1 a2 a3 a4 a5 a6 : Nat → Int32} (hτ : τ < 2) (k : sw_K α β δ a1 a2 a3)
    (H : ∀ a4 a5, post (nI (if τ = 1 then δ else 100000)) (p, a1, a2, a3, a4, a5, a6)) : wpX_join post (p, a1, a2, a3, a4, a5, a6) (sw_E α β) (nI τ) := by
  have k' := k
  obtain ⟨q1, q2, q3, q4, _⟩ := k
  have e := sw_R_w (σ := 1) (fun _ => k')
  have hm : sw_m τ α β δ α β = (if τ = 1 then δ else 100000) ∧ sw_m τ α β δ β α = (if τ = 1 then δ else 100000) := by
    have ht : τ = 0 ∨ τ = 1 := by omega
    rcases ht with ht | ht
    · subst ht
      exact ⟨sw_m_0 q3, sw_m_0 (fun z => q3 z.symm)⟩
    · subst ht
      exact ⟨sw_m_ab q3, sw_m_ba q3⟩
  rw [← sw_R1, e]
  refine sw_join hτ q4 (fun _ => k') (sw_w_lt (σ := 1) (fun _ => k')) (Or.inr ?_) H
  rcases Nat.lt_or_ge α β with z | z
  · exact ⟨α, β, z, q2, rfl, hm.1.symm⟩
  · exact ⟨β, α, by omega, q1, Nat.add_comm _ _, hm.2.symm⟩
theorem sw_extra {post : Int32 → St2 → Prop} {σ α β δ : Nat} {a1 a2 a3 a4 a5 a6 : Nat → Int32} (hσ : σ < 2) (k : σ = 1 → sw_K α β δ a1 a2 a3)
    (H : ∀ a4 a5, post (nI (if σ = 1 then δ else 0)) (nI σ, a1, a2, a3, a4, a5, a6)) : wpX_extra post (nI σ, a1, a2, a3, a4, a5, a6) := by
  refine sw_odd hσ k ?_
  by_cases e : σ = 1
  · subst e
    rw [sw_R1]
    have k' := k rfl
    obtain ⟨q1, q2, q3, q4, _⟩ := k'
    refine sw_joinE hσ (k rfl) (fun b4 b5 => ?_)
    exact pk_le 100000 δ (fun z => absurd z (by omega)) (fun _ => H b4 b5)
  · rw [sw_R0 e]
    have e' : σ = 0 := by omega
    subst e'
    refine sw_join (σ := 0) (α := 0) (β := 0) (δ := 0) (w := 0) (V := 0) hσ (by omega) (fun z => absurd z e) (by omega) (Or.inl ⟨rfl, rfl⟩) (fun b4 b5 => ?_)
    exact pk_le 100000 0 (fun z => absurd z (by omega)) (fun _ => H b4 b5)
theorem sw_wl {post : Int32 → St2 → Prop} {σ α β δ : Nat} {a1 a2 a3 a4 a5 a6 : Nat → Int32} (hσ : σ < 2) (k : σ = 1 → sw_K α β δ a1 a2 a3)
    (H : ∀ a4 a5, post (nI (if σ = 1 then δ + δ else 0)) (nI σ, a1, a2, a3, a4, a5, a6)) : wpX_walkLength post (nI σ, a1, a2, a3, a4, a5, a6) := by
  unfold wpX_walkLength
  refine sw_extra hσ k (fun b4 b5 => ?_)
  have hb : (if σ = 1 then δ else 0) < 2 ^ 31 := by
    by_cases e : σ = 1
    · obtain ⟨q1, q2, q3, q4, _⟩ := k e
      rw [if_pos e]
      omega
    · rw [if_neg e]
      omega
  refine br_f (nI_pos hb) (sw_conn hσ k (br_f (by decide) ?_))
  refine pk_loop (fun n i s => wX_walkLength_20 post (nI σ) a1 a2 a3 b4 b5 a6 n s (nI i)) (fun i s => (i = 0 ∧ s = nI (if σ = 1 then δ else 0)) ∨ (0 < i ∧ s = nI (if σ = 1 then δ + δ else 0))) 10 0 _ (by omega) (Or.inl ⟨rfl, rfl⟩) ?_ ?_
  · intro n s hs
    refine pk_le 10 10 (fun _ => ?_) (fun z => absurd z (by omega))
    rcases hs with hs | hs
    · exact absurd hs.1 (by omega)
    · rw [hs.2]
      exact H b4 b5
  · intro n i s hi hs hw
    refine pk_le 10 i (fun z => absurd z (by omega)) (fun _ => sw_has hσ hi (fun e0 e1 => ?_) (fun z => ?_))
    · subst e0
      subst e1
      obtain ⟨_, _, _, _, _, _, k3⟩ := k rfl
      refine br_f (by decide) ⟨pk_in 0 10 (by omega), ?_⟩
      rw [nI_clamp (show 0 < 2 ^ 31 by omega), k3]
      refine nm_e (nm_r (nI_1 _) (hw _ (Or.inr ⟨by omega, ?_⟩)))
      rcases hs with hs | hs
      · rw [hs.2, if_pos rfl, if_pos rfl, nI_add]
      · exact absurd hs.1 (by omega)
    · refine br_t rfl (nm_r (nI_1 _) (hw _ (Or.inr ⟨by omega, ?_⟩)))
      rcases hs with hs | hs
      · have e : ¬ σ = 1 := fun e => z ⟨hs.1, e⟩
        rw [hs.2, if_neg e, if_neg e]
      · exact hs.2
theorem sw_best {post : Int32 → St2 → Prop} {α β δ : Nat} {a1 a2 a3 a4 a5 a6 : Nat → Int32} (k : sw_K α β δ a1 a2 a3)
    (H : ∀ a4 a5, post 1 (nI 1, a1, a2, a3, a4, a5, a6)) : wpX_bestSet post (nI 1, a1, a2, a3, a4, a5, a6) := by
  refine sw_odd (by omega) (fun _ => k) ?_
  rw [sw_R1]
  have k' := k
  obtain ⟨q1, q2, q3, q4, _, _, k3⟩ := k'
  refine sw_joinE (by omega) k (fun b4 b5 => ?_)
  refine pk_lt δ 100000 (fun _ => ?_) (fun z => absurd z (by omega))
  refine pk_loop (σ := Int32 × Int32 × Int32 × Int32 × (Nat → Int32) × (Nat → Int32)) (fun n i s => wX_bestSet_34 post n s.1 s.2.1 s.2.2.1 s.2.2.2.1 (nI i) (nI 1) a1 a2 a3 s.2.2.2.2.1 s.2.2.2.2.2 a6)
    (fun i s => (i = 0 ∧ s.1 = sw_E α β ∧ s.2.1 = nI δ ∧ s.2.2.1 = nI 1 ∧ s.2.2.2.1 = 0) ∨ (0 < i ∧ s.2.2.2.1 = 1)) 10 0 (sw_E α β, nI δ, nI 1, 0, b4, b5) (by omega) (Or.inl ⟨rfl, rfl, rfl, rfl, rfl⟩) ?_ ?_
  · rintro n ⟨x1, x2, x3, x4, c4, c5⟩ hs
    refine pk_le 10 10 (fun _ => ?_) (fun z => absurd z (by omega))
    rcases hs with hs | hs
    · exact absurd hs.1 (by omega)
    · have e4 : x4 = 1 := hs.2
      subst e4
      exact H c4 c5
  · rintro n i ⟨x1, x2, x3, x4, c4, c5⟩ hi hs hw
    refine pk_le 10 i (fun z => absurd z (by omega)) (fun _ => sw_has (by omega) hi (fun e0 _ => ?_) (fun z => ?_))
    · subst e0
      rcases hs with hs | hs
      · obtain ⟨_, e1, e2, e3, e4⟩ := hs
        have e1 : x1 = sw_E α β := e1
        have e2 : x2 = nI δ := e2
        have e3 : x3 = nI 1 := e3
        have e4 : x4 = 0 := e4
        subst e1 e2 e3 e4
        refine br_f (by decide) (nm_r (show nI 1 &&& (((1 : Int32) <<< (nI 0 &&& 31)) ^^^ (-1)) = nI 0 from by decide) (sw_joinE (τ := 0) (by omega) k (fun d4 d5 => ?_)))
        refine pk_eq 100000 δ (fun z => absurd z (by omega)) (fun _ => nm_r (show (0 : Int32) ||| ((1 : Int32) <<< (nI 0 &&& 31)) = 1 from by decide) (sw_ends k (nm_e ⟨pk_in 0 10 (by omega), nm_e (nm_r (nI_1 _) (hw (_, _, _, _, _, _) (Or.inr ⟨by omega, rfl⟩)))⟩)))
      · exact absurd hs.1 (by omega)
    · refine br_t rfl (nm_r (nI_1 _) (hw (_, _, _, _, _, _) (Or.inr ⟨by omega, ?_⟩)))
      rcases hs with hs | hs
      · exact absurd ⟨hs.1, rfl⟩ z
      · exact hs.2
theorem sw_dec1 : ∀ κ, κ < 2 → (nI (κ + 1) - 1).toInt8.toInt32 = nI κ ∧ (nI κ + 1).toInt8.toInt32 = nI (κ + 1) := by decide +kernel
/-- what is left: street 0 κ times, no other -/
def sw_L (κ : Nat) (s : Nat → Int32) : Prop := s 0 = nI κ ∧ ∀ j, 0 < j → j < 10 → s j = 0
theorem sw_L_put {κ κ' : Nat} {s : Nat → Int32} {v : Int32} (h : sw_L κ s) (hv : v = nI κ') : sw_L κ' (upd s 0 v) := by
  refine ⟨?_, fun j h0 h1 => ?_⟩
  · rw [pk_us, hv]
  · rw [pk_un (by omega)]
    exact h.2 j h0 h1
theorem sw_next33 {post : Int32 → St2 → Prop} {J : Int32 → (Nat → Int32) → (Nat → Int32) → (Nat → Int32) → (Nat → Int32) → (Nat → Int32) → (Nat → Int32) → Prop} {α β δ κ y : Nat} {p x : Int32} {a1 a2 a3 a4 a5 a6 : Nat → Int32} (k : sw_K α β δ a1 a2 a3) (hκ : κ < 2) (h6 : sw_L (κ + 1) a6)
    (hx : nI α + nI β - x = nI y) (hy : y = α ∨ y = β) (H : ∀ b6, sw_L (κ + 1) b6 → post 0 (p, a1, a2, a3, a4, a5, b6)) : wX_nextStreet_33 post J x (nI 0) 1 p a1 a2 a3 a4 a5 a6 := by
  have k' := k
  obtain ⟨q1, q2, q3, q4, k1, k2, k3⟩ := k'
  obtain ⟨d1, d2⟩ := sw_dec1 κ hκ
  unfold wX_nextStreet_33
  rw [nI_clamp (show 0 < 2 ^ 31 by omega), k1, k2, h6.1, d1, hx]
  refine ⟨pk_in 0 10 (by omega), pk_le (κ + 1) 0 (fun z => absurd z (by omega)) (fun _ => br_f (by decide) ⟨pk_in 0 10 (by omega), pk_in 0 10 (by omega), nm_e ?_⟩)⟩
  have L1 : sw_L κ (upd a6 0 (nI κ)) := sw_L_put h6 rfl
  refine sw_still hκ L1.1 L1.2 ⟨pk_in 0 10 (by omega), pk_in 0 10 (by omega), nm_e (sw_reached hκ (fun _ => k) (fun _ => ?_) ⟨pk_in 0 10 (by omega), pk_in 0 10 (by omega), ?_⟩)⟩
  · rcases hy with e | e
    · rw [e]
      exact sw_E_a α q1 β q2
    · rw [e]
      exact sw_E_b α q1 β q2
  · rw [pk_us, d2]
    refine nm_e (sw_touched hκ (fun _ => k) (br_t ?_ (H _ (sw_L_put L1 rfl))))
    by_cases e : κ = 1
    · rw [if_pos e, e, sw_R1]
      exact sw_E_sub α q1 β q2
    · rw [if_neg e, sw_R0 e]
      exact sw_z1 _
theorem sw_next {post : Int32 → St2 → Prop} {α β δ κ x y : Nat} {p : Int32} {a1 a2 a3 a4 a5 a6 : Nat → Int32} (k : sw_K α β δ a1 a2 a3) (hκ : κ < 2) (h6 : sw_L (κ + 1) a6)
    (hx : (x = α ∧ y = β) ∨ (x = β ∧ y = α)) (H : ∀ b6, sw_L (κ + 1) b6 → post 0 (p, a1, a2, a3, a4, a5, b6)) : wpX_nextStreet post (p, a1, a2, a3, a4, a5, a6) (nI x) := by
  have k' := k
  obtain ⟨q1, q2, q3, q4, k1, k2, k3⟩ := k'
  have hs : nI α + nI β - nI x = nI y := by
    rw [nI_add, pk_sub (by omega)]
    exact congrArg nI (by omega)
  refine ⟨1, br_f (by decide) ⟨pk_in 0 10 (by omega), br_c (fun _ => sw_next33 k hκ h6 hs (by omega) H) (fun g => ⟨pk_in 0 10 (by omega), br_t ?_ (sw_next33 k hκ h6 hs (by omega) H)⟩)⟩⟩
  rw [sb_cl0] at g
  rw [sb_cl0]
  rcases hx with hx | hx
  · exact absurd (by rw [k1, hx.1]) g
  · rw [k2, hx.1]
end
section
/-! ===== walkAt, way, build, close ===== -/
theorem sw_106s {post : Int32 → St2 → Prop} {α β δ κ x y i n : Nat} {p z : Int32} {a1 a2 a3 a4 a5 a6 : Nat → Int32} (k : sw_K α β δ a1 a2 a3) (hκ : κ < 2) (h6 : sw_L (κ + 1) a6)
    (hx : (x = α ∧ y = β) ∨ (x = β ∧ y = α)) (hi : i ≤ 1) (H : ∀ b6, sw_L κ b6 → wX_walkAt_106 post 1 n (nI y) 0 (nI (i + 1)) p a1 a2 a3 a4 a5 b6) : wX_walkAt_106 post 1 (n + 1) (nI x) z (nI i) p a1 a2 a3 a4 a5 a6 := by
  have k' := k
  obtain ⟨q1, q2, q3, q4, k1, k2, k3⟩ := k'
  refine pk_lt 1 i (fun z => absurd z (by omega)) (fun _ => sw_next k hκ h6 hx (fun b6 hb => br_t (by decide) ?_))
  have hs : nI α + nI β - nI x = nI y := by
    rw [nI_add, pk_sub (by omega)]
    exact congrArg nI (by omega)
  rw [sb_cl0, hb.1, k1, k2, hs]
  exact ⟨pk_in 0 10 (by omega), pk_in 0 10 (by omega), nm_e ⟨pk_in 0 10 (by omega), pk_in 0 10 (by omega), nm_e (nm_r (nI_1 _) (H _ (sw_L_put hb (sw_dec1 κ hκ).1)))⟩⟩
theorem sw_106 {post : Int32 → St2 → Prop} {α β δ : Nat} {p : Int32} {a1 a2 a3 a4 a5 a6 : Nat → Int32} (k : sw_K α β δ a1 a2 a3) (h6 : sw_L 2 a6) (H : ∀ b6, post 0 (p, a1, a2, a3, a4, a5, b6)) :
    ∃ n, wX_walkAt_106 post 1 n (nI α) (-1) 0 p a1 a2 a3 a4 a5 a6 :=
  ⟨3, sw_106s (κ := 1) (y := β) (i := 0) k (by omega) h6 (Or.inl ⟨rfl, rfl⟩) (by omega) (fun _ hb => sw_106s (κ := 0) (y := α) (i := 1) k (by omega) hb (Or.inr ⟨rfl, rfl⟩) (by omega) (fun c6 _ => br_t (by decide) (H c6)))⟩
theorem sw_left0 : ∀ i, i < 10 → (0 < i → ((0 : Int32) + (((1 : Int32) >>> (nI i &&& 31)) &&& 1)).toInt8.toInt32 = 0) := by decide +kernel
theorem sw_51 {post : Int32 → St2 → Prop} {α β δ : Nat} {a1 a2 a3 a4 a5 a6 : Nat → Int32} (k : sw_K α β δ a1 a2 a3) (H : ∀ b6, post 0 (nI 1, a1, a2, a3, a4, a5, b6)) :
    ∃ n, wX_walkAt_51 post (nI α) 1 1 (nI 1) n 0 a1 a2 a3 a4 a5 a6 := by
  refine pk_loop (fun n i s => wX_walkAt_51 post (nI α) 1 1 (nI 1) n (nI i) a1 a2 a3 a4 a5 s) (fun i s => ∀ j, j < i → s j = if j = 0 then nI 2 else 0) 10 0 a6 (by omega) (fun j hj => absurd hj (by omega)) ?_ ?_
  · intro n s hs
    refine pk_le 10 10 (fun _ => sw_106 k ⟨?_, fun j j0 j1 => ?_⟩ H) (fun z => absurd z (by omega))
    · rw [hs 0 (by omega), if_pos rfl]
    · rw [hs j j1, if_neg (by omega)]
  · intro n i s hi hs hw
    have F : ∀ v, v = (if i = 0 then nI 2 else 0) → ∀ j, j < i + 1 → upd s i v j = if j = 0 then nI 2 else 0 := by
      intro v hv j hj
      by_cases e : j = i
      · rw [e, pk_us, hv]
      · rw [pk_un e]
        exact hs j (by omega)
    refine pk_le 10 i (fun z => absurd z (by omega)) (fun _ => sw_has (by omega) hi (fun e0 _ => ?_) (fun z => ?_))
    · subst e0
      refine br_f (by decide) ⟨pk_in 0 10 (by omega), ?_⟩
      rw [nI_clamp (show 0 < 2 ^ 31 by omega)]
      exact nm_e (nm_r (nI_1 _) (hw _ (F _ (by decide))))
    · have e0 : ¬ i = 0 := fun e => z ⟨e, rfl⟩
      refine br_t rfl ⟨pk_in i 10 hi, ?_⟩
      rw [nI_clamp (show i < 2 ^ 31 by omega), sw_left0 i hi (by omega)]
      exact nm_e (nm_r (nI_1 _) (hw _ (F _ (by rw [if_neg e0]))))
theorem sw_at1 {post : Int32 → St2 → Prop} {α β δ : Nat} {a1 a2 a3 a4 a5 a6 : Nat → Int32} (k : sw_K α β δ a1 a2 a3) (H : ∀ b4 b5 b6, post 0 (nI 1, a1, a2, a3, b4, b5, b6)) : wpX_walkAt post (nI 1, a1, a2, a3, a4, a5, a6) (nI α) 1 := by
  have k' := k
  obtain ⟨q1, q2, q3, q4, k1, k2, k3⟩ := k'
  unfold wpX_walkAt
  refine sw_corner (fun _ _ => br_f (by decide) (br_f (by decide) (br_f (by decide) (sw_wl (by omega) (fun _ => k) (fun b4 b5 => ?_))))) (fun g => ?_)
  · refine br_t (nI_pos' (by rw [if_pos rfl]; omega)) (sw_touched (by omega) (fun _ => k) ?_)
    rw [sw_R1]
    refine br_f ?_ (sw_best k (fun c4 c5 => sw_51 k (fun b6 => H c4 c5 b6)))
    rw [sw_E_cor α q1 β q2]
    decide
  · rcases g with g | g
    · exact absurd g (nI_pos (by omega))
    · exact absurd g (nI_ge (b := 6) q1 (by decide))
theorem sw_shr0 : ∀ j, j < 6 → ((0 : Int32) >>> (nI j &&& 31)) &&& 1 = 0 := by decide +kernel
theorem sw_at0 {post : Int32 → St2 → Prop} {p0 : Int32} {a1 a2 a3 a4 a5 a6 : Nat → Int32} (H : ∀ b4 b5, post (-1) (nI 0, a1, a2, a3, b4, b5, a6)) : wpX_walkAt post (nI 0, a1, a2, a3, a4, a5, a6) p0 1 := by
  have k : 0 = 1 → sw_K 0 0 0 a1 a2 a3 := fun z => absurd z (by decide)
  unfold wpX_walkAt
  refine sw_corner (fun g1 g2 => br_f (by decide) (br_f (by decide) (br_f (by decide) (sw_wl (by omega) k (fun b4 b5 => ?_))))) (fun g => br_t rfl (H a4 a5))
  refine br_t (by decide) (sw_touched (by omega) k ?_)
  rw [sw_R0 (by decide)]
  refine br_t ?_ (H b4 b5)
  rcases pk_ix p0 (n := 6) (by omega) with g | g | ⟨j, hj, e⟩
  · exact absurd g g1
  · exact absurd g g2
  · rw [e]
    exact sw_shr0 j hj
def sw_both (p0 p1 : Int32) : Prop := ¬ p0 < 0 ∧ ¬ 6 ≤ p0 ∧ ¬ p1 < 0 ∧ ¬ 6 ≤ p1
def sw_good (p0 p1 p2 : Int32) : Prop := sw_both p0 p1 ∧ ¬ p0 = p1 ∧ ¬ p2 < 0 ∧ ¬ 20 < p2
theorem sw_num {p : Int32} (h0 : ¬ p < 0) (h6 : ¬ 6 ≤ p) : ∃ j, j < 6 ∧ p = nI j := by
  rcases pk_ix p (n := 6) (by omega) with g | g | g
  · exact absurd g h0
  · exact absurd g h6
  · exact g
theorem sw_way {post : Int32 → St2 → Prop} {p0 p1 : Int32} {a1 a2 a3 a4 a5 a6 : Nat → Int32} (H : ∀ r b4, (sw_both p0 p1 ∧ p0 = p1 → r = 0) → (¬ (sw_both p0 p1 ∧ p0 = p1) → r = -1) → post r (nI 0, a1, a2, a3, b4, a5, a6)) : wpX_way post (nI 0, a1, a2, a3, a4, a5, a6) p0 p1 := by
  unfold wpX_way
  refine sw_corner (fun g1 g2 => br_f (by decide) (sw_corner (fun g3 g4 => br_f (by decide) ?_) (fun g => br_t rfl (H _ _ (fun z => ?_) (fun _ => rfl))))) (fun g => br_t rfl (H _ _ (fun z => ?_) (fun _ => rfl)))
  · refine sw_measure (σ := 0) (α := 0) (β := 0) (δ := 0) (by omega) (by omega) (fun z => absurd z (by decide)) (fun w hw => ?_)
    obtain ⟨α, ha, ea⟩ := sw_num g1 g2
    obtain ⟨β, hb, eb⟩ := sw_num g3 g4
    have hB : sw_both p0 p1 := ⟨g1, g2, g3, g4⟩
    have e : p0 * 6 + p1 = nI (α * 6 + β) := by
      rw [ea, eb, ← nI_add, ← pk_mul]
      rfl
    refine ⟨pk_in (α * 6 + β) 36 (by omega) e, ?_⟩
    rw [e, nI_clamp (show α * 6 + β < 2 ^ 31 by omega), sw_W_at hw ha hb]
    by_cases h : α = β
    · rw [show sw_m 0 0 0 0 α β = 0 from by unfold sw_m; rw [if_pos h]]
      exact nm_e (br_f (by decide) (H _ _ (fun _ => rfl) (fun z => absurd ⟨hB, by rw [ea, eb, h]⟩ z)))
    · rw [sw_m_0 h]
      refine nm_e (br_t (by decide) (H _ _ (fun z => absurd z.2 ?_) (fun _ => rfl)))
      rw [ea, eb, nI_eq (by omega) (by omega)]
      exact h
  · obtain ⟨⟨_, _, z3, z4⟩, _⟩ := z
    rcases g with g | g
    · exact absurd g z3
    · exact absurd g z4
  · obtain ⟨⟨z1, z2, _, _⟩, _⟩ := z
    rcases g with g | g
    · exact absurd g z1
    · exact absurd g z2
theorem sw_build {post : Int32 → St2 → Prop} {p0 p1 p2 : Int32} {a1 a2 a3 a4 a5 a6 : Nat → Int32}
    (Hg : ∀ α β δ, α < 6 → β < 6 → ¬ α = β → δ ≤ 20 → p0 = nI α → p1 = nI β → p2 = nI δ → post 0 (nI 1, upd a1 0 (nI α), upd a2 0 (nI β), upd a3 0 (nI δ), a4, a5, a6))
    (Hb : ¬ sw_good p0 p1 p2 → post (-1) (nI 0, a1, a2, a3, a4, a5, a6)) : wpX_build post (nI 0, a1, a2, a3, a4, a5, a6) p0 p1 p2 := by
  refine br_c (fun g => Hb (fun z => z.2.1 g)) (fun g0 => sw_corner (fun g1 g2 => br_f (by decide) (sw_corner (fun g3 g4 => br_f (by decide) (br_c (fun g => Hb (fun z => z.2.2.1 g)) (fun g5 => br_c (fun g6 => ?_) (fun g => Hb (fun z => z.2.2.2 ?_))))) (fun g => br_t rfl (Hb (fun z => ?_))))) (fun g => br_t rfl (Hb (fun z => ?_))))
  · obtain ⟨α, ha, ea⟩ := sw_num g1 g2
    obtain ⟨β, hb, eb⟩ := sw_num g3 g4
    obtain ⟨δ, hd, ed⟩ := nI_of2 (n := 20) (by decide) g5 g6
    have hab : ¬ α = β := fun z => g0 (by rw [ea, eb, z])
    refine ⟨1, br_f (by decide) (sw_has (σ := 0) (i := 0) (by omega) (by omega) (fun _ z => absurd z (by decide)) (fun _ => br_t rfl (nm_r (e' := nI 1) (by decide) ⟨pk_in 0 10 (by omega), ?_⟩)))⟩
    rw [sb_cl0, ea, eb, ed, sw_byte α (by omega), sw_byte β (by omega), sw_byte δ (by omega)]
    exact nm_e ⟨pk_in 0 10 (by omega), nm_e ⟨pk_in 0 10 (by omega), nm_e (Hg α β δ ha hb hab hd ea eb ed)⟩⟩
  · exact Int32.not_le.mp g
  · obtain ⟨⟨_, _, z3, z4⟩, _⟩ := z
    rcases g with g | g
    · exact absurd g z3
    · exact absurd g z4
  · obtain ⟨⟨z1, z2, _, _⟩, _⟩ := z
    rcases g with g | g
    · exact absurd g z1
    · exact absurd g z2
theorem sw_close {post : Int32 → St2 → Prop} {σ : Nat} {p3 : Int32} {a1 a2 a3 a4 a5 a6 : Nat → Int32} (hσ : σ < 2) (h1 : p3 = 0 → σ = 1 → ∀ q, post 1 (q, a1, a2, a3, a4, a5, a6))
    (h0 : ¬ (p3 = 0 ∧ σ = 1) → post 0 (nI σ, a1, a2, a3, a4, a5, a6)) : wpX_close post (nI σ, a1, a2, a3, a4, a5, a6) p3 := by
  rcases pk_ix p3 (n := 10) (by omega) with g | g | ⟨j, hj, e⟩
  · exact br_t g (br_t rfl (h0 (fun z => absurd (by rw [z.1] at g; exact g) (by decide))))
  · by_cases g' : p3 < 0
    · exact br_t g' (br_t rfl (h0 (fun z => absurd (by rw [z.1] at g'; exact g') (by decide))))
    · exact br_f g' (br_t g (br_t rfl (h0 (fun z => absurd (by rw [z.1] at g; exact g) (by decide)))))
  · subst e
    unfold wpX_close
    refine sw_has hσ hj (fun e0 e1 => ?_) (fun z => br_t rfl (h0 (fun y => z ⟨?_, y.2⟩)))
    · exact br_f (by decide) (nm_e (h1 (by rw [e0]; rfl) e1 _))
    · exact (nI_eq (b := 0) (by omega) (by omega)).mp y.1
end
section
/-! ===== the law ===== -/
theorem sw_tail1 {post : Int32 → St0 → Prop} {mc ms kc ks : Nat} {p0 p1 p2 p3 r10 : Int32} (hp : post 1 ()) (g0 : ¬ p0 = p1) (g1 : ¬ p2 < 0) (g2 : ¬ 20 < p2) (h1 : p3 = 0 → r10 = 1) (h0 : ¬ p3 = 0 → r10 = 0) :
    wL_lawOf_84 post mc ms p0 p1 p2 p3 (-1) 0 (((1 : Int32) <<< (p0 &&& 31)) ||| ((1 : Int32) <<< (p1 &&& 31))) (2 * p2) 0 r10 1 kc ks := by
  refine br_f (by decide) (br_f g0 (br_f g1 (br_f g2 (br_f (by decide) (br_f (by decide) (br_f g0 (br_t rfl (br_f (by decide) (br_t rfl (br_t rfl (br_f (by decide) (br_t rfl (br_f (by decide) (br_t rfl (br_f (by decide) (br_c (fun z => ?_) (fun z => ?_)))))))))))))))))
  · exact br_t (h1 z) hp
  · exact br_t (h0 z) hp
/-- nothing was built -/
theorem sw_tail0 {post : Int32 → St0 → Prop} {mc ms kc ks : Nat} {p0 p1 p2 p3 r x : Int32} (hp : post 1 ()) (h1 : ¬ x = 0 → p0 = p1 → r = 0) (h0 : (x = 0 ∨ ¬ p0 = p1) → r = -1) :
    wL_lawOf_110 post mc ms p0 p1 p2 p3 r (-1) 0 0 (-1) 0 x kc ks := by
  have T : wL_lawOf_163 post mc ms p2 p3 0 0 (-1) 0 0 0 (-1) (-1) kc ks :=
    br_t rfl (br_t rfl (br_t rfl (br_t rfl (br_t rfl (br_t rfl (br_t rfl (br_t rfl hp)))))))
  refine br_t rfl (br_c (fun z => ?_) (fun z => br_c (fun y => ?_) (fun y => ?_)))
  · exact br_t (h0 (Or.inl z)) (br_t rfl T)
  · exact br_t (h1 z y) (br_t rfl T)
  · exact br_t (h0 (Or.inr y)) (br_t rfl T)
theorem sw_lawOf {post : Int32 → St0 → Prop} {p0 p1 p2 p3 : Int32} (hp : post 1 ()) : wpL_lawOf post 7 147 () p0 p1 p2 p3 := by
  refine ⟨by omega, by omega, 6, 140, by omega, by omega, ⟨by omega, by omega, by omega, by omega, by omega, by omega, by omega, by omega, by omega, by omega, by omega, by omega, ?_⟩⟩
  refine sw_way (fun r b4 hr1 hr0 => sw_build (fun α β δ ha hb hab hd e0 e1 e2 => ?_) (fun hb => ?_))
  · subst e0 e1 e2
    have k : sw_K α β δ (upd (fun _ => 0) 0 (nI α)) (upd (fun _ => 0) 0 (nI β)) (upd (fun _ => 0) 0 (nI δ)) := ⟨ha, hb, hab, hd, pk_us, pk_us, pk_us⟩
    have g0 : ¬ nI α = nI β := fun z => hab ((nI_eq (by omega) (by omega)).mp z)
    have er : r = -1 := hr0 (fun z => g0 z.2)
    subst er
    have e2 : nI (δ + δ) = 2 * nI δ := by
      have t : (2 : Int32) * nI δ = nI (2 * δ) := pk_mul 2 δ
      rw [t]
      exact congrArg nI (by omega)
    refine sw_odd (σ := 1) (by omega) (fun _ => k) (sw_wl (σ := 1) (by omega) (fun _ => k) (fun c4 c5 => sw_at1 k (fun d4 d5 d6 => ?_)))
    rw [sw_R1, if_pos rfl, e2]
    have T : ∀ r10 : Int32, (p3 = 0 → r10 = 1) → (¬ p3 = 0 → r10 = 0) → wL_lawOf_84 post 7 147 (nI α) (nI β) (nI δ) p3 (-1) 0 (sw_E α β) (2 * nI δ) 0 r10 1 (1 + 6) (7 + 140) := fun r10 y1 y0 => sw_tail1 hp g0 (nI_pos (by omega)) (nI_nlt (a := 20) (b := δ) hd (by omega)) y1 y0
    refine sw_close (σ := 1) (by omega) (fun z _ q => ?_) (fun z => ?_)
    · exact br_f (nI_pos (show α < 2 ^ 31 by omega)) (br_f (nI_ge (b := 6) ha (by omega)) (br_f (nI_pos (show β < 2 ^ 31 by omega)) (br_f (nI_ge (b := 6) hb (by omega)) (T 1 (fun _ => rfl) (fun y => absurd z y)))))
    · exact br_f (nI_pos (show α < 2 ^ 31 by omega)) (br_f (nI_ge (b := 6) ha (by omega)) (br_f (nI_pos (show β < 2 ^ 31 by omega)) (br_f (nI_ge (b := 6) hb (by omega)) (T 0 (fun y => absurd ⟨y, rfl⟩ z) (fun _ => rfl)))))
  · have k : 0 = 1 → sw_K 0 0 0 (fun _ => 0) (fun _ => 0) (fun _ => 0) := fun z => absurd z (by decide)
    refine sw_odd (σ := 0) (by omega) k (sw_wl (σ := 0) (by omega) k (fun c4 c5 => sw_at0 (fun d4 d5 => sw_close (σ := 0) (by omega) (fun _ z => absurd z (by decide)) (fun _ => ?_))))
    rw [sw_R0 (by decide), if_neg (by decide)]
    have T0 : ¬ sw_both p0 p1 → wL_lawOf_83 post 7 147 p0 p1 p2 p3 r (-1) 0 0 (-1) 0 (1 + 6) (7 + 140) := fun z => br_t rfl (sw_tail0 hp (fun y => absurd rfl y) (fun _ => hr0 (fun y => z y.1)))
    refine br_c (fun g => T0 (fun z => z.1 g)) (fun g1 => br_c (fun g => T0 (fun z => z.2.1 g)) (fun g2 => br_c (fun g => T0 (fun z => z.2.2.1 g)) (fun g3 => br_c (fun g => T0 (fun z => z.2.2.2 g)) (fun g4 => ?_))))
    have hB : sw_both p0 p1 := ⟨g1, g2, g3, g4⟩
    have T1 : wL_lawOf_110 post 7 147 p0 p1 p2 p3 r (-1) 0 0 (-1) 0 1 (1 + 6) (7 + 140) := sw_tail0 hp (fun _ y => hr1 ⟨hB, y⟩) (fun y => hr0 (fun x => ?_))
    · exact br_f (by decide) (br_c (fun _ => T1) (fun h1 => br_c (fun _ => T1) (fun h2 => br_c (fun _ => T1) (fun h3 => absurd ⟨hB, h1, h2, h3⟩ hb))))
    · rcases y with y | y
      · exact absurd y (by decide)
      · exact y x.2
theorem sw_cell {post : Int32 → Prop} {L : Nat} {xs : Nat → Int32} {i : Nat} (hL : L ≤ 4) (hi : i < 4) (H : ∀ r, post r) : wpL_cellAt post L xs () (nI i) :=
  pk_le L i (fun _ => H _) (fun z => ⟨pk_in i L z rfl (by omega), H _⟩)
theorem i_vc (xs : Nat → Int32) (L : Nat) (hL : L ≤ 4) : wpL_law (fun r => r = 1) L xs :=
  sw_cell (i := 0) hL (by omega) (fun _ => sw_cell (i := 1) hL (by omega) (fun _ => sw_cell (i := 2) hL (by omega) (fun _ => sw_cell (i := 3) hL (by omega) (fun _ => ⟨7, 147, by omega, by omega, sw_lawOf rfl⟩))))
end
