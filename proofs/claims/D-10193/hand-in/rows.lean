section
/-! bits of small sets -/
abbrev rr_b (W m : Nat) : Prop := W / 2 ^ m % 2 = 1
def rr_pop (A : Nat) : Nat := A % 2 + A / 2 % 2 + A / 4 % 2 + A / 8 % 2 + A / 16 % 2 + A / 32 % 2
theorem rr_bit : ∀ W, W < 64 → ∀ m, m < 6 → ((nI W >>> (nI m &&& 31)) &&& 1) = nI (W / 2 ^ m % 2) := by decide +kernel
theorem rr_bit0 {W m : Nat} (hW : W < 64) (hm : m < 6) : ((nI W >>> (nI m &&& 31)) &&& 1) = 0 ↔ ¬ rr_b W m := by
  rw [rr_bit W hW m hm, ← nI_0, nI_eq (by omega) (by omega)]
  unfold rr_b
  omega
theorem rr_bit1 {W m : Nat} (hW : W < 64) (hm : m < 6) : ((nI W >>> (nI m &&& 31)) &&& 1) = 1 ↔ rr_b W m := by
  rw [rr_bit W hW m hm, show (1 : Int32) = nI 1 from rfl, nI_eq (by omega) (by omega)]
theorem rr_or : ∀ A, A < 64 → ∀ i, i < 6 → nI A ||| ((1 : Int32) <<< (nI i &&& 31)) = nI (A ||| 2 ^ i) := by decide +kernel
theorem rr_or_b : ∀ A, A < 64 → ∀ i, i < 6 → (A ||| 2 ^ i) < 64 ∧ ∀ j, j < 6 → (rr_b (A ||| 2 ^ i) j ↔ (rr_b A j ∨ j = i)) := by decide +kernel
theorem rr_or8 : ∀ A, A < 8 → ∀ i, i < 3 → (A ||| 2 ^ i) < 8 := by decide +kernel
def rr_clr (W m : Nat) : Nat := if W / 2 ^ m % 2 = 1 then W - 2 ^ m else W
theorem rr_and : ∀ W, W < 64 → ∀ m, m < 6 → nI W &&& (((1 : Int32) <<< (nI m &&& 31)) ^^^ (-1)) = nI (rr_clr W m) := by decide +kernel
theorem rr_clr_b : ∀ W, W < 64 → ∀ m, m < 6 → rr_clr W m < 64 ∧ ∀ j, j < 6 → (rr_b (rr_clr W m) j ↔ (rr_b W j ∧ j ≠ m)) := by decide +kernel
/-! two of three -/
def rr_two (P : Nat → Prop) : Prop := ∃ i, i < 3 ∧ ∀ j, j < 3 → j ≠ i → P j
theorem rr_two_meet {P Q : Nat → Prop} (h : rr_two P) (g : rr_two Q) : ∃ j, j < 3 ∧ P j ∧ Q j := by
  obtain ⟨i, hi, h⟩ := h
  obtain ⟨i', hi', g⟩ := g
  have e : ∃ j, j < 3 ∧ j ≠ i ∧ j ≠ i' := by
    by_cases a : i ≠ 0 ∧ i' ≠ 0
    · exact ⟨0, by omega, by omega, by omega⟩
    · by_cases b : i ≠ 1 ∧ i' ≠ 1
      · exact ⟨1, by omega, by omega, by omega⟩
      · exact ⟨2, by omega, by omega, by omega⟩
  obtain ⟨j, hj, h1, h2⟩ := e
  exact ⟨j, hj, h j hj h1, g j hj h2⟩
theorem rr_two_mono {P Q : Nat → Prop} (h : rr_two P) (g : ∀ j, j < 3 → P j → Q j) : rr_two Q := by
  obtain ⟨i, hi, h⟩ := h
  exact ⟨i, hi, fun j hj ne => g j hj (h j hj ne)⟩
theorem rr_two_all {P : Nat → Prop} (h : ∀ j, j < 3 → P j) : rr_two P := ⟨0, by omega, fun j hj _ => h j hj⟩
theorem rr_pop2a : ∀ A, A < 8 → 2 ≤ rr_pop A → ((rr_b A 1 ∧ rr_b A 2) ∨ (rr_b A 0 ∧ rr_b A 2) ∨ (rr_b A 0 ∧ rr_b A 1)) := by decide +kernel
theorem rr_pop2b : ∀ A, A < 8 → ∀ i, i < 3 → (∀ j, j < 3 → j ≠ i → rr_b A j) → 2 ≤ rr_pop A := by decide +kernel
theorem rr_pop3a : ∀ A, A < 8 → 3 ≤ rr_pop A → ∀ j, j < 3 → rr_b A j := by decide +kernel
theorem rr_pop3b : ∀ A, A < 8 → (∀ j, j < 3 → rr_b A j) → 3 ≤ rr_pop A := by decide +kernel
theorem rr_pop_two {A : Nat} (hA : A < 8) (h : 2 ≤ rr_pop A) : rr_two (rr_b A) := by
  rcases rr_pop2a A hA h with ⟨a, b⟩ | ⟨a, b⟩ | ⟨a, b⟩
  · refine ⟨0, by omega, fun j hj ne => ?_⟩
    rcases (show j = 1 ∨ j = 2 by omega) with e | e <;> rw [e] <;> assumption
  · refine ⟨1, by omega, fun j hj ne => ?_⟩
    rcases (show j = 0 ∨ j = 2 by omega) with e | e <;> rw [e] <;> assumption
  · refine ⟨2, by omega, fun j hj ne => ?_⟩
    rcases (show j = 0 ∨ j = 1 by omega) with e | e <;> rw [e] <;> assumption
theorem rr_two_pop {A : Nat} (hA : A < 8) (h : rr_two (rr_b A)) : 2 ≤ rr_pop A := by
  obtain ⟨i, hi, h⟩ := h
  exact rr_pop2b A hA i hi h
/-! members and who works -/
def rr_wf (M W : Nat) : Prop := M < 64 ∧ W < 64 ∧ 3 ≤ rr_pop M ∧ (∀ m, m < 6 → rr_b W m → rr_b M m) ∧ (∀ m, m < 6 → ∀ m', m' < 6 → rr_b M m → ¬ rr_b W m → rr_b M m' → ¬ rr_b W m' → m = m')
/-! the ring -/
def rr_m1 (x : Int32) : Int32 := x ^^^ ((x.toUInt32 >>> ((7 : Int32).toUInt32 &&& Int32.toUInt32 31)).toInt32)
def rr_m2 (x : Int32) : Int32 := (x ^^^ ((x.toUInt32 >>> ((11 : Int32).toUInt32 &&& Int32.toUInt32 31)).toInt32)) &&& 4095
def rr_mx (x : Int32) : Int32 := rr_m2 (rr_m1 ((x * 40503) + 30011) * 26699)
def rr_tp (j : Nat) : Nat := [2231, 673, 1529, 1811, 1904, 2813, 1725, 1450, 1293, 1922, 2103, 1199, 2522, 2236, 1601, 1106, 1092, 1968, 3660, 2451, 3303, 3173, 3655, 4086].getD j 0
def rr_kt (k : Nat) : Nat := [982, 2266, 1280, 3267, 2248, 1706, 2470, 3059, 2006, 853, 3062, 3085, 3618, 764, 2131, 3216].getD k 0
theorem rr_tpE : ∀ j, j < 24 → rr_mx (nI (j + 100)) = nI (rr_tp j) ∧ rr_tp j < 4096 := by decide +kernel
theorem rr_ktE : ∀ k, k < 16 → rr_mx (nI k) = nI (rr_kt k) ∧ rr_kt k < 4096 := by decide +kernel
def rr_ins (p o : Nat) : List (Nat × Nat) → List (Nat × Nat)
  | [] => [(p, o)]
  | (q, r) :: R => if q ≤ p then (p, o) :: (q, r) :: R else (q, r) :: rr_ins p o R
def rr_lay (M : Nat) : Nat → List (Nat × Nat)
  | 0 => []
  | j + 1 => if M / 2 ^ (j / 4) % 2 = 1 then rr_ins (rr_tp j) (j / 4) (rr_lay M j) else rr_lay M j
def rr_Hold : List (Nat × Nat) → (Nat → Int32) → (Nat → Int32) → Prop
  | [], _, _ => True
  | (p, o) :: R, a1, a2 => p < 4096 ∧ o < 6 ∧ a1 R.length = nI p ∧ a2 R.length = nI o ∧ rr_Hold R a1 a2
def rr_pa (R : List (Nat × Nat)) (i : Nat) : Nat × Nat := R.getD (R.length - 1 - i) (0, 0)
def rr_bs (R : List (Nat × Nat)) (p : Nat) : Nat → Nat → Nat → Nat
  | 0, lo, _ => lo
  | f + 1, lo, hi => if hi ≤ lo then lo else if p ≤ (rr_pa R ((lo + hi) / 2)).1 then rr_bs R p f lo ((lo + hi) / 2) else rr_bs R p f ((lo + hi) / 2 + 1) hi
def rr_sc (R : List (Nat × Nat)) (lo n : Nat) : Nat → Nat → Nat → Nat → List Nat
  | 0, _, _, _ => []
  | f + 1, i, c, s => if 3 ≤ c then [] else if s / 2 ^ (rr_pa R ((lo + i) % n)).2 % 2 = 1 then rr_sc R lo n f (i + 1) c s else (rr_pa R ((lo + i) % n)).2 :: rr_sc R lo n f (i + 1) (c + 1) (s ||| 2 ^ (rr_pa R ((lo + i) % n)).2)
def rr_kpl (M k : Nat) : List Nat := rr_sc (rr_lay M 24) (rr_bs (rr_lay M 24) (rr_kt k) 6 0 (rr_lay M 24).length) (rr_lay M 24).length (rr_lay M 24).length 0 0 0
def rr_kp (M k i : Nat) : Nat := (rr_kpl M k).getD i 0
def rr_kpok (M : Nat) : List Nat → Bool
  | [a, b, c] => decide (a < 6) && decide (b < 6) && decide (c < 6) && decide (a ≠ b) && decide (a ≠ c) && decide (b ≠ c) && decide (rr_b M a) && decide (rr_b M b) && decide (rr_b M c)
  | _ => false
theorem rr_kpD : ∀ M, M < 64 → 3 ≤ rr_pop M → 0 < (rr_lay M 24).length ∧ ∀ k, k < 16 → rr_kpok M (rr_kpl M k) = true := by decide +kernel
theorem rr_kpok_of {M : Nat} {l : List Nat} (h : rr_kpok M l = true) : l.length = 3 ∧ (∀ i, i < 3 → l.getD i 0 < 6 ∧ rr_b M (l.getD i 0)) ∧ ∀ i, i < 3 → ∀ j, j < 3 → l.getD i 0 = l.getD j 0 → i = j := by
  unfold rr_kpok at h
  split at h
  · rename_i a b c
    simp only [Bool.and_eq_true, decide_eq_true_eq] at h
    obtain ⟨⟨⟨⟨⟨⟨⟨⟨h1, h2⟩, h3⟩, h4⟩, h5⟩, h6⟩, h7⟩, h8⟩, h9⟩ := h
    refine ⟨rfl, fun i hi => ?_, fun i hi j hj e => ?_⟩
    · rcases (show i = 0 ∨ i = 1 ∨ i = 2 by omega) with z | z | z <;> rw [z]
      · exact ⟨h1, h7⟩
      · exact ⟨h2, h8⟩
      · exact ⟨h3, h9⟩
    · rcases (show i = 0 ∨ i = 1 ∨ i = 2 by omega) with z | z | z <;> rcases (show j = 0 ∨ j = 1 ∨ j = 2 by omega) with y | y | y <;> rw [z, y] at e <;> first | exact absurd e h4 | exact absurd e h5 | exact absurd e h6 | exact absurd e.symm h4 | exact absurd e.symm h5 | exact absurd e.symm h6 | (rw [z, y])
  · exact absurd h (by decide)
theorem rr_kpF {M k : Nat} (hM : M < 64) (h3 : 3 ≤ rr_pop M) (hk : k < 16) : (rr_kpl M k).length = 3 ∧ (∀ i, i < 3 → rr_kp M k i < 6 ∧ rr_b M (rr_kp M k i)) ∧ ∀ i, i < 3 → ∀ j, j < 3 → rr_kp M k i = rr_kp M k j → i = j :=
  rr_kpok_of ((rr_kpD M hM h3).2 k hk)
theorem rr_two_work {M W k : Nat} (h : rr_wf M W) (hk : k < 16) : rr_two (fun j => rr_b W (rr_kp M k j)) := by
  obtain ⟨hM, hW, h3, hs, hi⟩ := h
  obtain ⟨_, k1, k2⟩ := rr_kpF hM h3 hk
  by_cases a : rr_b W (rr_kp M k 0) ∧ rr_b W (rr_kp M k 1)
  · refine ⟨2, by omega, fun j hj ne => ?_⟩
    rcases (show j = 0 ∨ j = 1 by omega) with e | e <;> rw [e]
    · exact a.1
    · exact a.2
  · by_cases b : rr_b W (rr_kp M k 0)
    · refine ⟨1, by omega, fun j hj ne => ?_⟩
      rcases (show j = 0 ∨ j = 2 by omega) with e | e <;> rw [e]
      · exact b
      · refine Decidable.byContradiction (fun z => ?_)
        have t := k2 1 (by omega) 2 (by omega) (hi _ (k1 1 (by omega)).1 _ (k1 2 (by omega)).1 (k1 1 (by omega)).2 (fun y => a ⟨b, y⟩) (k1 2 (by omega)).2 z)
        omega
    · refine ⟨0, by omega, fun j hj ne => ?_⟩
      refine Decidable.byContradiction (fun z => ?_)
      have t := k2 0 (by omega) j hj (hi _ (k1 0 (by omega)).1 _ (k1 j hj).1 (k1 0 (by omega)).2 b (k1 j hj).2 z)
      omega
end
section
theorem rr_byte : ∀ o, o < 6 → (nI o).toInt8.toInt32 = nI o ∧ vp_nar .byte (nI o) = nI o := by decide +kernel
theorem rr_ins_len (p o : Nat) (R : List (Nat × Nat)) : (rr_ins p o R).length = R.length + 1 := by
  induction R with
  | nil => rfl
  | cons x R ih =>
    obtain ⟨q, r⟩ := x
    unfold rr_ins
    split
    · rfl
    · rw [List.length_cons, List.length_cons, ih]
theorem rr_lay_len (M : Nat) : ∀ j, (rr_lay M j).length ≤ j
  | 0 => Nat.le_refl 0
  | j + 1 => by
    have h := rr_lay_len M j
    unfold rr_lay
    split
    · rw [rr_ins_len]; omega
    · omega
theorem rr_Hold_cg (R : List (Nat × Nat)) {a1 a2 b1 b2 : Nat → Int32} (e : ∀ j, j < R.length → b1 j = a1 j ∧ b2 j = a2 j) (h : rr_Hold R a1 a2) : rr_Hold R b1 b2 := by
  induction R with
  | nil => trivial
  | cons x R ih =>
    obtain ⟨q, r⟩ := x
    obtain ⟨h1, h2, h3, h4, h5⟩ := h
    have t := e R.length (by rw [List.length_cons]; omega)
    exact ⟨h1, h2, by rw [t.1]; exact h3, by rw [t.2]; exact h4, ih (fun j hj => e j (by rw [List.length_cons]; omega)) h5⟩
theorem rr_Hold_at (R : List (Nat × Nat)) {a1 a2 : Nat → Int32} (h : rr_Hold R a1 a2) : ∀ i, i < R.length → a1 i = nI (rr_pa R i).1 ∧ a2 i = nI (rr_pa R i).2 ∧ (rr_pa R i).1 < 4096 ∧ (rr_pa R i).2 < 6 := by
  induction R with
  | nil => intro i hi; exact absurd hi (by simp)
  | cons x R ih =>
    obtain ⟨q, r⟩ := x
    obtain ⟨h1, h2, h3, h4, h5⟩ := h
    intro i hi
    rw [List.length_cons] at hi
    by_cases e : i = R.length
    · have t : rr_pa ((q, r) :: R) i = (q, r) := by
        unfold rr_pa
        rw [List.length_cons, show R.length + 1 - 1 - i = 0 by omega]
        rfl
      rw [t, e]
      exact ⟨h3, h4, h1, h2⟩
    · have t : rr_pa ((q, r) :: R) i = rr_pa R i := by
        unfold rr_pa
        rw [List.length_cons, show R.length + 1 - 1 - i = (R.length - 1 - i) + 1 by omega]
        rfl
      rw [t]
      exact ih h5 i (by omega)
theorem rr_isMachine {post : Int32 → Prop} {m : Nat} (hm : m < 6) (h : post 1) : wpX_isMachine post () (nI m) :=
  pk_lt m 0 (fun z => absurd z (by omega)) (fun _ => pk_le 6 m (fun z => absurd z (by omega)) (fun _ => h))
theorem rr_isMember {post : Int32 → Prop} {u : St1} {m M : Nat} (hm : m < 6) (hM : M < 64) (e : u.1 = nI M) (h1 : rr_b M m → post 1) (h0 : ¬ rr_b M m → post 0) : wpX_isMember post u (nI m) := by
  unfold wpX_isMember
  refine rr_isMachine hm (br_f (by decide) ?_)
  rw [e]
  exact ek_if (rr_bit0 hM hm) h0 (fun z => h1 (Decidable.of_not_not z))
theorem rr_isWorking {post : Int32 → Prop} {u : St1} {m W : Nat} (hm : m < 6) (hW : W < 64) (e : u.2.1 = nI W) (h1 : rr_b W m → post 1) (h0 : ¬ rr_b W m → post 0) : wpX_isWorking post u (nI m) := by
  unfold wpX_isWorking
  refine rr_isMachine hm (br_f (by decide) ?_)
  rw [e]
  exact ek_if (rr_bit0 hW hm) h0 (fun z => h1 (Decidable.of_not_not z))
theorem rr_mixed {post : Int32 → Prop} {x q : Int32} (e : rr_mx x = q) (h : post q) : wpX_mixed post () x := by
  refine nm_e (nm_e (nm_e ?_))
  rw [← e] at h
  exact h
theorem rr_er55 {post : St1 → Prop} {u : St1} {p o n : Nat} (ho : o < 6) (hn : n < 24) {a1 a2 : Nat → Int32} (h : post (u.1, u.2.1, (u.2.2.1 + 1), u.2.2.2.1, u.2.2.2.2.1, u.2.2.2.2.2.1, u.2.2.2.2.2.2.1, u.2.2.2.2.2.2.2.1, u.2.2.2.2.2.2.2.2.1, (upd a1 n (nI p)), (upd a2 n (nI o)), u.2.2.2.2.2.2.2.2.2.2.2.1, u.2.2.2.2.2.2.2.2.2.2.2.2.1, u.2.2.2.2.2.2.2.2.2.2.2.2.2.1, u.2.2.2.2.2.2.2.2.2.2.2.2.2.2.1, u.2.2.2.2.2.2.2.2.2.2.2.2.2.2.2.1, u.2.2.2.2.2.2.2.2.2.2.2.2.2.2.2.2.1, u.2.2.2.2.2.2.2.2.2.2.2.2.2.2.2.2.2.1, u.2.2.2.2.2.2.2.2.2.2.2.2.2.2.2.2.2.2.1, u.2.2.2.2.2.2.2.2.2.2.2.2.2.2.2.2.2.2.2.1, u.2.2.2.2.2.2.2.2.2.2.2.2.2.2.2.2.2.2.2.2)) : wX_enterRing_55 post (nI p) (nI o) (nI n) u.1 u.2.1 u.2.2.1 u.2.2.2.1 u.2.2.2.2.1 u.2.2.2.2.2.1 u.2.2.2.2.2.2.1 u.2.2.2.2.2.2.2.1 u.2.2.2.2.2.2.2.2.1 (a1) (a2) u.2.2.2.2.2.2.2.2.2.2.2.1 u.2.2.2.2.2.2.2.2.2.2.2.2.1 u.2.2.2.2.2.2.2.2.2.2.2.2.2.1 u.2.2.2.2.2.2.2.2.2.2.2.2.2.2.1 u.2.2.2.2.2.2.2.2.2.2.2.2.2.2.2.1 u.2.2.2.2.2.2.2.2.2.2.2.2.2.2.2.2.1 u.2.2.2.2.2.2.2.2.2.2.2.2.2.2.2.2.2.1 u.2.2.2.2.2.2.2.2.2.2.2.2.2.2.2.2.2.2.1 u.2.2.2.2.2.2.2.2.2.2.2.2.2.2.2.2.2.2.2.1 u.2.2.2.2.2.2.2.2.2.2.2.2.2.2.2.2.2.2.2.2 :=
  And.intro (pk_in n 24 hn) (nm_r (e' := upd a1 n (nI p)) (by rw [nI_clamp (by omega)]) (And.intro (pk_in n 24 hn) (nm_r (e' := upd a2 n (nI o)) (by rw [nI_clamp (by omega), (rr_byte o ho).1]) (nm_e h))))
theorem rr_er5 {post : St1 → Prop} {u : St1} {p o : Nat} (hp : p < 4096) (ho : o < 6) (R : List (Nat × Nat)) : ∀ (a1 a2 : Nat → Int32), R.length < 24 → rr_Hold R a1 a2 → (∀ b1 b2, rr_Hold (rr_ins p o R) b1 b2 → (∀ j, R.length < j → b1 j = a1 j ∧ b2 j = a2 j) → post (u.1, u.2.1, (u.2.2.1 + 1), u.2.2.2.1, u.2.2.2.2.1, u.2.2.2.2.2.1, u.2.2.2.2.2.2.1, u.2.2.2.2.2.2.2.1, u.2.2.2.2.2.2.2.2.1, (b1), (b2), u.2.2.2.2.2.2.2.2.2.2.2.1, u.2.2.2.2.2.2.2.2.2.2.2.2.1, u.2.2.2.2.2.2.2.2.2.2.2.2.2.1, u.2.2.2.2.2.2.2.2.2.2.2.2.2.2.1, u.2.2.2.2.2.2.2.2.2.2.2.2.2.2.2.1, u.2.2.2.2.2.2.2.2.2.2.2.2.2.2.2.2.1, u.2.2.2.2.2.2.2.2.2.2.2.2.2.2.2.2.2.1, u.2.2.2.2.2.2.2.2.2.2.2.2.2.2.2.2.2.2.1, u.2.2.2.2.2.2.2.2.2.2.2.2.2.2.2.2.2.2.2.1, u.2.2.2.2.2.2.2.2.2.2.2.2.2.2.2.2.2.2.2.2)) → wX_enterRing_5 post (nI p) (nI o) u.1 u.2.1 u.2.2.1 u.2.2.2.1 u.2.2.2.2.1 u.2.2.2.2.2.1 u.2.2.2.2.2.2.1 u.2.2.2.2.2.2.2.1 u.2.2.2.2.2.2.2.2.1 (R.length + 1) (nI R.length) (a1) (a2) u.2.2.2.2.2.2.2.2.2.2.2.1 u.2.2.2.2.2.2.2.2.2.2.2.2.1 u.2.2.2.2.2.2.2.2.2.2.2.2.2.1 u.2.2.2.2.2.2.2.2.2.2.2.2.2.2.1 u.2.2.2.2.2.2.2.2.2.2.2.2.2.2.2.1 u.2.2.2.2.2.2.2.2.2.2.2.2.2.2.2.2.1 u.2.2.2.2.2.2.2.2.2.2.2.2.2.2.2.2.2.1 u.2.2.2.2.2.2.2.2.2.2.2.2.2.2.2.2.2.2.1 u.2.2.2.2.2.2.2.2.2.2.2.2.2.2.2.2.2.2.2.1 u.2.2.2.2.2.2.2.2.2.2.2.2.2.2.2.2.2.2.2.2 := by
  induction R with
  | nil =>
    intro a1 a2 hl hH H
    refine pk_le 0 0 (fun _ => rr_er55 (n := 0) ho (by omega) (H _ _ ?_ ?_)) (fun z => absurd z (by omega))
    · exact ⟨hp, ho, pk_us, pk_us, trivial⟩
    · intro j hj
      exact ⟨pk_un (Nat.ne_of_gt hj), pk_un (Nat.ne_of_gt hj)⟩
  | cons x R ih =>
    obtain ⟨q, r⟩ := x
    intro a1 a2 hl hH H
    rw [List.length_cons] at hl
    obtain ⟨h1, h2, h3, h4, h5⟩ := hH
    have c1 : (nI (R.length + 1) - 1).toNatClampNeg = R.length := by rw [nI_pred, nI_clamp (by omega)]
    have c2 : (nI (R.length + 1)).toNatClampNeg = R.length + 1 := nI_clamp (by omega)
    show wX_enterRing_5 post (nI p) (nI o) u.1 u.2.1 u.2.2.1 u.2.2.2.1 u.2.2.2.2.1 u.2.2.2.2.2.1 u.2.2.2.2.2.2.1 u.2.2.2.2.2.2.2.1 u.2.2.2.2.2.2.2.2.1 (R.length + 1 + 1) (nI (R.length + 1)) (a1) (a2) u.2.2.2.2.2.2.2.2.2.2.2.1 u.2.2.2.2.2.2.2.2.2.2.2.2.1 u.2.2.2.2.2.2.2.2.2.2.2.2.2.1 u.2.2.2.2.2.2.2.2.2.2.2.2.2.2.1 u.2.2.2.2.2.2.2.2.2.2.2.2.2.2.2.1 u.2.2.2.2.2.2.2.2.2.2.2.2.2.2.2.2.1 u.2.2.2.2.2.2.2.2.2.2.2.2.2.2.2.2.2.1 u.2.2.2.2.2.2.2.2.2.2.2.2.2.2.2.2.2.2.1 u.2.2.2.2.2.2.2.2.2.2.2.2.2.2.2.2.2.2.2.1 u.2.2.2.2.2.2.2.2.2.2.2.2.2.2.2.2.2.2.2.2
    refine pk_le (R.length + 1) 0 (fun z => absurd z (by omega)) (fun _ => And.intro (pk_in R.length 24 (by omega) (hx := nI_pred _)) (pk_le q p (fun z => rr_er55 ho (by omega) (H _ _ ?_ ?_)) (fun z => And.intro (pk_in R.length 24 (by omega) (hx := nI_pred _)) (And.intro (pk_in (R.length + 1) 24 (by omega)) (nm_r (e' := upd a1 (R.length + 1) (nI q)) (by rw [c1, c2, h3]) (And.intro (pk_in R.length 24 (by omega) (hx := nI_pred _)) (And.intro (pk_in (R.length + 1) 24 (by omega)) (nm_r (e' := upd a2 (R.length + 1) (nI r)) (by rw [c1, c2, h4, (rr_byte r h2).2]) (nm_r (pk_m1 R.length) (ih _ _ (by omega) ?_ ?_)))))))) (hx := by rw [c1, h3]) (hy := rfl)))
    · unfold rr_ins
      rw [if_pos z]
      refine ⟨hp, ho, pk_us, pk_us, h1, h2, ?_, ?_, rr_Hold_cg R ?_ h5⟩
      · rw [pk_un (by omega)]; exact h3
      · rw [pk_un (by omega)]; exact h4
      · intro j hj
        exact ⟨pk_un (by omega), pk_un (by omega)⟩
    · intro j hj
      rw [List.length_cons] at hj
      exact ⟨pk_un (by omega), pk_un (by omega)⟩
    · refine rr_Hold_cg R ?_ h5
      intro j hj
      exact ⟨pk_un (by omega), pk_un (by omega)⟩
    · intro b1 b2 hb hj
      refine H b1 b2 ?_ ?_
      · unfold rr_ins
        rw [if_neg (by omega)]
        have t := hj (R.length + 1) (by omega)
        rw [pk_us, pk_us] at t
        refine ⟨h1, h2, ?_, ?_, hb⟩
        · rw [rr_ins_len]; exact t.1
        · rw [rr_ins_len]; exact t.2
      · intro j hj2
        rw [List.length_cons] at hj2
        have t := hj j (by omega)
        rw [pk_un (by omega), pk_un (by omega)] at t
        exact t
theorem rr_enter {post : St1 → Prop} {u : St1} {p o : Nat} {R : List (Nat × Nat)} (hp : p < 4096) (ho : o < 6) (hl : R.length < 24) (hr : u.2.2.1 = nI R.length) (hH : rr_Hold R u.2.2.2.2.2.2.2.2.2.1 u.2.2.2.2.2.2.2.2.2.2.1) (H : ∀ b1 b2, rr_Hold (rr_ins p o R) b1 b2 → post (u.1, u.2.1, (nI (R.length + 1)), u.2.2.2.1, u.2.2.2.2.1, u.2.2.2.2.2.1, u.2.2.2.2.2.2.1, u.2.2.2.2.2.2.2.1, u.2.2.2.2.2.2.2.2.1, (b1), (b2), u.2.2.2.2.2.2.2.2.2.2.2.1, u.2.2.2.2.2.2.2.2.2.2.2.2.1, u.2.2.2.2.2.2.2.2.2.2.2.2.2.1, u.2.2.2.2.2.2.2.2.2.2.2.2.2.2.1, u.2.2.2.2.2.2.2.2.2.2.2.2.2.2.2.1, u.2.2.2.2.2.2.2.2.2.2.2.2.2.2.2.2.1, u.2.2.2.2.2.2.2.2.2.2.2.2.2.2.2.2.2.1, u.2.2.2.2.2.2.2.2.2.2.2.2.2.2.2.2.2.2.1, u.2.2.2.2.2.2.2.2.2.2.2.2.2.2.2.2.2.2.2.1, u.2.2.2.2.2.2.2.2.2.2.2.2.2.2.2.2.2.2.2.2)) : wpX_enterRing post u (nI p) (nI o) := by
  have t := rr_er5 (post := post) (u := u) hp ho R u.2.2.2.2.2.2.2.2.2.1 u.2.2.2.2.2.2.2.2.2.2.1 hl hH (fun b1 b2 hb _ => by
    have := H b1 b2 hb
    rw [← nI_1, ← hr] at this
    exact this)
  have t2 : wX_enterRing_5 post (nI p) (nI o) u.1 u.2.1 u.2.2.1 u.2.2.2.1 u.2.2.2.2.1 u.2.2.2.2.2.1 u.2.2.2.2.2.2.1 u.2.2.2.2.2.2.2.1 u.2.2.2.2.2.2.2.2.1 (R.length + 1) u.2.2.1 u.2.2.2.2.2.2.2.2.2.1 u.2.2.2.2.2.2.2.2.2.2.1 u.2.2.2.2.2.2.2.2.2.2.2.1 u.2.2.2.2.2.2.2.2.2.2.2.2.1 u.2.2.2.2.2.2.2.2.2.2.2.2.2.1 u.2.2.2.2.2.2.2.2.2.2.2.2.2.2.1 u.2.2.2.2.2.2.2.2.2.2.2.2.2.2.2.1 u.2.2.2.2.2.2.2.2.2.2.2.2.2.2.2.2.1 u.2.2.2.2.2.2.2.2.2.2.2.2.2.2.2.2.2.1 u.2.2.2.2.2.2.2.2.2.2.2.2.2.2.2.2.2.2.1 u.2.2.2.2.2.2.2.2.2.2.2.2.2.2.2.2.2.2.2.1 u.2.2.2.2.2.2.2.2.2.2.2.2.2.2.2.2.2.2.2.2 := by
    rw [← hr] at t
    exact t
  exact Exists.intro _ t2
theorem rr_lr15 {post : St1 → Prop} {J : Int32 → Int32 → Int32 → Int32 → Int32 → Int32 → Int32 → Int32 → Int32 → Int32 → (Nat → Int32) → (Nat → Int32) → (Nat → Int32) → (Nat → Int32) → (Nat → Int32) → (Nat → Int32) → (Nat → Int32) → (Nat → Int32) → (Nat → Int32) → (Nat → Int32) → (Nat → Int32) → (Nat → Int32) → Prop} {u : St1} {M m : Nat} (hm : m < 6) (hM : M < 64) (e : u.1 = nI M) {a1 a2 : Nat → Int32} (h0 : rr_Hold (rr_lay M (4 * m)) a1 a2) (H : ∀ b1 b2, rr_Hold (rr_lay M (4 * m + 4)) b1 b2 → J (nI (m + 1)) u.1 u.2.1 (nI (rr_lay M (4 * m + 4)).length) u.2.2.2.1 u.2.2.2.2.1 u.2.2.2.2.2.1 u.2.2.2.2.2.2.1 u.2.2.2.2.2.2.2.1 u.2.2.2.2.2.2.2.2.1 (b1) (b2) u.2.2.2.2.2.2.2.2.2.2.2.1 u.2.2.2.2.2.2.2.2.2.2.2.2.1 u.2.2.2.2.2.2.2.2.2.2.2.2.2.1 u.2.2.2.2.2.2.2.2.2.2.2.2.2.2.1 u.2.2.2.2.2.2.2.2.2.2.2.2.2.2.2.1 u.2.2.2.2.2.2.2.2.2.2.2.2.2.2.2.2.1 u.2.2.2.2.2.2.2.2.2.2.2.2.2.2.2.2.2.1 u.2.2.2.2.2.2.2.2.2.2.2.2.2.2.2.2.2.2.1 u.2.2.2.2.2.2.2.2.2.2.2.2.2.2.2.2.2.2.2.1 u.2.2.2.2.2.2.2.2.2.2.2.2.2.2.2.2.2.2.2.2) : ∃ n, wX_layRing_15 post J (nI m) n 0 u.1 u.2.1 (nI (rr_lay M (4 * m)).length) u.2.2.2.1 u.2.2.2.2.1 u.2.2.2.2.2.1 u.2.2.2.2.2.2.1 u.2.2.2.2.2.2.2.1 u.2.2.2.2.2.2.2.2.1 (a1) (a2) u.2.2.2.2.2.2.2.2.2.2.2.1 u.2.2.2.2.2.2.2.2.2.2.2.2.1 u.2.2.2.2.2.2.2.2.2.2.2.2.2.1 u.2.2.2.2.2.2.2.2.2.2.2.2.2.2.1 u.2.2.2.2.2.2.2.2.2.2.2.2.2.2.2.1 u.2.2.2.2.2.2.2.2.2.2.2.2.2.2.2.2.1 u.2.2.2.2.2.2.2.2.2.2.2.2.2.2.2.2.2.1 u.2.2.2.2.2.2.2.2.2.2.2.2.2.2.2.2.2.2.1 u.2.2.2.2.2.2.2.2.2.2.2.2.2.2.2.2.2.2.2.1 u.2.2.2.2.2.2.2.2.2.2.2.2.2.2.2.2.2.2.2.2 := by
  refine pk_loop (σ := (Nat → Int32) × (Nat → Int32)) (fun n i s => wX_layRing_15 post J (nI m) n (nI i) u.1 u.2.1 (nI (rr_lay M (4 * m + i)).length) u.2.2.2.1 u.2.2.2.2.1 u.2.2.2.2.2.1 u.2.2.2.2.2.2.1 u.2.2.2.2.2.2.2.1 u.2.2.2.2.2.2.2.2.1 (s.1) (s.2) u.2.2.2.2.2.2.2.2.2.2.2.1 u.2.2.2.2.2.2.2.2.2.2.2.2.1 u.2.2.2.2.2.2.2.2.2.2.2.2.2.1 u.2.2.2.2.2.2.2.2.2.2.2.2.2.2.1 u.2.2.2.2.2.2.2.2.2.2.2.2.2.2.2.1 u.2.2.2.2.2.2.2.2.2.2.2.2.2.2.2.2.1 u.2.2.2.2.2.2.2.2.2.2.2.2.2.2.2.2.2.1 u.2.2.2.2.2.2.2.2.2.2.2.2.2.2.2.2.2.2.1 u.2.2.2.2.2.2.2.2.2.2.2.2.2.2.2.2.2.2.2.1 u.2.2.2.2.2.2.2.2.2.2.2.2.2.2.2.2.2.2.2.2) (fun i s => rr_Hold (rr_lay M (4 * m + i)) s.1 s.2) 4 0 (a1, a2) (by omega) h0 ?_ ?_
  · intro n s h
    exact pk_le 4 4 (fun _ => nm_r (nI_1 m) (H _ _ h)) (fun z => absurd z (by omega))
  · intro n i s hi h hw
    have q := rr_tpE (4 * m + i) (by omega)
    have hlen := rr_lay_len M (4 * m + i)
    refine pk_le 4 i (fun z => absurd z (by omega)) (fun _ => rr_isMember (u := (u.1, u.2.1, (nI (rr_lay M (4 * m + i)).length), u.2.2.2.1, u.2.2.2.2.1, u.2.2.2.2.2.1, u.2.2.2.2.2.2.1, u.2.2.2.2.2.2.2.1, u.2.2.2.2.2.2.2.2.1, (s.1), (s.2), u.2.2.2.2.2.2.2.2.2.2.2.1, u.2.2.2.2.2.2.2.2.2.2.2.2.1, u.2.2.2.2.2.2.2.2.2.2.2.2.2.1, u.2.2.2.2.2.2.2.2.2.2.2.2.2.2.1, u.2.2.2.2.2.2.2.2.2.2.2.2.2.2.2.1, u.2.2.2.2.2.2.2.2.2.2.2.2.2.2.2.2.1, u.2.2.2.2.2.2.2.2.2.2.2.2.2.2.2.2.2.1, u.2.2.2.2.2.2.2.2.2.2.2.2.2.2.2.2.2.2.1, u.2.2.2.2.2.2.2.2.2.2.2.2.2.2.2.2.2.2.2.1, u.2.2.2.2.2.2.2.2.2.2.2.2.2.2.2.2.2.2.2.2)) hm hM e (fun hb => br_f (by decide) (rr_mixed (q := nI (rr_tp (4 * m + i))) ?_ (rr_enter (u := (u.1, u.2.1, (nI (rr_lay M (4 * m + i)).length), u.2.2.2.1, u.2.2.2.2.1, u.2.2.2.2.2.1, u.2.2.2.2.2.2.1, u.2.2.2.2.2.2.2.1, u.2.2.2.2.2.2.2.2.1, (s.1), (s.2), u.2.2.2.2.2.2.2.2.2.2.2.1, u.2.2.2.2.2.2.2.2.2.2.2.2.1, u.2.2.2.2.2.2.2.2.2.2.2.2.2.1, u.2.2.2.2.2.2.2.2.2.2.2.2.2.2.1, u.2.2.2.2.2.2.2.2.2.2.2.2.2.2.2.1, u.2.2.2.2.2.2.2.2.2.2.2.2.2.2.2.2.1, u.2.2.2.2.2.2.2.2.2.2.2.2.2.2.2.2.2.1, u.2.2.2.2.2.2.2.2.2.2.2.2.2.2.2.2.2.2.1, u.2.2.2.2.2.2.2.2.2.2.2.2.2.2.2.2.2.2.2.1, u.2.2.2.2.2.2.2.2.2.2.2.2.2.2.2.2.2.2.2.2)) (R := rr_lay M (4 * m + i)) q.2 hm (by omega) rfl h (fun b1 b2 hb12 => nm_r (nI_1 i) ?_)))) (fun hb => br_t rfl (nm_r (nI_1 i) ?_)))
    · rw [show nI m * 4 = nI (m * 4) from pk_mul m 4, nI_add, show (100 : Int32) = nI 100 from rfl, nI_add, Nat.mul_comm m 4]
      exact q.1
    · have e1 : rr_lay M (4 * m + (i + 1)) = rr_ins (rr_tp (4 * m + i)) m (rr_lay M (4 * m + i)) := by
        show (if M / 2 ^ ((4 * m + i) / 4) % 2 = 1 then rr_ins (rr_tp (4 * m + i)) ((4 * m + i) / 4) (rr_lay M (4 * m + i)) else rr_lay M (4 * m + i)) = _
        rw [show (4 * m + i) / 4 = m by omega, if_pos hb]
      have t := hw (b1, b2) (by rw [e1]; exact hb12)
      rw [e1, rr_ins_len] at t
      exact t
    · have e1 : rr_lay M (4 * m + (i + 1)) = rr_lay M (4 * m + i) := by
        show (if M / 2 ^ ((4 * m + i) / 4) % 2 = 1 then rr_ins (rr_tp (4 * m + i)) ((4 * m + i) / 4) (rr_lay M (4 * m + i)) else rr_lay M (4 * m + i)) = _
        rw [show (4 * m + i) / 4 = m by omega, if_neg hb]
      have t := hw s (by rw [e1]; exact h)
      rw [e1] at t
      exact t
theorem rr_layRing {post : St1 → Prop} {u : St1} {M : Nat} (hM : M < 64) (e : u.1 = nI M) (H : ∀ b1 b2, rr_Hold (rr_lay M 24) b1 b2 → post (u.1, u.2.1, (nI (rr_lay M 24).length), u.2.2.2.1, u.2.2.2.2.1, u.2.2.2.2.2.1, u.2.2.2.2.2.2.1, u.2.2.2.2.2.2.2.1, u.2.2.2.2.2.2.2.2.1, (b1), (b2), u.2.2.2.2.2.2.2.2.2.2.2.1, u.2.2.2.2.2.2.2.2.2.2.2.2.1, u.2.2.2.2.2.2.2.2.2.2.2.2.2.1, u.2.2.2.2.2.2.2.2.2.2.2.2.2.2.1, u.2.2.2.2.2.2.2.2.2.2.2.2.2.2.2.1, u.2.2.2.2.2.2.2.2.2.2.2.2.2.2.2.2.1, u.2.2.2.2.2.2.2.2.2.2.2.2.2.2.2.2.2.1, u.2.2.2.2.2.2.2.2.2.2.2.2.2.2.2.2.2.2.1, u.2.2.2.2.2.2.2.2.2.2.2.2.2.2.2.2.2.2.2.1, u.2.2.2.2.2.2.2.2.2.2.2.2.2.2.2.2.2.2.2.2)) : wpX_layRing post u := by
  have t := pk_loop (σ := (Nat → Int32) × (Nat → Int32)) (fun n m s => wX_layRing_7 post n (nI m) u.1 u.2.1 (nI (rr_lay M (4 * m)).length) u.2.2.2.1 u.2.2.2.2.1 u.2.2.2.2.2.1 u.2.2.2.2.2.2.1 u.2.2.2.2.2.2.2.1 u.2.2.2.2.2.2.2.2.1 (s.1) (s.2) u.2.2.2.2.2.2.2.2.2.2.2.1 u.2.2.2.2.2.2.2.2.2.2.2.2.1 u.2.2.2.2.2.2.2.2.2.2.2.2.2.1 u.2.2.2.2.2.2.2.2.2.2.2.2.2.2.1 u.2.2.2.2.2.2.2.2.2.2.2.2.2.2.2.1 u.2.2.2.2.2.2.2.2.2.2.2.2.2.2.2.2.1 u.2.2.2.2.2.2.2.2.2.2.2.2.2.2.2.2.2.1 u.2.2.2.2.2.2.2.2.2.2.2.2.2.2.2.2.2.2.1 u.2.2.2.2.2.2.2.2.2.2.2.2.2.2.2.2.2.2.2.1 u.2.2.2.2.2.2.2.2.2.2.2.2.2.2.2.2.2.2.2.2) (fun m s => rr_Hold (rr_lay M (4 * m)) s.1 s.2) 6 0 (u.2.2.2.2.2.2.2.2.2.1, u.2.2.2.2.2.2.2.2.2.2.1) (by omega) trivial
    (fun n s h => pk_le 6 6 (fun _ => H _ _ h) (fun z => absurd z (by omega)))
    (fun n m s hm h hw => pk_le 6 m (fun z => absurd z (by omega)) (fun _ => rr_lr15 hm hM e h (fun b1 b2 hb => hw (b1, b2) hb)))
  exact t
end
section
theorem rr_bs_le (R : List (Nat × Nat)) (p n : Nat) : ∀ f lo hi, lo ≤ n → hi ≤ n → rr_bs R p f lo hi ≤ n
  | 0, lo, hi, h, _ => h
  | f + 1, lo, hi, h, h2 => by
    unfold rr_bs
    split
    · exact h
    · split
      · exact rr_bs_le R p n f _ _ h (by omega)
      · exact rr_bs_le R p n f _ _ (by omega) h2
def rr_K (M k : Nat) (a9 : Nat → Int32) : Prop := ∀ i, i < 3 → a9 i = nI (rr_kp M k i)
def rr_Ring (M : Nat) (rs : Int32) (a1 a2 : Nat → Int32) : Prop := rs = nI (rr_lay M 24).length ∧ rr_Hold (rr_lay M 24) a1 a2
theorem rr_fk75 {post : St1 → Prop} {u : St1} {R : List (Nat × Nat)} {lo : Nat} (hn : 0 < R.length) (hn2 : R.length ≤ 24) (hr : u.2.2.1 = nI R.length) (hH : rr_Hold R u.2.2.2.2.2.2.2.2.2.1 u.2.2.2.2.2.2.2.2.2.2.1) (hlo : lo ≤ R.length) : ∀ (f i c s : Nat) (a9 : Nat → Int32), f + i = R.length → c ≤ 3 → s < 64 → (∀ b9, (∀ j, j < c → b9 j = a9 j) → (∀ j, j < (rr_sc R lo R.length f i c s).length → b9 (c + j) = nI ((rr_sc R lo R.length f i c s).getD j 0)) → post (u.1, u.2.1, u.2.2.1, u.2.2.2.1, u.2.2.2.2.1, u.2.2.2.2.2.1, u.2.2.2.2.2.2.1, u.2.2.2.2.2.2.2.1, u.2.2.2.2.2.2.2.2.1, u.2.2.2.2.2.2.2.2.2.1, u.2.2.2.2.2.2.2.2.2.2.1, u.2.2.2.2.2.2.2.2.2.2.2.1, u.2.2.2.2.2.2.2.2.2.2.2.2.1, u.2.2.2.2.2.2.2.2.2.2.2.2.2.1, u.2.2.2.2.2.2.2.2.2.2.2.2.2.2.1, u.2.2.2.2.2.2.2.2.2.2.2.2.2.2.2.1, u.2.2.2.2.2.2.2.2.2.2.2.2.2.2.2.2.1, (b9), u.2.2.2.2.2.2.2.2.2.2.2.2.2.2.2.2.2.2.1, u.2.2.2.2.2.2.2.2.2.2.2.2.2.2.2.2.2.2.2.1, u.2.2.2.2.2.2.2.2.2.2.2.2.2.2.2.2.2.2.2.2)) → wX_findKeepers_75 post (nI lo) u.1 u.2.1 u.2.2.1 u.2.2.2.1 u.2.2.2.2.1 u.2.2.2.2.2.1 u.2.2.2.2.2.2.1 u.2.2.2.2.2.2.2.1 u.2.2.2.2.2.2.2.2.1 (f + 1) (nI c) (nI s) (nI i) u.2.2.2.2.2.2.2.2.2.1 u.2.2.2.2.2.2.2.2.2.2.1 u.2.2.2.2.2.2.2.2.2.2.2.1 u.2.2.2.2.2.2.2.2.2.2.2.2.1 u.2.2.2.2.2.2.2.2.2.2.2.2.2.1 u.2.2.2.2.2.2.2.2.2.2.2.2.2.2.1 u.2.2.2.2.2.2.2.2.2.2.2.2.2.2.2.1 u.2.2.2.2.2.2.2.2.2.2.2.2.2.2.2.2.1 (a9) u.2.2.2.2.2.2.2.2.2.2.2.2.2.2.2.2.2.2.1 u.2.2.2.2.2.2.2.2.2.2.2.2.2.2.2.2.2.2.2.1 u.2.2.2.2.2.2.2.2.2.2.2.2.2.2.2.2.2.2.2.2 := by
  intro f
  induction f with
  | zero =>
    intro i c s a9 hf hc hs H
    exact pk_le R.length i (fun _ => H a9 (fun _ _ => rfl) (fun j hj => absurd hj (Nat.not_lt_zero j))) (fun z => absurd z (by omega)) (hx := hr)
  | succ f ih =>
    intro i c s a9 hf hc hs H
    have E : rr_sc R lo R.length (f + 1) i c s = if 3 ≤ c then [] else if s / 2 ^ (rr_pa R ((lo + i) % R.length)).2 % 2 = 1 then rr_sc R lo R.length f (i + 1) c s else (rr_pa R ((lo + i) % R.length)).2 :: rr_sc R lo R.length f (i + 1) (c + 1) (s ||| 2 ^ (rr_pa R ((lo + i) % R.length)).2) := rfl
    have hx : (lo + i) % R.length < R.length := Nat.mod_lt _ hn
    obtain ⟨_, g2, _, g4⟩ := rr_Hold_at R hH _ hx
    have ei : (nI lo + nI i) - (nI lo + nI i) / u.2.2.1 * u.2.2.1 = nI ((lo + i) % R.length) := by
      rw [hr, nI_add, pk_rem (by omega) hn (by omega)]
    generalize hO : (rr_pa R ((lo + i) % R.length)).2 = o at E g2 g4
    refine pk_le R.length i (fun z => absurd z (by omega)) (fun _ => pk_le 3 c (fun z => H a9 (fun _ _ => rfl) (fun j hj => ?_)) (fun z => And.intro (by rw [hr]; exact nI_ne0 hn (by omega)) (And.intro (pk_in _ 24 (by omega) (hx := ei)) (nm_r (e' := nI o) (by rw [ei, nI_clamp (by omega), g2]) (ek_if (rr_bit0 hs g4) (fun hb => nm_r (rr_or s hs o g4) (And.intro (pk_in c 3 (by omega)) (nm_r (e' := upd a9 c (nI o)) (by rw [nI_clamp (by omega), (rr_byte o g4).1]) (nm_r (nI_1 c) (nm_r (nI_1 i) (ih (i + 1) (c + 1) _ _ (by omega) (by omega) (rr_or_b s hs o g4).1 (fun b9 q1 q2 => H b9 ?_ ?_))))))) (fun hb => nm_r (nI_1 i) (ih (i + 1) c s a9 (by omega) hc hs (fun b9 q1 q2 => H b9 q1 ?_)))))))) (hx := hr)
    · rw [E, if_pos z] at hj
      exact absurd hj (Nat.not_lt_zero j)
    · intro j hj
      rw [q1 j (by omega), pk_un (by omega)]
    · rw [E, if_neg (by omega), if_neg hb]
      intro j hj
      cases j with
      | zero =>
        rw [Nat.add_zero, q1 c (by omega), pk_us]
        rfl
      | succ j =>
        have t := q2 j (by rw [List.length_cons] at hj; omega)
        rw [show c + (j + 1) = c + 1 + j by omega, t]
        rfl
    · rw [E, if_neg (by omega), if_pos (Decidable.of_not_not hb)]
      exact q2
theorem rr_fk16 {post : St1 → Prop} {u : St1} {R : List (Nat × Nat)} {p : Nat} (hp : p < 4096) (hn2 : R.length ≤ 24) (hH : rr_Hold R u.2.2.2.2.2.2.2.2.2.1 u.2.2.2.2.2.2.2.2.2.2.1) : ∀ f lo hi, f ≤ 6 → lo ≤ R.length → hi ≤ R.length → (∃ n, wX_findKeepers_75 post (nI (rr_bs R p f lo hi)) u.1 u.2.1 u.2.2.1 u.2.2.2.1 u.2.2.2.2.1 u.2.2.2.2.2.1 u.2.2.2.2.2.2.1 u.2.2.2.2.2.2.2.1 u.2.2.2.2.2.2.2.2.1 n 0 0 0 u.2.2.2.2.2.2.2.2.2.1 u.2.2.2.2.2.2.2.2.2.2.1 u.2.2.2.2.2.2.2.2.2.2.2.1 u.2.2.2.2.2.2.2.2.2.2.2.2.1 u.2.2.2.2.2.2.2.2.2.2.2.2.2.1 u.2.2.2.2.2.2.2.2.2.2.2.2.2.2.1 u.2.2.2.2.2.2.2.2.2.2.2.2.2.2.2.1 u.2.2.2.2.2.2.2.2.2.2.2.2.2.2.2.2.1 u.2.2.2.2.2.2.2.2.2.2.2.2.2.2.2.2.2.1 u.2.2.2.2.2.2.2.2.2.2.2.2.2.2.2.2.2.2.1 u.2.2.2.2.2.2.2.2.2.2.2.2.2.2.2.2.2.2.2.1 u.2.2.2.2.2.2.2.2.2.2.2.2.2.2.2.2.2.2.2.2) → wX_findKeepers_16 post (nI p) u.1 u.2.1 u.2.2.1 u.2.2.2.1 u.2.2.2.2.1 u.2.2.2.2.2.1 u.2.2.2.2.2.2.1 u.2.2.2.2.2.2.2.1 u.2.2.2.2.2.2.2.2.1 u.2.2.2.2.2.2.2.2.2.1 u.2.2.2.2.2.2.2.2.2.2.1 u.2.2.2.2.2.2.2.2.2.2.2.1 u.2.2.2.2.2.2.2.2.2.2.2.2.1 u.2.2.2.2.2.2.2.2.2.2.2.2.2.1 u.2.2.2.2.2.2.2.2.2.2.2.2.2.2.1 u.2.2.2.2.2.2.2.2.2.2.2.2.2.2.2.1 u.2.2.2.2.2.2.2.2.2.2.2.2.2.2.2.2.1 u.2.2.2.2.2.2.2.2.2.2.2.2.2.2.2.2.2.1 u.2.2.2.2.2.2.2.2.2.2.2.2.2.2.2.2.2.2.1 u.2.2.2.2.2.2.2.2.2.2.2.2.2.2.2.2.2.2.2.1 u.2.2.2.2.2.2.2.2.2.2.2.2.2.2.2.2.2.2.2.2 (f + 1) (nI lo) (nI hi) (nI (6 - f)) := by
  intro f
  induction f with
  | zero =>
    intro lo hi hf hlo hhi H
    exact pk_le 6 6 (fun _ => H) (fun z => absurd z (by omega))
  | succ f ih =>
    intro lo hi hf hlo hhi H
    have E : rr_bs R p (f + 1) lo hi = if hi ≤ lo then lo else if p ≤ (rr_pa R ((lo + hi) / 2)).1 then rr_bs R p f lo ((lo + hi) / 2) else rr_bs R p f ((lo + hi) / 2 + 1) hi := rfl
    rw [E] at H
    refine pk_le 6 (6 - (f + 1)) (fun z => absurd z (by omega)) (fun _ => pk_le hi lo (fun z => ?_) (fun z => And.intro (by decide) (nm_r (e' := nI ((lo + hi) / 2)) ?_ (And.intro (pk_in ((lo + hi) / 2) 24 (by omega)) (pk_le p (rr_pa R ((lo + hi) / 2)).1 (fun y => nm_r (nI_1 _) ?_) (fun y => nm_r (nI_1 _) (nm_r (nI_1 _) ?_)) (hy := ?_) (hb := ?_))))))
    · rw [if_pos z] at H
      exact H
    · rw [nI_add]
      exact pk_div (d := 2) (by omega) (by omega) (by omega)
    · rw [if_neg (by omega), if_pos y] at H
      have t := ih lo ((lo + hi) / 2) (by omega) hlo (by omega) H
      rw [show 6 - (f + 1) + 1 = 6 - f by omega]
      exact t
    · rw [if_neg (by omega), if_neg (by omega)] at H
      have t := ih ((lo + hi) / 2 + 1) hi (by omega) (by omega) hhi H
      rw [show 6 - (f + 1) + 1 = 6 - f by omega]
      exact t
    · rw [nI_clamp (by omega)]
      exact (rr_Hold_at R hH _ (by omega)).1
    · have := (rr_Hold_at R hH ((lo + hi) / 2) (by omega)).2.2.1
      omega
theorem rr_findKeepers {post : St1 → Prop} {u : St1} {M k : Nat} (hM : M < 64) (h3 : 3 ≤ rr_pop M) (hR : rr_Ring M u.2.2.1 u.2.2.2.2.2.2.2.2.2.1 u.2.2.2.2.2.2.2.2.2.2.1) (hk : k < 16) (H : ∀ b9, rr_K M k b9 → post (u.1, u.2.1, u.2.2.1, u.2.2.2.1, u.2.2.2.2.1, u.2.2.2.2.2.1, u.2.2.2.2.2.2.1, u.2.2.2.2.2.2.2.1, u.2.2.2.2.2.2.2.2.1, u.2.2.2.2.2.2.2.2.2.1, u.2.2.2.2.2.2.2.2.2.2.1, u.2.2.2.2.2.2.2.2.2.2.2.1, u.2.2.2.2.2.2.2.2.2.2.2.2.1, u.2.2.2.2.2.2.2.2.2.2.2.2.2.1, u.2.2.2.2.2.2.2.2.2.2.2.2.2.2.1, u.2.2.2.2.2.2.2.2.2.2.2.2.2.2.2.1, u.2.2.2.2.2.2.2.2.2.2.2.2.2.2.2.2.1, (b9), u.2.2.2.2.2.2.2.2.2.2.2.2.2.2.2.2.2.2.1, u.2.2.2.2.2.2.2.2.2.2.2.2.2.2.2.2.2.2.2.1, u.2.2.2.2.2.2.2.2.2.2.2.2.2.2.2.2.2.2.2.2)) : wpX_findKeepers post u (nI k) := by
  obtain ⟨hr, hH⟩ := hR
  have hl := rr_lay_len M 24
  have q := rr_ktE k hk
  have hn := (rr_kpD M hM h3).1
  have t := rr_fk16 (post := post) (u := u) q.2 hl hH 6 0 (rr_lay M 24).length (by omega) (by omega) (by omega) (Exists.intro _ (rr_fk75 hn hl hr hH (rr_bs_le _ _ _ _ _ _ (by omega) (by omega)) (rr_lay M 24).length 0 0 0 u.2.2.2.2.2.2.2.2.2.2.2.2.2.2.2.2.2.1 (by omega) (by omega) (by omega) (fun b9 _ q2 => H b9 (fun i hi => by
    have z := q2 i (by rw [show (rr_sc (rr_lay M 24) (rr_bs (rr_lay M 24) (rr_kt k) 6 0 (rr_lay M 24).length) (rr_lay M 24).length (rr_lay M 24).length 0 0 0).length = 3 from (rr_kpF hM h3 hk).1]; exact hi)
    rw [Nat.zero_add] at z
    exact z))))
  rw [← hr] at t
  unfold wpX_findKeepers
  refine rr_mixed (q := nI (rr_kt k)) q.1 ?_
  exact Exists.intro (6 + 1) t
theorem rr_fk_275 {post : St1 → Prop} {u : St1} {R : List (Nat × Nat)} {lo : Nat} (hn : 0 < R.length) (hn2 : R.length ≤ 24) (hr : u.2.2.1 = nI R.length) (hH : rr_Hold R u.2.2.2.2.2.2.2.2.2.1 u.2.2.2.2.2.2.2.2.2.2.1) (hlo : lo ≤ R.length) : ∀ (f i c s : Nat) (a9 : Nat → Int32), f + i = R.length → c ≤ 3 → s < 64 → (∀ b9, (∀ j, j < c → b9 j = a9 j) → (∀ j, j < (rr_sc R lo R.length f i c s).length → b9 (c + j) = nI ((rr_sc R lo R.length f i c s).getD j 0)) → post (u.1, u.2.1, u.2.2.1, u.2.2.2.1, u.2.2.2.2.1, u.2.2.2.2.2.1, u.2.2.2.2.2.2.1, u.2.2.2.2.2.2.2.1, u.2.2.2.2.2.2.2.2.1, u.2.2.2.2.2.2.2.2.2.1, u.2.2.2.2.2.2.2.2.2.2.1, u.2.2.2.2.2.2.2.2.2.2.2.1, u.2.2.2.2.2.2.2.2.2.2.2.2.1, u.2.2.2.2.2.2.2.2.2.2.2.2.2.1, u.2.2.2.2.2.2.2.2.2.2.2.2.2.2.1, u.2.2.2.2.2.2.2.2.2.2.2.2.2.2.2.1, u.2.2.2.2.2.2.2.2.2.2.2.2.2.2.2.2.1, (b9), u.2.2.2.2.2.2.2.2.2.2.2.2.2.2.2.2.2.2.1, u.2.2.2.2.2.2.2.2.2.2.2.2.2.2.2.2.2.2.2.1, u.2.2.2.2.2.2.2.2.2.2.2.2.2.2.2.2.2.2.2.2)) → wX_findKeepers_2_75 post (nI lo) u.1 u.2.1 u.2.2.1 u.2.2.2.1 u.2.2.2.2.1 u.2.2.2.2.2.1 u.2.2.2.2.2.2.1 u.2.2.2.2.2.2.2.1 u.2.2.2.2.2.2.2.2.1 (f + 1) (nI c) (nI s) (nI i) u.2.2.2.2.2.2.2.2.2.1 u.2.2.2.2.2.2.2.2.2.2.1 u.2.2.2.2.2.2.2.2.2.2.2.1 u.2.2.2.2.2.2.2.2.2.2.2.2.1 u.2.2.2.2.2.2.2.2.2.2.2.2.2.1 u.2.2.2.2.2.2.2.2.2.2.2.2.2.2.1 u.2.2.2.2.2.2.2.2.2.2.2.2.2.2.2.1 u.2.2.2.2.2.2.2.2.2.2.2.2.2.2.2.2.1 (a9) u.2.2.2.2.2.2.2.2.2.2.2.2.2.2.2.2.2.2.1 u.2.2.2.2.2.2.2.2.2.2.2.2.2.2.2.2.2.2.2.1 u.2.2.2.2.2.2.2.2.2.2.2.2.2.2.2.2.2.2.2.2 := by
  intro f
  induction f with
  | zero =>
    intro i c s a9 hf hc hs H
    exact pk_le R.length i (fun _ => H a9 (fun _ _ => rfl) (fun j hj => absurd hj (Nat.not_lt_zero j))) (fun z => absurd z (by omega)) (hx := hr)
  | succ f ih =>
    intro i c s a9 hf hc hs H
    have E : rr_sc R lo R.length (f + 1) i c s = if 3 ≤ c then [] else if s / 2 ^ (rr_pa R ((lo + i) % R.length)).2 % 2 = 1 then rr_sc R lo R.length f (i + 1) c s else (rr_pa R ((lo + i) % R.length)).2 :: rr_sc R lo R.length f (i + 1) (c + 1) (s ||| 2 ^ (rr_pa R ((lo + i) % R.length)).2) := rfl
    have hx : (lo + i) % R.length < R.length := Nat.mod_lt _ hn
    obtain ⟨_, g2, _, g4⟩ := rr_Hold_at R hH _ hx
    have ei : (nI lo + nI i) - (nI lo + nI i) / u.2.2.1 * u.2.2.1 = nI ((lo + i) % R.length) := by
      rw [hr, nI_add, pk_rem (by omega) hn (by omega)]
    generalize hO : (rr_pa R ((lo + i) % R.length)).2 = o at E g2 g4
    refine pk_le R.length i (fun z => absurd z (by omega)) (fun _ => pk_le 3 c (fun z => H a9 (fun _ _ => rfl) (fun j hj => ?_)) (fun z => And.intro (by rw [hr]; exact nI_ne0 hn (by omega)) (And.intro (pk_in _ 24 (by omega) (hx := ei)) (nm_r (e' := nI o) (by rw [ei, nI_clamp (by omega), g2]) (ek_if (rr_bit0 hs g4) (fun hb => nm_r (rr_or s hs o g4) (And.intro (pk_in c 3 (by omega)) (nm_r (e' := upd a9 c (nI o)) (by rw [nI_clamp (by omega), (rr_byte o g4).1]) (nm_r (nI_1 c) (nm_r (nI_1 i) (ih (i + 1) (c + 1) _ _ (by omega) (by omega) (rr_or_b s hs o g4).1 (fun b9 q1 q2 => H b9 ?_ ?_))))))) (fun hb => nm_r (nI_1 i) (ih (i + 1) c s a9 (by omega) hc hs (fun b9 q1 q2 => H b9 q1 ?_)))))))) (hx := hr)
    · rw [E, if_pos z] at hj
      exact absurd hj (Nat.not_lt_zero j)
    · intro j hj
      rw [q1 j (by omega), pk_un (by omega)]
    · rw [E, if_neg (by omega), if_neg hb]
      intro j hj
      cases j with
      | zero =>
        rw [Nat.add_zero, q1 c (by omega), pk_us]
        rfl
      | succ j =>
        have t := q2 j (by rw [List.length_cons] at hj; omega)
        rw [show c + (j + 1) = c + 1 + j by omega, t]
        rfl
    · rw [E, if_neg (by omega), if_pos (Decidable.of_not_not hb)]
      exact q2
theorem rr_fk_216 {post : St1 → Prop} {u : St1} {R : List (Nat × Nat)} {p : Nat} (hp : p < 4096) (hn2 : R.length ≤ 24) (hH : rr_Hold R u.2.2.2.2.2.2.2.2.2.1 u.2.2.2.2.2.2.2.2.2.2.1) : ∀ f lo hi, f ≤ 6 → lo ≤ R.length → hi ≤ R.length → (∃ n, wX_findKeepers_2_75 post (nI (rr_bs R p f lo hi)) u.1 u.2.1 u.2.2.1 u.2.2.2.1 u.2.2.2.2.1 u.2.2.2.2.2.1 u.2.2.2.2.2.2.1 u.2.2.2.2.2.2.2.1 u.2.2.2.2.2.2.2.2.1 n 0 0 0 u.2.2.2.2.2.2.2.2.2.1 u.2.2.2.2.2.2.2.2.2.2.1 u.2.2.2.2.2.2.2.2.2.2.2.1 u.2.2.2.2.2.2.2.2.2.2.2.2.1 u.2.2.2.2.2.2.2.2.2.2.2.2.2.1 u.2.2.2.2.2.2.2.2.2.2.2.2.2.2.1 u.2.2.2.2.2.2.2.2.2.2.2.2.2.2.2.1 u.2.2.2.2.2.2.2.2.2.2.2.2.2.2.2.2.1 u.2.2.2.2.2.2.2.2.2.2.2.2.2.2.2.2.2.1 u.2.2.2.2.2.2.2.2.2.2.2.2.2.2.2.2.2.2.1 u.2.2.2.2.2.2.2.2.2.2.2.2.2.2.2.2.2.2.2.1 u.2.2.2.2.2.2.2.2.2.2.2.2.2.2.2.2.2.2.2.2) → wX_findKeepers_2_16 post (nI p) u.1 u.2.1 u.2.2.1 u.2.2.2.1 u.2.2.2.2.1 u.2.2.2.2.2.1 u.2.2.2.2.2.2.1 u.2.2.2.2.2.2.2.1 u.2.2.2.2.2.2.2.2.1 u.2.2.2.2.2.2.2.2.2.1 u.2.2.2.2.2.2.2.2.2.2.1 u.2.2.2.2.2.2.2.2.2.2.2.1 u.2.2.2.2.2.2.2.2.2.2.2.2.1 u.2.2.2.2.2.2.2.2.2.2.2.2.2.1 u.2.2.2.2.2.2.2.2.2.2.2.2.2.2.1 u.2.2.2.2.2.2.2.2.2.2.2.2.2.2.2.1 u.2.2.2.2.2.2.2.2.2.2.2.2.2.2.2.2.1 u.2.2.2.2.2.2.2.2.2.2.2.2.2.2.2.2.2.1 u.2.2.2.2.2.2.2.2.2.2.2.2.2.2.2.2.2.2.1 u.2.2.2.2.2.2.2.2.2.2.2.2.2.2.2.2.2.2.2.1 u.2.2.2.2.2.2.2.2.2.2.2.2.2.2.2.2.2.2.2.2 (f + 1) (nI lo) (nI hi) (nI (6 - f)) := by
  intro f
  induction f with
  | zero =>
    intro lo hi hf hlo hhi H
    exact pk_le 6 6 (fun _ => H) (fun z => absurd z (by omega))
  | succ f ih =>
    intro lo hi hf hlo hhi H
    have E : rr_bs R p (f + 1) lo hi = if hi ≤ lo then lo else if p ≤ (rr_pa R ((lo + hi) / 2)).1 then rr_bs R p f lo ((lo + hi) / 2) else rr_bs R p f ((lo + hi) / 2 + 1) hi := rfl
    rw [E] at H
    refine pk_le 6 (6 - (f + 1)) (fun z => absurd z (by omega)) (fun _ => pk_le hi lo (fun z => ?_) (fun z => And.intro (by decide) (nm_r (e' := nI ((lo + hi) / 2)) ?_ (And.intro (pk_in ((lo + hi) / 2) 24 (by omega)) (pk_le p (rr_pa R ((lo + hi) / 2)).1 (fun y => nm_r (nI_1 _) ?_) (fun y => nm_r (nI_1 _) (nm_r (nI_1 _) ?_)) (hy := ?_) (hb := ?_))))))
    · rw [if_pos z] at H
      exact H
    · rw [nI_add]
      exact pk_div (d := 2) (by omega) (by omega) (by omega)
    · rw [if_neg (by omega), if_pos y] at H
      have t := ih lo ((lo + hi) / 2) (by omega) hlo (by omega) H
      rw [show 6 - (f + 1) + 1 = 6 - f by omega]
      exact t
    · rw [if_neg (by omega), if_neg (by omega)] at H
      have t := ih ((lo + hi) / 2 + 1) hi (by omega) (by omega) hhi H
      rw [show 6 - (f + 1) + 1 = 6 - f by omega]
      exact t
    · rw [nI_clamp (by omega)]
      exact (rr_Hold_at R hH _ (by omega)).1
    · have := (rr_Hold_at R hH ((lo + hi) / 2) (by omega)).2.2.1
      omega
theorem rr_findKeepers_2 {post : St1 → Prop} {u : St1} {M k : Nat} (hM : M < 64) (h3 : 3 ≤ rr_pop M) (hR : rr_Ring M u.2.2.1 u.2.2.2.2.2.2.2.2.2.1 u.2.2.2.2.2.2.2.2.2.2.1) (hk : k < 16) (H : ∀ b9, rr_K M k b9 → post (u.1, u.2.1, u.2.2.1, u.2.2.2.1, u.2.2.2.2.1, u.2.2.2.2.2.1, u.2.2.2.2.2.2.1, u.2.2.2.2.2.2.2.1, u.2.2.2.2.2.2.2.2.1, u.2.2.2.2.2.2.2.2.2.1, u.2.2.2.2.2.2.2.2.2.2.1, u.2.2.2.2.2.2.2.2.2.2.2.1, u.2.2.2.2.2.2.2.2.2.2.2.2.1, u.2.2.2.2.2.2.2.2.2.2.2.2.2.1, u.2.2.2.2.2.2.2.2.2.2.2.2.2.2.1, u.2.2.2.2.2.2.2.2.2.2.2.2.2.2.2.1, u.2.2.2.2.2.2.2.2.2.2.2.2.2.2.2.2.1, (b9), u.2.2.2.2.2.2.2.2.2.2.2.2.2.2.2.2.2.2.1, u.2.2.2.2.2.2.2.2.2.2.2.2.2.2.2.2.2.2.2.1, u.2.2.2.2.2.2.2.2.2.2.2.2.2.2.2.2.2.2.2.2)) : wpX_findKeepers_2 post u (nI k) := by
  obtain ⟨hr, hH⟩ := hR
  have hl := rr_lay_len M 24
  have q := rr_ktE k hk
  have hn := (rr_kpD M hM h3).1
  have t := rr_fk_216 (post := post) (u := u) q.2 hl hH 6 0 (rr_lay M 24).length (by omega) (by omega) (by omega) (Exists.intro _ (rr_fk_275 hn hl hr hH (rr_bs_le _ _ _ _ _ _ (by omega) (by omega)) (rr_lay M 24).length 0 0 0 u.2.2.2.2.2.2.2.2.2.2.2.2.2.2.2.2.2.1 (by omega) (by omega) (by omega) (fun b9 _ q2 => H b9 (fun i hi => by
    have z := q2 i (by rw [show (rr_sc (rr_lay M 24) (rr_bs (rr_lay M 24) (rr_kt k) 6 0 (rr_lay M 24).length) (rr_lay M 24).length (rr_lay M 24).length 0 0 0).length = 3 from (rr_kpF hM h3 hk).1]; exact hi)
    rw [Nat.zero_add] at z
    exact z))))
  rw [← hr] at t
  unfold wpX_findKeepers_2
  refine rr_mixed (q := nI (rr_kt k)) q.1 ?_
  exact Exists.intro (6 + 1) t
theorem rr_fk_375 {post : St1 → Prop} {u : St1} {R : List (Nat × Nat)} {lo : Nat} (hn : 0 < R.length) (hn2 : R.length ≤ 24) (hr : u.2.2.1 = nI R.length) (hH : rr_Hold R u.2.2.2.2.2.2.2.2.2.1 u.2.2.2.2.2.2.2.2.2.2.1) (hlo : lo ≤ R.length) : ∀ (f i c s : Nat) (a9 : Nat → Int32), f + i = R.length → c ≤ 3 → s < 64 → (∀ b9, (∀ j, j < c → b9 j = a9 j) → (∀ j, j < (rr_sc R lo R.length f i c s).length → b9 (c + j) = nI ((rr_sc R lo R.length f i c s).getD j 0)) → post (u.1, u.2.1, u.2.2.1, u.2.2.2.1, u.2.2.2.2.1, u.2.2.2.2.2.1, u.2.2.2.2.2.2.1, u.2.2.2.2.2.2.2.1, u.2.2.2.2.2.2.2.2.1, u.2.2.2.2.2.2.2.2.2.1, u.2.2.2.2.2.2.2.2.2.2.1, u.2.2.2.2.2.2.2.2.2.2.2.1, u.2.2.2.2.2.2.2.2.2.2.2.2.1, u.2.2.2.2.2.2.2.2.2.2.2.2.2.1, u.2.2.2.2.2.2.2.2.2.2.2.2.2.2.1, u.2.2.2.2.2.2.2.2.2.2.2.2.2.2.2.1, u.2.2.2.2.2.2.2.2.2.2.2.2.2.2.2.2.1, (b9), u.2.2.2.2.2.2.2.2.2.2.2.2.2.2.2.2.2.2.1, u.2.2.2.2.2.2.2.2.2.2.2.2.2.2.2.2.2.2.2.1, u.2.2.2.2.2.2.2.2.2.2.2.2.2.2.2.2.2.2.2.2)) → wX_findKeepers_3_75 post (nI lo) u.1 u.2.1 u.2.2.1 u.2.2.2.1 u.2.2.2.2.1 u.2.2.2.2.2.1 u.2.2.2.2.2.2.1 u.2.2.2.2.2.2.2.1 u.2.2.2.2.2.2.2.2.1 (f + 1) (nI c) (nI s) (nI i) u.2.2.2.2.2.2.2.2.2.1 u.2.2.2.2.2.2.2.2.2.2.1 u.2.2.2.2.2.2.2.2.2.2.2.1 u.2.2.2.2.2.2.2.2.2.2.2.2.1 u.2.2.2.2.2.2.2.2.2.2.2.2.2.1 u.2.2.2.2.2.2.2.2.2.2.2.2.2.2.1 u.2.2.2.2.2.2.2.2.2.2.2.2.2.2.2.1 u.2.2.2.2.2.2.2.2.2.2.2.2.2.2.2.2.1 (a9) u.2.2.2.2.2.2.2.2.2.2.2.2.2.2.2.2.2.2.1 u.2.2.2.2.2.2.2.2.2.2.2.2.2.2.2.2.2.2.2.1 u.2.2.2.2.2.2.2.2.2.2.2.2.2.2.2.2.2.2.2.2 := by
  intro f
  induction f with
  | zero =>
    intro i c s a9 hf hc hs H
    exact pk_le R.length i (fun _ => H a9 (fun _ _ => rfl) (fun j hj => absurd hj (Nat.not_lt_zero j))) (fun z => absurd z (by omega)) (hx := hr)
  | succ f ih =>
    intro i c s a9 hf hc hs H
    have E : rr_sc R lo R.length (f + 1) i c s = if 3 ≤ c then [] else if s / 2 ^ (rr_pa R ((lo + i) % R.length)).2 % 2 = 1 then rr_sc R lo R.length f (i + 1) c s else (rr_pa R ((lo + i) % R.length)).2 :: rr_sc R lo R.length f (i + 1) (c + 1) (s ||| 2 ^ (rr_pa R ((lo + i) % R.length)).2) := rfl
    have hx : (lo + i) % R.length < R.length := Nat.mod_lt _ hn
    obtain ⟨_, g2, _, g4⟩ := rr_Hold_at R hH _ hx
    have ei : (nI lo + nI i) - (nI lo + nI i) / u.2.2.1 * u.2.2.1 = nI ((lo + i) % R.length) := by
      rw [hr, nI_add, pk_rem (by omega) hn (by omega)]
    generalize hO : (rr_pa R ((lo + i) % R.length)).2 = o at E g2 g4
    refine pk_le R.length i (fun z => absurd z (by omega)) (fun _ => pk_le 3 c (fun z => H a9 (fun _ _ => rfl) (fun j hj => ?_)) (fun z => And.intro (by rw [hr]; exact nI_ne0 hn (by omega)) (And.intro (pk_in _ 24 (by omega) (hx := ei)) (nm_r (e' := nI o) (by rw [ei, nI_clamp (by omega), g2]) (ek_if (rr_bit0 hs g4) (fun hb => nm_r (rr_or s hs o g4) (And.intro (pk_in c 3 (by omega)) (nm_r (e' := upd a9 c (nI o)) (by rw [nI_clamp (by omega), (rr_byte o g4).1]) (nm_r (nI_1 c) (nm_r (nI_1 i) (ih (i + 1) (c + 1) _ _ (by omega) (by omega) (rr_or_b s hs o g4).1 (fun b9 q1 q2 => H b9 ?_ ?_))))))) (fun hb => nm_r (nI_1 i) (ih (i + 1) c s a9 (by omega) hc hs (fun b9 q1 q2 => H b9 q1 ?_)))))))) (hx := hr)
    · rw [E, if_pos z] at hj
      exact absurd hj (Nat.not_lt_zero j)
    · intro j hj
      rw [q1 j (by omega), pk_un (by omega)]
    · rw [E, if_neg (by omega), if_neg hb]
      intro j hj
      cases j with
      | zero =>
        rw [Nat.add_zero, q1 c (by omega), pk_us]
        rfl
      | succ j =>
        have t := q2 j (by rw [List.length_cons] at hj; omega)
        rw [show c + (j + 1) = c + 1 + j by omega, t]
        rfl
    · rw [E, if_neg (by omega), if_pos (Decidable.of_not_not hb)]
      exact q2
theorem rr_fk_316 {post : St1 → Prop} {u : St1} {R : List (Nat × Nat)} {p : Nat} (hp : p < 4096) (hn2 : R.length ≤ 24) (hH : rr_Hold R u.2.2.2.2.2.2.2.2.2.1 u.2.2.2.2.2.2.2.2.2.2.1) : ∀ f lo hi, f ≤ 6 → lo ≤ R.length → hi ≤ R.length → (∃ n, wX_findKeepers_3_75 post (nI (rr_bs R p f lo hi)) u.1 u.2.1 u.2.2.1 u.2.2.2.1 u.2.2.2.2.1 u.2.2.2.2.2.1 u.2.2.2.2.2.2.1 u.2.2.2.2.2.2.2.1 u.2.2.2.2.2.2.2.2.1 n 0 0 0 u.2.2.2.2.2.2.2.2.2.1 u.2.2.2.2.2.2.2.2.2.2.1 u.2.2.2.2.2.2.2.2.2.2.2.1 u.2.2.2.2.2.2.2.2.2.2.2.2.1 u.2.2.2.2.2.2.2.2.2.2.2.2.2.1 u.2.2.2.2.2.2.2.2.2.2.2.2.2.2.1 u.2.2.2.2.2.2.2.2.2.2.2.2.2.2.2.1 u.2.2.2.2.2.2.2.2.2.2.2.2.2.2.2.2.1 u.2.2.2.2.2.2.2.2.2.2.2.2.2.2.2.2.2.1 u.2.2.2.2.2.2.2.2.2.2.2.2.2.2.2.2.2.2.1 u.2.2.2.2.2.2.2.2.2.2.2.2.2.2.2.2.2.2.2.1 u.2.2.2.2.2.2.2.2.2.2.2.2.2.2.2.2.2.2.2.2) → wX_findKeepers_3_16 post (nI p) u.1 u.2.1 u.2.2.1 u.2.2.2.1 u.2.2.2.2.1 u.2.2.2.2.2.1 u.2.2.2.2.2.2.1 u.2.2.2.2.2.2.2.1 u.2.2.2.2.2.2.2.2.1 u.2.2.2.2.2.2.2.2.2.1 u.2.2.2.2.2.2.2.2.2.2.1 u.2.2.2.2.2.2.2.2.2.2.2.1 u.2.2.2.2.2.2.2.2.2.2.2.2.1 u.2.2.2.2.2.2.2.2.2.2.2.2.2.1 u.2.2.2.2.2.2.2.2.2.2.2.2.2.2.1 u.2.2.2.2.2.2.2.2.2.2.2.2.2.2.2.1 u.2.2.2.2.2.2.2.2.2.2.2.2.2.2.2.2.1 u.2.2.2.2.2.2.2.2.2.2.2.2.2.2.2.2.2.1 u.2.2.2.2.2.2.2.2.2.2.2.2.2.2.2.2.2.2.1 u.2.2.2.2.2.2.2.2.2.2.2.2.2.2.2.2.2.2.2.1 u.2.2.2.2.2.2.2.2.2.2.2.2.2.2.2.2.2.2.2.2 (f + 1) (nI lo) (nI hi) (nI (6 - f)) := by
  intro f
  induction f with
  | zero =>
    intro lo hi hf hlo hhi H
    exact pk_le 6 6 (fun _ => H) (fun z => absurd z (by omega))
  | succ f ih =>
    intro lo hi hf hlo hhi H
    have E : rr_bs R p (f + 1) lo hi = if hi ≤ lo then lo else if p ≤ (rr_pa R ((lo + hi) / 2)).1 then rr_bs R p f lo ((lo + hi) / 2) else rr_bs R p f ((lo + hi) / 2 + 1) hi := rfl
    rw [E] at H
    refine pk_le 6 (6 - (f + 1)) (fun z => absurd z (by omega)) (fun _ => pk_le hi lo (fun z => ?_) (fun z => And.intro (by decide) (nm_r (e' := nI ((lo + hi) / 2)) ?_ (And.intro (pk_in ((lo + hi) / 2) 24 (by omega)) (pk_le p (rr_pa R ((lo + hi) / 2)).1 (fun y => nm_r (nI_1 _) ?_) (fun y => nm_r (nI_1 _) (nm_r (nI_1 _) ?_)) (hy := ?_) (hb := ?_))))))
    · rw [if_pos z] at H
      exact H
    · rw [nI_add]
      exact pk_div (d := 2) (by omega) (by omega) (by omega)
    · rw [if_neg (by omega), if_pos y] at H
      have t := ih lo ((lo + hi) / 2) (by omega) hlo (by omega) H
      rw [show 6 - (f + 1) + 1 = 6 - f by omega]
      exact t
    · rw [if_neg (by omega), if_neg (by omega)] at H
      have t := ih ((lo + hi) / 2 + 1) hi (by omega) (by omega) hhi H
      rw [show 6 - (f + 1) + 1 = 6 - f by omega]
      exact t
    · rw [nI_clamp (by omega)]
      exact (rr_Hold_at R hH _ (by omega)).1
    · have := (rr_Hold_at R hH ((lo + hi) / 2) (by omega)).2.2.1
      omega
theorem rr_findKeepers_3 {post : St1 → Prop} {u : St1} {M k : Nat} (hM : M < 64) (h3 : 3 ≤ rr_pop M) (hR : rr_Ring M u.2.2.1 u.2.2.2.2.2.2.2.2.2.1 u.2.2.2.2.2.2.2.2.2.2.1) (hk : k < 16) (H : ∀ b9, rr_K M k b9 → post (u.1, u.2.1, u.2.2.1, u.2.2.2.1, u.2.2.2.2.1, u.2.2.2.2.2.1, u.2.2.2.2.2.2.1, u.2.2.2.2.2.2.2.1, u.2.2.2.2.2.2.2.2.1, u.2.2.2.2.2.2.2.2.2.1, u.2.2.2.2.2.2.2.2.2.2.1, u.2.2.2.2.2.2.2.2.2.2.2.1, u.2.2.2.2.2.2.2.2.2.2.2.2.1, u.2.2.2.2.2.2.2.2.2.2.2.2.2.1, u.2.2.2.2.2.2.2.2.2.2.2.2.2.2.1, u.2.2.2.2.2.2.2.2.2.2.2.2.2.2.2.1, u.2.2.2.2.2.2.2.2.2.2.2.2.2.2.2.2.1, (b9), u.2.2.2.2.2.2.2.2.2.2.2.2.2.2.2.2.2.2.1, u.2.2.2.2.2.2.2.2.2.2.2.2.2.2.2.2.2.2.2.1, u.2.2.2.2.2.2.2.2.2.2.2.2.2.2.2.2.2.2.2.2)) : wpX_findKeepers_3 post u (nI k) := by
  obtain ⟨hr, hH⟩ := hR
  have hl := rr_lay_len M 24
  have q := rr_ktE k hk
  have hn := (rr_kpD M hM h3).1
  have t := rr_fk_316 (post := post) (u := u) q.2 hl hH 6 0 (rr_lay M 24).length (by omega) (by omega) (by omega) (Exists.intro _ (rr_fk_375 hn hl hr hH (rr_bs_le _ _ _ _ _ _ (by omega) (by omega)) (rr_lay M 24).length 0 0 0 u.2.2.2.2.2.2.2.2.2.2.2.2.2.2.2.2.2.1 (by omega) (by omega) (by omega) (fun b9 _ q2 => H b9 (fun i hi => by
    have z := q2 i (by rw [show (rr_sc (rr_lay M 24) (rr_bs (rr_lay M 24) (rr_kt k) 6 0 (rr_lay M 24).length) (rr_lay M 24).length (rr_lay M 24).length 0 0 0).length = 3 from (rr_kpF hM h3 hk).1]; exact hi)
    rw [Nat.zero_add] at z
    exact z))))
  rw [← hr] at t
  unfold wpX_findKeepers_3
  refine rr_mixed (q := nI (rr_kt k)) q.1 ?_
  exact Exists.intro (6 + 1) t
theorem rr_keeps {post : Int32 → St1 → Prop} {u : St1} {M m k : Nat} (hM : M < 64) (h3 : 3 ≤ rr_pop M) (hR : rr_Ring M u.2.2.1 u.2.2.2.2.2.2.2.2.2.1 u.2.2.2.2.2.2.2.2.2.2.1) (hm : m < 6) (hk : k < 16) (H : ∀ (r : Int32) b9, rr_K M k b9 → (r = 0 ↔ ∀ i, i < 3 → rr_kp M k i ≠ m) → post r (u.1, u.2.1, u.2.2.1, u.2.2.2.1, u.2.2.2.2.1, u.2.2.2.2.2.1, u.2.2.2.2.2.2.1, u.2.2.2.2.2.2.2.1, u.2.2.2.2.2.2.2.2.1, u.2.2.2.2.2.2.2.2.2.1, u.2.2.2.2.2.2.2.2.2.2.1, u.2.2.2.2.2.2.2.2.2.2.2.1, u.2.2.2.2.2.2.2.2.2.2.2.2.1, u.2.2.2.2.2.2.2.2.2.2.2.2.2.1, u.2.2.2.2.2.2.2.2.2.2.2.2.2.2.1, u.2.2.2.2.2.2.2.2.2.2.2.2.2.2.2.1, u.2.2.2.2.2.2.2.2.2.2.2.2.2.2.2.2.1, (b9), u.2.2.2.2.2.2.2.2.2.2.2.2.2.2.2.2.2.2.1, u.2.2.2.2.2.2.2.2.2.2.2.2.2.2.2.2.2.2.2.1, u.2.2.2.2.2.2.2.2.2.2.2.2.2.2.2.2.2.2.2.2)) : wpX_keeps post u (nI m) (nI k) := by
  have q := (rr_kpF hM h3 hk).2.1
  unfold wpX_keeps
  refine rr_findKeepers_2 (u := u) hM h3 hR hk (fun b9 hb => ?_)
  have c : ∀ i, i < 3 → (b9 i = nI m ↔ rr_kp M k i = m) := fun i hi => by
    have := (q i hi).1
    rw [hb i hi, nI_eq (by omega) (by omega)]
  refine ek_if (c 0 (by omega)) (fun z => H 1 b9 hb ⟨fun y => absurd y (by decide), fun y => absurd z (y 0 (by omega))⟩) (fun z0 => ek_if (c 1 (by omega)) (fun z => H 1 b9 hb ⟨fun y => absurd y (by decide), fun y => absurd z (y 1 (by omega))⟩) (fun z1 => ek_if (c 2 (by omega)) (fun z => H 1 b9 hb ⟨fun y => absurd y (by decide), fun y => absurd z (y 2 (by omega))⟩) (fun z2 => H 0 b9 hb ⟨fun _ i hi => ?_, fun _ => rfl⟩)))
  rcases (show i = 0 ∨ i = 1 ∨ i = 2 by omega) with e | e | e <;> rw [e]
  · exact z0
  · exact z1
  · exact z2
theorem rr_keeps_2 {post : Int32 → St1 → Prop} {u : St1} {M m k : Nat} (hM : M < 64) (h3 : 3 ≤ rr_pop M) (hR : rr_Ring M u.2.2.1 u.2.2.2.2.2.2.2.2.2.1 u.2.2.2.2.2.2.2.2.2.2.1) (hm : m < 6) (hk : k < 16) (H : ∀ (r : Int32) b9, rr_K M k b9 → (r = 0 ↔ ∀ i, i < 3 → rr_kp M k i ≠ m) → post r (u.1, u.2.1, u.2.2.1, u.2.2.2.1, u.2.2.2.2.1, u.2.2.2.2.2.1, u.2.2.2.2.2.2.1, u.2.2.2.2.2.2.2.1, u.2.2.2.2.2.2.2.2.1, u.2.2.2.2.2.2.2.2.2.1, u.2.2.2.2.2.2.2.2.2.2.1, u.2.2.2.2.2.2.2.2.2.2.2.1, u.2.2.2.2.2.2.2.2.2.2.2.2.1, u.2.2.2.2.2.2.2.2.2.2.2.2.2.1, u.2.2.2.2.2.2.2.2.2.2.2.2.2.2.1, u.2.2.2.2.2.2.2.2.2.2.2.2.2.2.2.1, u.2.2.2.2.2.2.2.2.2.2.2.2.2.2.2.2.1, (b9), u.2.2.2.2.2.2.2.2.2.2.2.2.2.2.2.2.2.2.1, u.2.2.2.2.2.2.2.2.2.2.2.2.2.2.2.2.2.2.2.1, u.2.2.2.2.2.2.2.2.2.2.2.2.2.2.2.2.2.2.2.2)) : wpX_keeps_2 post u (nI m) (nI k) := by
  have q := (rr_kpF hM h3 hk).2.1
  unfold wpX_keeps_2
  refine rr_findKeepers_3 (u := u) hM h3 hR hk (fun b9 hb => ?_)
  have c : ∀ i, i < 3 → (b9 i = nI m ↔ rr_kp M k i = m) := fun i hi => by
    have := (q i hi).1
    rw [hb i hi, nI_eq (by omega) (by omega)]
  refine ek_if (c 0 (by omega)) (fun z => H 1 b9 hb ⟨fun y => absurd y (by decide), fun y => absurd z (y 0 (by omega))⟩) (fun z0 => ek_if (c 1 (by omega)) (fun z => H 1 b9 hb ⟨fun y => absurd y (by decide), fun y => absurd z (y 1 (by omega))⟩) (fun z1 => ek_if (c 2 (by omega)) (fun z => H 1 b9 hb ⟨fun y => absurd y (by decide), fun y => absurd z (y 2 (by omega))⟩) (fun z2 => H 0 b9 hb ⟨fun _ i hi => ?_, fun _ => rfl⟩)))
  rcases (show i = 0 ∨ i = 1 ∨ i = 2 by omega) with e | e | e <;> rw [e]
  · exact z0
  · exact z1
  · exact z2
theorem rr_keeps_3 {post : Int32 → St1 → Prop} {u : St1} {M m k : Nat} (hM : M < 64) (h3 : 3 ≤ rr_pop M) (hR : rr_Ring M u.2.2.1 u.2.2.2.2.2.2.2.2.2.1 u.2.2.2.2.2.2.2.2.2.2.1) (hm : m < 6) (hk : k < 16) (H : ∀ (r : Int32) b9, rr_K M k b9 → (r = 0 ↔ ∀ i, i < 3 → rr_kp M k i ≠ m) → post r (u.1, u.2.1, u.2.2.1, u.2.2.2.1, u.2.2.2.2.1, u.2.2.2.2.2.1, u.2.2.2.2.2.2.1, u.2.2.2.2.2.2.2.1, u.2.2.2.2.2.2.2.2.1, u.2.2.2.2.2.2.2.2.2.1, u.2.2.2.2.2.2.2.2.2.2.1, u.2.2.2.2.2.2.2.2.2.2.2.1, u.2.2.2.2.2.2.2.2.2.2.2.2.1, u.2.2.2.2.2.2.2.2.2.2.2.2.2.1, u.2.2.2.2.2.2.2.2.2.2.2.2.2.2.1, u.2.2.2.2.2.2.2.2.2.2.2.2.2.2.2.1, u.2.2.2.2.2.2.2.2.2.2.2.2.2.2.2.2.1, (b9), u.2.2.2.2.2.2.2.2.2.2.2.2.2.2.2.2.2.2.1, u.2.2.2.2.2.2.2.2.2.2.2.2.2.2.2.2.2.2.2.1, u.2.2.2.2.2.2.2.2.2.2.2.2.2.2.2.2.2.2.2.2)) : wpX_keeps_3 post u (nI m) (nI k) := by
  have q := (rr_kpF hM h3 hk).2.1
  unfold wpX_keeps_3
  refine rr_findKeepers (u := u) hM h3 hR hk (fun b9 hb => ?_)
  have c : ∀ i, i < 3 → (b9 i = nI m ↔ rr_kp M k i = m) := fun i hi => by
    have := (q i hi).1
    rw [hb i hi, nI_eq (by omega) (by omega)]
  refine ek_if (c 0 (by omega)) (fun z => H 1 b9 hb ⟨fun y => absurd y (by decide), fun y => absurd z (y 0 (by omega))⟩) (fun z0 => ek_if (c 1 (by omega)) (fun z => H 1 b9 hb ⟨fun y => absurd y (by decide), fun y => absurd z (y 1 (by omega))⟩) (fun z1 => ek_if (c 2 (by omega)) (fun z => H 1 b9 hb ⟨fun y => absurd y (by decide), fun y => absurd z (y 2 (by omega))⟩) (fun z2 => H 0 b9 hb ⟨fun _ i hi => ?_, fun _ => rfl⟩)))
  rcases (show i = 0 ∨ i = 1 ∨ i = 2 by omega) with e | e | e <;> rw [e]
  · exact z0
  · exact z1
  · exact z2
end
section
/-! the picture: T k, V k, D k: the newest stamp, value, mark of key k -/
def rr_ok (T : Nat) (V D : Int32) (s v t : Int32) : Prop := T < 2 ^ 30 ∧ (t = 0 ∨ t = 1) ∧ ∃ n, s = nI n ∧ n ≤ T ∧ (n = T → 0 < n → v = V ∧ t = D)
def rr_C (T : Nat → Nat) (V D : Nat → Int32) (a3 a4 a5 : Nat → Int32) : Prop := ∀ m, m < 6 → ∀ k, k < 16 → rr_ok (T k) (V k) (D k) (a3 (m * 16 + k)) (a4 (m * 16 + k)) (a5 (m * 16 + k))
def rr_H (T : Nat → Nat) (V D : Nat → Int32) (a6 a7 a8 : Nat → Int32) : Prop := ∀ h, h < 6 → ∀ m, m < 6 → ∀ k, k < 16 → rr_ok (T k) (V k) (D k) (a6 ((h * 6 + m) * 16 + k)) (a7 ((h * 6 + m) * 16 + k)) (a8 ((h * 6 + m) * 16 + k))
def rr_L (x : Int32) : Prop := ∃ l, l ≤ 30 ∧ x = nI l
def rr_G (T : Nat → Nat) (a3 b3 : Nat → Int32) : Prop := ∀ m, m < 6 → ∀ k, k < 16 → a3 (m * 16 + k) = nI (T k) → b3 (m * 16 + k) = nI (T k)
def rr_Q (M : Nat) (T : Nat → Nat) (k : Nat) (a3 : Nat → Int32) : Prop := rr_two (fun j => a3 (rr_kp M k j * 16 + k) = nI (T k))
abbrev rr_E (M W : Nat) (u : St1) : Prop := u.1 = nI M ∧ u.2.1 = nI W ∧ rr_Ring M u.2.2.1 u.2.2.2.2.2.2.2.2.2.1 u.2.2.2.2.2.2.2.2.2.2.1
abbrev rr_B (T : Nat → Nat) (V D : Nat → Int32) (u : St1) : Prop := rr_C T V D u.2.2.2.2.2.2.2.2.2.2.2.1 u.2.2.2.2.2.2.2.2.2.2.2.2.1 u.2.2.2.2.2.2.2.2.2.2.2.2.2.1 ∧ rr_H T V D u.2.2.2.2.2.2.2.2.2.2.2.2.2.2.1 u.2.2.2.2.2.2.2.2.2.2.2.2.2.2.2.1 u.2.2.2.2.2.2.2.2.2.2.2.2.2.2.2.2.1 ∧ rr_L u.2.2.2.2.2.2.2.2.1
theorem rr_G_refl {T : Nat → Nat} {a : Nat → Int32} : rr_G T a a := fun _ _ _ _ h => h
theorem rr_G_trans {T : Nat → Nat} {a b c : Nat → Int32} (h : rr_G T a b) (g : rr_G T b c) : rr_G T a c := fun m hm k hk z => g m hm k hk (h m hm k hk z)
theorem rr_Q_G {M k : Nat} {T : Nat → Nat} {a b : Nat → Int32} (hM : M < 64) (h3 : 3 ≤ rr_pop M) (hk : k < 16) (h : rr_Q M T k a) (g : rr_G T a b) : rr_Q M T k b :=
  rr_two_mono h (fun j hj z => g _ ((rr_kpF hM h3 hk).2.1 j hj).1 k hk z)
theorem rr_bool {t : Int32} (h : t = 0 ∨ t = 1) : vp_nar .boolean t = t ∧ narrow .boolean (.int t) = .int t ∧ fits .boolean (.int t) = true := by
  rcases h with h | h <;> subst h <;> exact ⟨rfl, rfl, rfl⟩
theorem rr_cellE (m k : Nat) : nI m * 16 + nI k = nI (m * 16 + k) := by
  rw [show nI m * 16 = nI (m * 16) from pk_mul m 16, nI_add]
theorem rr_hintE (h m k : Nat) : ((nI h * 6) + nI m) * 16 + nI k = nI ((h * 6 + m) * 16 + k) := by
  rw [show nI h * 6 = nI (h * 6) from pk_mul h 6, nI_add, rr_cellE]
theorem rr_ok0 {T : Nat} {V D v t : Int32} (hT : T < 2 ^ 30) (ht : t = 0 ∨ t = 1) : rr_ok T V D 0 v t := ⟨hT, ht, 0, rfl, Nat.zero_le _, fun _ z => absurd z (by omega)⟩
theorem rr_ok_T {T : Nat} {V D s v t : Int32} (h : rr_ok T V D s v t) (hs : s = nI T) (h0 : 0 < T) : v = V ∧ t = D := by
  obtain ⟨hT, _, n, e, hn, z⟩ := h
  rw [e, nI_eq (by omega) (by omega)] at hs
  exact z hs (by omega)
theorem rr_ok_top {T : Nat} {V D s v t : Int32} (h : rr_ok T V D s v t) (hs : nI T ≤ s) : s = nI T := by
  obtain ⟨hT, _, n, e, hn, z⟩ := h
  rw [e, nI_leI (by omega) (by omega)] at hs
  rw [e, show n = T by omega]
theorem rr_ok_le {T : Nat} {V D s v t : Int32} (h : rr_ok T V D s v t) : s ≤ nI T := by
  obtain ⟨hT, _, n, e, hn, z⟩ := h
  rw [e]
  exact nI_le hn (by omega)
theorem rr_C_upd {T : Nat → Nat} {V D a3 a4 a5 : Nat → Int32} {m k : Nat} {s v t : Int32} (h : rr_C T V D a3 a4 a5) (hk : k < 16) (g : rr_ok (T k) (V k) (D k) s v t) : rr_C T V D (upd a3 (m * 16 + k) s) (upd a4 (m * 16 + k) v) (upd a5 (m * 16 + k) t) := by
  intro m' hm' k' hk'
  by_cases e : m' * 16 + k' = m * 16 + k
  · have e2 : k' = k := by omega
    subst e2
    rw [e, pk_us, pk_us, pk_us]
    exact g
  · rw [pk_un e, pk_un e, pk_un e]
    exact h m' hm' k' hk'
theorem rr_H_upd {T : Nat → Nat} {V D a6 a7 a8 : Nat → Int32} {q k : Nat} {s v t : Int32} (h : rr_H T V D a6 a7 a8) (hk : k < 16) (g : rr_ok (T k) (V k) (D k) s v t) : rr_H T V D (upd a6 (q * 16 + k) s) (upd a7 (q * 16 + k) v) (upd a8 (q * 16 + k) t) := by
  intro h' hh' m' hm' k' hk'
  by_cases e : (h' * 6 + m') * 16 + k' = q * 16 + k
  · have e2 : k' = k := by omega
    subst e2
    rw [e, pk_us, pk_us, pk_us]
    exact g
  · rw [pk_un e, pk_un e, pk_un e]
    exact h h' hh' m' hm' k' hk'
theorem rr_H_zero {T : Nat → Nat} {V D a6 a7 a8 : Nat → Int32} {c : Nat} (h : rr_H T V D a6 a7 a8) : rr_H T V D (upd a6 c 0) a7 a8 := by
  intro h' hh' m' hm' k' hk'
  by_cases e : (h' * 6 + m') * 16 + k' = c
  · obtain ⟨q1, q2, _⟩ := h h' hh' m' hm' k' hk'
    rw [e, pk_us]
    rw [e] at q2
    exact rr_ok0 q1 q2
  · rw [pk_un e]
    exact h h' hh' m' hm' k' hk'
/-! messages -/
theorem rr_ct {post : Int32 → St1 → Prop} {u : St1} {x y : Int32} {l : Nat} (e : u.2.2.2.2.2.2.2.2.1 = nI l) (hl : l ≤ 30) (hp : ∀ (r g : Int32) (l' : Nat), l' ≤ l → (r = 1 ∨ (r = 0 ∧ l' < l)) → post r (u.1, u.2.1, u.2.2.1, u.2.2.2.1, u.2.2.2.2.1, u.2.2.2.2.2.1, u.2.2.2.2.2.2.1, (g), (nI l'), u.2.2.2.2.2.2.2.2.2.1, u.2.2.2.2.2.2.2.2.2.2.1, u.2.2.2.2.2.2.2.2.2.2.2.1, u.2.2.2.2.2.2.2.2.2.2.2.2.1, u.2.2.2.2.2.2.2.2.2.2.2.2.2.1, u.2.2.2.2.2.2.2.2.2.2.2.2.2.2.1, u.2.2.2.2.2.2.2.2.2.2.2.2.2.2.2.1, u.2.2.2.2.2.2.2.2.2.2.2.2.2.2.2.2.1, u.2.2.2.2.2.2.2.2.2.2.2.2.2.2.2.2.2.1, u.2.2.2.2.2.2.2.2.2.2.2.2.2.2.2.2.2.2.1, u.2.2.2.2.2.2.2.2.2.2.2.2.2.2.2.2.2.2.2.1, u.2.2.2.2.2.2.2.2.2.2.2.2.2.2.2.2.2.2.2.2)) : wpX_comesThrough post u x y := by
  unfold wpX_comesThrough
  refine br_c (fun _ => ?_) (fun _ => nm_e (pk_eq l 0 (fun z => ?_) (fun z => nm_r (e' := nI (l - 1)) ?_ (And.intro (by decide) (br_c (fun _ => ?_) (fun _ => ?_)))) (hx := e)))
  · have t := hp 1 u.2.2.2.2.2.2.2.1 l (by omega) (Or.inl rfl)
    rw [← e] at t
    exact t
  · have t := hp 1 (u.2.2.2.2.2.2.2.1 + 1) l (by omega) (Or.inl rfl)
    rw [← e] at t
    exact t
  · rw [e]
    exact pk_sub (b := 1) (by omega)
  · exact hp 1 _ (l - 1) (by omega) (Or.inl rfl)
  · exact hp 0 _ (l - 1) (by omega) (Or.inr ⟨rfl, by omega⟩)
theorem rr_store {post : St1 → Prop} {u : St1} {T : Nat → Nat} {V D : Nat → Int32} {m k : Nat} (hm : m < 6) (hk : k < 16) (hC : rr_C T V D u.2.2.2.2.2.2.2.2.2.2.2.1 u.2.2.2.2.2.2.2.2.2.2.2.2.1 u.2.2.2.2.2.2.2.2.2.2.2.2.2.1) (hn : rr_ok (T k) (V k) (D k) u.2.2.2.2.1 u.2.2.2.2.2.1 u.2.2.2.2.2.2.1) (hp : ∀ b3 b4 b5, rr_C T V D b3 b4 b5 → rr_G T u.2.2.2.2.2.2.2.2.2.2.2.1 b3 → (u.2.2.2.2.1 = nI (T k) → b3 (m * 16 + k) = nI (T k)) → post (u.1, u.2.1, u.2.2.1, u.2.2.2.1, u.2.2.2.2.1, u.2.2.2.2.2.1, u.2.2.2.2.2.2.1, u.2.2.2.2.2.2.2.1, u.2.2.2.2.2.2.2.2.1, u.2.2.2.2.2.2.2.2.2.1, u.2.2.2.2.2.2.2.2.2.2.1, (b3), (b4), (b5), u.2.2.2.2.2.2.2.2.2.2.2.2.2.2.1, u.2.2.2.2.2.2.2.2.2.2.2.2.2.2.2.1, u.2.2.2.2.2.2.2.2.2.2.2.2.2.2.2.2.1, u.2.2.2.2.2.2.2.2.2.2.2.2.2.2.2.2.2.1, u.2.2.2.2.2.2.2.2.2.2.2.2.2.2.2.2.2.2.1, u.2.2.2.2.2.2.2.2.2.2.2.2.2.2.2.2.2.2.2.1, u.2.2.2.2.2.2.2.2.2.2.2.2.2.2.2.2.2.2.2.2)) : wpX_store post u (nI m) (nI k) := by
  unfold wpX_store
  have hc : (nI (m * 16 + k)).toNatClampNeg = m * 16 + k := nI_clamp (by omega)
  refine nm_r (rr_cellE m k) (And.intro (pk_in (m * 16 + k) 96 (by omega)) (br_c (fun z => hp _ _ _ hC rr_G_refl (fun e => ?_)) (fun z => And.intro (pk_in (m * 16 + k) 96 (by omega)) (nm_r (e' := upd u.2.2.2.2.2.2.2.2.2.2.2.1 (m * 16 + k) u.2.2.2.2.1) (by rw [hc]) (And.intro (pk_in (m * 16 + k) 96 (by omega)) (nm_r (e' := upd u.2.2.2.2.2.2.2.2.2.2.2.2.1 (m * 16 + k) u.2.2.2.2.2.1) (by rw [hc]) (And.intro (pk_in (m * 16 + k) 96 (by omega)) (nm_r (e' := upd u.2.2.2.2.2.2.2.2.2.2.2.2.2.1 (m * 16 + k) u.2.2.2.2.2.2.1) (by rw [hc, (rr_bool hn.2.1).1]) (hp _ _ _ (rr_C_upd hC hk hn) ?_ ?_)))))))))
  · rw [hc, e] at z
    exact rr_ok_top (hC m hm k hk) z
  · rw [hc] at z
    intro m' hm' k' hk' e
    by_cases e2 : m' * 16 + k' = m * 16 + k
    · have e3 : k' = k := by omega
      subst e3
      rw [e2] at e
      rw [e] at z
      exact absurd (rr_ok_le hn) z
    · rw [pk_un e2]
      exact e
  · intro e
    rw [pk_us, e]
theorem rr_hear {post : St1 → Prop} {u : St1} {T : Nat → Nat} {V D : Nat → Int32} {m k : Nat} (hm : m < 6) (hk : k < 16) (hC : rr_C T V D u.2.2.2.2.2.2.2.2.2.2.2.1 u.2.2.2.2.2.2.2.2.2.2.2.2.1 u.2.2.2.2.2.2.2.2.2.2.2.2.2.1) (hn : rr_ok (T k) (V k) (D k) u.2.2.2.2.1 u.2.2.2.2.2.1 u.2.2.2.2.2.2.1) (hp : ∀ s v t, rr_ok (T k) (V k) (D k) s v t → (u.2.2.2.2.1 = nI (T k) → s = nI (T k)) → (u.2.2.2.2.2.2.2.2.2.2.2.1 (m * 16 + k) = nI (T k) → s = nI (T k)) → post (u.1, u.2.1, u.2.2.1, u.2.2.2.1, (s), (v), (t), u.2.2.2.2.2.2.2.1, u.2.2.2.2.2.2.2.2.1, u.2.2.2.2.2.2.2.2.2.1, u.2.2.2.2.2.2.2.2.2.2.1, u.2.2.2.2.2.2.2.2.2.2.2.1, u.2.2.2.2.2.2.2.2.2.2.2.2.1, u.2.2.2.2.2.2.2.2.2.2.2.2.2.1, u.2.2.2.2.2.2.2.2.2.2.2.2.2.2.1, u.2.2.2.2.2.2.2.2.2.2.2.2.2.2.2.1, u.2.2.2.2.2.2.2.2.2.2.2.2.2.2.2.2.1, u.2.2.2.2.2.2.2.2.2.2.2.2.2.2.2.2.2.1, u.2.2.2.2.2.2.2.2.2.2.2.2.2.2.2.2.2.2.1, u.2.2.2.2.2.2.2.2.2.2.2.2.2.2.2.2.2.2.2.1, u.2.2.2.2.2.2.2.2.2.2.2.2.2.2.2.2.2.2.2.2)) : wpX_hear post u (nI m) (nI k) := by
  unfold wpX_hear
  have hc : (nI (m * 16 + k)).toNatClampNeg = m * 16 + k := nI_clamp (by omega)
  have q := hC m hm k hk
  refine nm_r (rr_cellE m k) (And.intro (pk_in (m * 16 + k) 96 (by omega)) (br_c (fun z => hp _ _ _ hn (fun e => e) (fun e => ?_)) (fun z => And.intro (pk_in (m * 16 + k) 96 (by omega)) (nm_r (e' := u.2.2.2.2.2.2.2.2.2.2.2.1 (m * 16 + k)) (by rw [hc]) (And.intro (pk_in (m * 16 + k) 96 (by omega)) (nm_r (e' := u.2.2.2.2.2.2.2.2.2.2.2.2.1 (m * 16 + k)) (by rw [hc]) (And.intro (pk_in (m * 16 + k) 96 (by omega)) (nm_r (e' := u.2.2.2.2.2.2.2.2.2.2.2.2.2.1 (m * 16 + k)) (by rw [hc]) (And.intro (rr_bool q.2.1).2.1 (And.intro (rr_bool q.2.1).2.2 (hp _ _ _ q ?_ (fun e => e))))))))))))
  · rw [hc, e] at z
    exact rr_ok_top hn z
  · intro e
    rw [hc, e] at z
    exact absurd (rr_ok_le q) z
theorem rr_hasAnswered {post : Int32 → Prop} {u : St1} {A i : Nat} (e : u.2.2.2.1 = nI A) (hA : A < 8) (hi : i < 3) (h1 : rr_b A i → post 1) (h0 : ¬ rr_b A i → post 0) : wpX_hasAnswered post u (nI i) := by
  have c : ((u.2.2.2.1 >>> (nI i &&& 31)) &&& 1) = 0 ↔ ¬ rr_b A i := by
    rw [e]
    exact rr_bit0 (by omega) (by omega)
  exact ek_if c h0 (fun z => h1 (Decidable.of_not_not z))
def rr_pp (A : Nat) : Nat → Nat
  | 0 => 0
  | i + 1 => rr_pp A i + A / 2 ^ i % 2
theorem rr_pp6 : ∀ A, A < 64 → rr_pp A 6 = rr_pop A := by decide +kernel
theorem rr_ones {post : Int32 → Prop} {A : Nat} (hA : A < 64) (h : post (nI (rr_pop A))) : wpX_ones post () (nI A) := by
  have t := pk_loop (σ := Unit) (fun n i _ => wX_ones_4 post (nI A) n (nI (rr_pp A i)) (nI i)) (fun _ _ => True) 6 0 () (by omega) trivial
    (fun n _ _ => pk_le 6 6 (fun _ => by rw [rr_pp6 A hA]; exact h) (fun z => absurd z (by omega)))
    (fun n i _ hi _ hw => pk_le 6 i (fun z => absurd z (by omega)) (fun _ => nm_r (e' := nI (rr_pp A (i + 1))) (by rw [rr_bit A hA i hi, nI_add]; rfl) (nm_r (nI_1 i) (hw () trivial))))
  exact t
theorem rr_pop_le (A : Nat) : rr_pop A ≤ 6 := by
  unfold rr_pop
  omega
end
section
theorem rr_rn118 {post : St1 → Prop} {u : St1} {T : Nat → Nat} {V D : Nat → Int32} {M k A : Nat} {x1 : Int32} (hM : M < 64) (h3 : 3 ≤ rr_pop M) (hk : k < 16) (hK : rr_K M k u.2.2.2.2.2.2.2.2.2.2.2.2.2.2.2.2.2.1) (hA : A < 8) (eA : u.2.2.2.1 = nI A) (hn : rr_ok (T k) (V k) (D k) u.2.2.2.2.1 u.2.2.2.2.2.1 u.2.2.2.2.2.2.1) (hC : rr_C T V D u.2.2.2.2.2.2.2.2.2.2.2.1 u.2.2.2.2.2.2.2.2.2.2.2.2.1 u.2.2.2.2.2.2.2.2.2.2.2.2.2.1) (hL : rr_L u.2.2.2.2.2.2.2.2.1) (H : ∀ g l b3 b4 b5, l ≤ 30 → rr_C T V D b3 b4 b5 → rr_G T u.2.2.2.2.2.2.2.2.2.2.2.1 b3 → post (u.1, u.2.1, u.2.2.1, u.2.2.2.1, u.2.2.2.2.1, u.2.2.2.2.2.1, u.2.2.2.2.2.2.1, (g), (nI l), u.2.2.2.2.2.2.2.2.2.1, u.2.2.2.2.2.2.2.2.2.2.1, (b3), (b4), (b5), u.2.2.2.2.2.2.2.2.2.2.2.2.2.2.1, u.2.2.2.2.2.2.2.2.2.2.2.2.2.2.2.1, u.2.2.2.2.2.2.2.2.2.2.2.2.2.2.2.2.1, u.2.2.2.2.2.2.2.2.2.2.2.2.2.2.2.2.2.1, u.2.2.2.2.2.2.2.2.2.2.2.2.2.2.2.2.2.2.1, u.2.2.2.2.2.2.2.2.2.2.2.2.2.2.2.2.2.2.2.1, u.2.2.2.2.2.2.2.2.2.2.2.2.2.2.2.2.2.2.2.2)) : ∃ n, wX_readNewest_118 post x1 (nI k) n 0 u.1 u.2.1 u.2.2.1 u.2.2.2.1 u.2.2.2.2.1 u.2.2.2.2.2.1 u.2.2.2.2.2.2.1 u.2.2.2.2.2.2.2.1 u.2.2.2.2.2.2.2.2.1 u.2.2.2.2.2.2.2.2.2.1 u.2.2.2.2.2.2.2.2.2.2.1 u.2.2.2.2.2.2.2.2.2.2.2.1 u.2.2.2.2.2.2.2.2.2.2.2.2.1 u.2.2.2.2.2.2.2.2.2.2.2.2.2.1 u.2.2.2.2.2.2.2.2.2.2.2.2.2.2.1 u.2.2.2.2.2.2.2.2.2.2.2.2.2.2.2.1 u.2.2.2.2.2.2.2.2.2.2.2.2.2.2.2.2.1 u.2.2.2.2.2.2.2.2.2.2.2.2.2.2.2.2.2.1 u.2.2.2.2.2.2.2.2.2.2.2.2.2.2.2.2.2.2.1 u.2.2.2.2.2.2.2.2.2.2.2.2.2.2.2.2.2.2.2.1 u.2.2.2.2.2.2.2.2.2.2.2.2.2.2.2.2.2.2.2.2 := by
  obtain ⟨l0, hl0, el⟩ := hL
  have q := (rr_kpF hM h3 hk).2.1
  have t : ∃ n, wX_readNewest_118 post x1 (nI k) n 0 u.1 u.2.1 u.2.2.1 u.2.2.2.1 u.2.2.2.2.1 u.2.2.2.2.2.1 u.2.2.2.2.2.2.1 u.2.2.2.2.2.2.2.1 (nI l0) u.2.2.2.2.2.2.2.2.2.1 u.2.2.2.2.2.2.2.2.2.2.1 u.2.2.2.2.2.2.2.2.2.2.2.1 u.2.2.2.2.2.2.2.2.2.2.2.2.1 u.2.2.2.2.2.2.2.2.2.2.2.2.2.1 u.2.2.2.2.2.2.2.2.2.2.2.2.2.2.1 u.2.2.2.2.2.2.2.2.2.2.2.2.2.2.2.1 u.2.2.2.2.2.2.2.2.2.2.2.2.2.2.2.2.1 u.2.2.2.2.2.2.2.2.2.2.2.2.2.2.2.2.2.1 u.2.2.2.2.2.2.2.2.2.2.2.2.2.2.2.2.2.2.1 u.2.2.2.2.2.2.2.2.2.2.2.2.2.2.2.2.2.2.2.1 u.2.2.2.2.2.2.2.2.2.2.2.2.2.2.2.2.2.2.2.2 := by
    refine pk_loop (σ := Int32 × Nat × (Nat → Int32) × (Nat → Int32) × (Nat → Int32)) (fun n i s => wX_readNewest_118 post x1 (nI k) n (nI i) u.1 u.2.1 u.2.2.1 u.2.2.2.1 u.2.2.2.2.1 u.2.2.2.2.2.1 u.2.2.2.2.2.2.1 (s.1) (nI s.2.1) u.2.2.2.2.2.2.2.2.2.1 u.2.2.2.2.2.2.2.2.2.2.1 (s.2.2.1) (s.2.2.2.1) (s.2.2.2.2) u.2.2.2.2.2.2.2.2.2.2.2.2.2.2.1 u.2.2.2.2.2.2.2.2.2.2.2.2.2.2.2.1 u.2.2.2.2.2.2.2.2.2.2.2.2.2.2.2.2.1 u.2.2.2.2.2.2.2.2.2.2.2.2.2.2.2.2.2.1 u.2.2.2.2.2.2.2.2.2.2.2.2.2.2.2.2.2.2.1 u.2.2.2.2.2.2.2.2.2.2.2.2.2.2.2.2.2.2.2.1 u.2.2.2.2.2.2.2.2.2.2.2.2.2.2.2.2.2.2.2.2) (fun i s => s.2.1 ≤ 30 ∧ rr_C T V D s.2.2.1 s.2.2.2.1 s.2.2.2.2 ∧ rr_G T u.2.2.2.2.2.2.2.2.2.2.2.1 s.2.2.1) 3 0 (u.2.2.2.2.2.2.2.1, l0, u.2.2.2.2.2.2.2.2.2.2.2.1, u.2.2.2.2.2.2.2.2.2.2.2.2.1, u.2.2.2.2.2.2.2.2.2.2.2.2.2.1) (by omega) ⟨hl0, hC, rr_G_refl⟩ ?_ ?_
    · intro n s h
      exact pk_le 3 3 (fun _ => H _ _ _ _ _ h.1 h.2.1 h.2.2) (fun z => absurd z (by omega))
    · intro n i ⟨g, l, b3, b4, b5⟩ hi h hw
      obtain ⟨h1, h2, h4⟩ := h
      dsimp only at h1 h2 h4
      have qi := (q i hi).1
      refine pk_le 3 i (fun z => absurd z (by omega)) (fun _ => And.intro (pk_in i 3 hi) (nm_r (e' := nI (rr_kp M k i)) (by rw [nI_clamp (by omega)]; exact hK i hi) (rr_hasAnswered (u := (u.1, u.2.1, u.2.2.1, u.2.2.2.1, u.2.2.2.2.1, u.2.2.2.2.2.1, u.2.2.2.2.2.2.1, (g), (nI l), u.2.2.2.2.2.2.2.2.2.1, u.2.2.2.2.2.2.2.2.2.2.1, (b3), (b4), (b5), u.2.2.2.2.2.2.2.2.2.2.2.2.2.2.1, u.2.2.2.2.2.2.2.2.2.2.2.2.2.2.2.1, u.2.2.2.2.2.2.2.2.2.2.2.2.2.2.2.2.1, u.2.2.2.2.2.2.2.2.2.2.2.2.2.2.2.2.2.1, u.2.2.2.2.2.2.2.2.2.2.2.2.2.2.2.2.2.2.1, u.2.2.2.2.2.2.2.2.2.2.2.2.2.2.2.2.2.2.2.1, u.2.2.2.2.2.2.2.2.2.2.2.2.2.2.2.2.2.2.2.2)) eA hA hi (fun hb => br_f (by decide) (And.intro (pk_in (rr_kp M k i * 16 + k) 96 (by omega) (hx := rr_cellE _ k)) (br_c (fun _ => nm_r (nI_1 i) (hw (g, l, b3, b4, b5) ⟨h1, h2, h4⟩)) (fun _ => rr_ct (u := (u.1, u.2.1, u.2.2.1, u.2.2.2.1, u.2.2.2.2.1, u.2.2.2.2.2.1, u.2.2.2.2.2.2.1, (g), (nI l), u.2.2.2.2.2.2.2.2.2.1, u.2.2.2.2.2.2.2.2.2.2.1, (b3), (b4), (b5), u.2.2.2.2.2.2.2.2.2.2.2.2.2.2.1, u.2.2.2.2.2.2.2.2.2.2.2.2.2.2.2.1, u.2.2.2.2.2.2.2.2.2.2.2.2.2.2.2.2.1, u.2.2.2.2.2.2.2.2.2.2.2.2.2.2.2.2.2.1, u.2.2.2.2.2.2.2.2.2.2.2.2.2.2.2.2.2.2.1, u.2.2.2.2.2.2.2.2.2.2.2.2.2.2.2.2.2.2.2.1, u.2.2.2.2.2.2.2.2.2.2.2.2.2.2.2.2.2.2.2.2)) rfl h1 (fun r g' l' y1 y2 => br_c (fun _ => nm_r (nI_1 i) (hw (g', l', b3, b4, b5) ⟨by dsimp only; omega, h2, h4⟩)) (fun _ => rr_store (u := (u.1, u.2.1, u.2.2.1, u.2.2.2.1, u.2.2.2.2.1, u.2.2.2.2.2.1, u.2.2.2.2.2.2.1, (g'), (nI l'), u.2.2.2.2.2.2.2.2.2.1, u.2.2.2.2.2.2.2.2.2.2.1, (b3), (b4), (b5), u.2.2.2.2.2.2.2.2.2.2.2.2.2.2.1, u.2.2.2.2.2.2.2.2.2.2.2.2.2.2.2.1, u.2.2.2.2.2.2.2.2.2.2.2.2.2.2.2.2.1, u.2.2.2.2.2.2.2.2.2.2.2.2.2.2.2.2.2.1, u.2.2.2.2.2.2.2.2.2.2.2.2.2.2.2.2.2.2.1, u.2.2.2.2.2.2.2.2.2.2.2.2.2.2.2.2.2.2.2.1, u.2.2.2.2.2.2.2.2.2.2.2.2.2.2.2.2.2.2.2.2)) qi hk h2 hn (fun c3 c4 c5 z1 z2 _ => nm_r (nI_1 i) (hw (g', l', c3, c4, c5) ⟨by dsimp only; omega, z1, rr_G_trans h4 z2⟩)))))))) (fun hb => br_t rfl (nm_r (nI_1 i) (hw (g, l, b3, b4, b5) ⟨h1, h2, h4⟩))))))
  rw [← el] at t
  exact t
end
section
def rr_hd (M k : Nat) (T : Nat → Nat) (a3 : Nat → Int32) (A : Nat) (s : Int32) : Prop := A < 8 ∧ ∀ j, j < 3 → rr_b A j → a3 (rr_kp M k j * 16 + k) = nI (T k) → s = nI (T k)
theorem rr_rn31 {post : St1 → Prop} {J : Int32 → Int32 → Int32 → Int32 → Int32 → Int32 → Int32 → Int32 → Int32 → Int32 → (Nat → Int32) → (Nat → Int32) → (Nat → Int32) → (Nat → Int32) → (Nat → Int32) → (Nat → Int32) → (Nat → Int32) → (Nat → Int32) → (Nat → Int32) → (Nat → Int32) → (Nat → Int32) → (Nat → Int32) → Prop} {u : St1} {T : Nat → Nat} {V D : Nat → Int32} {M W k r : Nat} {x1 : Int32} (hw : rr_wf M W) (hk : k < 16) (eW : u.2.1 = nI W) (hK : rr_K M k u.2.2.2.2.2.2.2.2.2.2.2.2.2.2.2.2.2.1) (hC : rr_C T V D u.2.2.2.2.2.2.2.2.2.2.2.1 u.2.2.2.2.2.2.2.2.2.2.2.2.1 u.2.2.2.2.2.2.2.2.2.2.2.2.2.1) {A0 l0 : Nat} {s0 v0 t0 g0 : Int32} (hl0 : l0 ≤ 30) (hok : rr_ok (T k) (V k) (D k) s0 v0 t0) (hh : rr_hd M k T u.2.2.2.2.2.2.2.2.2.2.2.1 A0 s0)
    (H : ∀ A s v t g l, l ≤ l0 → rr_ok (T k) (V k) (D k) s v t → rr_hd M k T u.2.2.2.2.2.2.2.2.2.2.2.1 A s → (l < l0 ∨ ∀ j, j < 3 → rr_b W (rr_kp M k j) → rr_b A j) → J (nI (r + 1)) u.1 u.2.1 u.2.2.1 (nI A) (s) (v) (t) (g) (nI l) u.2.2.2.2.2.2.2.2.2.1 u.2.2.2.2.2.2.2.2.2.2.1 u.2.2.2.2.2.2.2.2.2.2.2.1 u.2.2.2.2.2.2.2.2.2.2.2.2.1 u.2.2.2.2.2.2.2.2.2.2.2.2.2.1 u.2.2.2.2.2.2.2.2.2.2.2.2.2.2.1 u.2.2.2.2.2.2.2.2.2.2.2.2.2.2.2.1 u.2.2.2.2.2.2.2.2.2.2.2.2.2.2.2.2.1 u.2.2.2.2.2.2.2.2.2.2.2.2.2.2.2.2.2.1 u.2.2.2.2.2.2.2.2.2.2.2.2.2.2.2.2.2.2.1 u.2.2.2.2.2.2.2.2.2.2.2.2.2.2.2.2.2.2.2.1 u.2.2.2.2.2.2.2.2.2.2.2.2.2.2.2.2.2.2.2.2) : ∃ n, wX_readNewest_31 post J x1 (nI k) (nI r) n 0 u.1 u.2.1 u.2.2.1 (nI A0) (s0) (v0) (t0) (g0) (nI l0) u.2.2.2.2.2.2.2.2.2.1 u.2.2.2.2.2.2.2.2.2.2.1 u.2.2.2.2.2.2.2.2.2.2.2.1 u.2.2.2.2.2.2.2.2.2.2.2.2.1 u.2.2.2.2.2.2.2.2.2.2.2.2.2.1 u.2.2.2.2.2.2.2.2.2.2.2.2.2.2.1 u.2.2.2.2.2.2.2.2.2.2.2.2.2.2.2.1 u.2.2.2.2.2.2.2.2.2.2.2.2.2.2.2.2.1 u.2.2.2.2.2.2.2.2.2.2.2.2.2.2.2.2.2.1 u.2.2.2.2.2.2.2.2.2.2.2.2.2.2.2.2.2.2.1 u.2.2.2.2.2.2.2.2.2.2.2.2.2.2.2.2.2.2.2.1 u.2.2.2.2.2.2.2.2.2.2.2.2.2.2.2.2.2.2.2.2 := by
  have q := (rr_kpF hw.1 hw.2.2.1 hk).2.1
  refine pk_loop (σ := Nat × Int32 × Int32 × Int32 × Int32 × Nat) (fun n i s => wX_readNewest_31 post J x1 (nI k) (nI r) n (nI i) u.1 u.2.1 u.2.2.1 (nI s.1) (s.2.1) (s.2.2.1) (s.2.2.2.1) (s.2.2.2.2.1) (nI s.2.2.2.2.2) u.2.2.2.2.2.2.2.2.2.1 u.2.2.2.2.2.2.2.2.2.2.1 u.2.2.2.2.2.2.2.2.2.2.2.1 u.2.2.2.2.2.2.2.2.2.2.2.2.1 u.2.2.2.2.2.2.2.2.2.2.2.2.2.1 u.2.2.2.2.2.2.2.2.2.2.2.2.2.2.1 u.2.2.2.2.2.2.2.2.2.2.2.2.2.2.2.1 u.2.2.2.2.2.2.2.2.2.2.2.2.2.2.2.2.1 u.2.2.2.2.2.2.2.2.2.2.2.2.2.2.2.2.2.1 u.2.2.2.2.2.2.2.2.2.2.2.2.2.2.2.2.2.2.1 u.2.2.2.2.2.2.2.2.2.2.2.2.2.2.2.2.2.2.2.1 u.2.2.2.2.2.2.2.2.2.2.2.2.2.2.2.2.2.2.2.2) (fun i s => s.2.2.2.2.2 ≤ l0 ∧ rr_ok (T k) (V k) (D k) s.2.1 s.2.2.1 s.2.2.2.1 ∧ rr_hd M k T u.2.2.2.2.2.2.2.2.2.2.2.1 s.1 s.2.1 ∧ (s.2.2.2.2.2 < l0 ∨ ∀ j, j < i → rr_b W (rr_kp M k j) → rr_b s.1 j)) 3 0 (A0, s0, v0, t0, g0, l0) (by omega) ⟨Nat.le_refl _, hok, hh, Or.inr (fun j hj => absurd hj (by omega))⟩ ?_ ?_
  · intro n s h
    exact pk_le 3 3 (fun _ => nm_r (nI_1 r) (H _ _ _ _ _ _ h.1 h.2.1 h.2.2.1 h.2.2.2)) (fun z => absurd z (by omega))
  · intro n i ⟨A, s, v, t, g, l⟩ hi h hn
    obtain ⟨h1, h2, ⟨h4, h5⟩, h6⟩ := h
    dsimp only at h1 h2 h4 h5 h6
    have qi := (q i hi).1
    have skip : ∀ (g' : Int32) (l' : Nat), l' ≤ l → (l' < l ∨ (rr_b W (rr_kp M k i) → rr_b A i)) → wX_readNewest_31 post J x1 (nI k) (nI r) n (nI (i + 1)) u.1 u.2.1 u.2.2.1 (nI A) (s) (v) (t) (g') (nI l') u.2.2.2.2.2.2.2.2.2.1 u.2.2.2.2.2.2.2.2.2.2.1 u.2.2.2.2.2.2.2.2.2.2.2.1 u.2.2.2.2.2.2.2.2.2.2.2.2.1 u.2.2.2.2.2.2.2.2.2.2.2.2.2.1 u.2.2.2.2.2.2.2.2.2.2.2.2.2.2.1 u.2.2.2.2.2.2.2.2.2.2.2.2.2.2.2.1 u.2.2.2.2.2.2.2.2.2.2.2.2.2.2.2.2.1 u.2.2.2.2.2.2.2.2.2.2.2.2.2.2.2.2.2.1 u.2.2.2.2.2.2.2.2.2.2.2.2.2.2.2.2.2.2.1 u.2.2.2.2.2.2.2.2.2.2.2.2.2.2.2.2.2.2.2.1 u.2.2.2.2.2.2.2.2.2.2.2.2.2.2.2.2.2.2.2.2 := by
      intro g' l' y1 y2
      refine hn (A, s, v, t, g', l') ⟨by dsimp only; omega, h2, ⟨h4, h5⟩, ?_⟩
      dsimp only
      rcases h6 with h6 | h6
      · exact Or.inl (by omega)
      · rcases y2 with y2 | y2
        · exact Or.inl (by omega)
        · refine Or.inr (fun j hj => ?_)
          by_cases e : j = i
          · rw [e]; exact y2
          · exact h6 j (by omega)
    refine pk_le 3 i (fun z => absurd z (by omega)) (fun _ => And.intro (pk_in i 3 hi) (nm_r (e' := nI (rr_kp M k i)) (by rw [nI_clamp (by omega)]; exact hK i hi) (rr_isWorking (u := (u.1, u.2.1, u.2.2.1, (nI A), (s), (v), (t), (g), (nI l), u.2.2.2.2.2.2.2.2.2.1, u.2.2.2.2.2.2.2.2.2.2.1, u.2.2.2.2.2.2.2.2.2.2.2.1, u.2.2.2.2.2.2.2.2.2.2.2.2.1, u.2.2.2.2.2.2.2.2.2.2.2.2.2.1, u.2.2.2.2.2.2.2.2.2.2.2.2.2.2.1, u.2.2.2.2.2.2.2.2.2.2.2.2.2.2.2.1, u.2.2.2.2.2.2.2.2.2.2.2.2.2.2.2.2.1, u.2.2.2.2.2.2.2.2.2.2.2.2.2.2.2.2.2.1, u.2.2.2.2.2.2.2.2.2.2.2.2.2.2.2.2.2.2.1, u.2.2.2.2.2.2.2.2.2.2.2.2.2.2.2.2.2.2.2.1, u.2.2.2.2.2.2.2.2.2.2.2.2.2.2.2.2.2.2.2.2)) qi hw.2.1 eW (fun hb => br_f (by decide) (rr_hasAnswered (u := (u.1, u.2.1, u.2.2.1, (nI A), (s), (v), (t), (g), (nI l), u.2.2.2.2.2.2.2.2.2.1, u.2.2.2.2.2.2.2.2.2.2.1, u.2.2.2.2.2.2.2.2.2.2.2.1, u.2.2.2.2.2.2.2.2.2.2.2.2.1, u.2.2.2.2.2.2.2.2.2.2.2.2.2.1, u.2.2.2.2.2.2.2.2.2.2.2.2.2.2.1, u.2.2.2.2.2.2.2.2.2.2.2.2.2.2.2.1, u.2.2.2.2.2.2.2.2.2.2.2.2.2.2.2.2.1, u.2.2.2.2.2.2.2.2.2.2.2.2.2.2.2.2.2.1, u.2.2.2.2.2.2.2.2.2.2.2.2.2.2.2.2.2.2.1, u.2.2.2.2.2.2.2.2.2.2.2.2.2.2.2.2.2.2.2.1, u.2.2.2.2.2.2.2.2.2.2.2.2.2.2.2.2.2.2.2.2)) rfl h4 hi (fun ha => br_f (by decide) (nm_r (nI_1 i) (skip g l (Nat.le_refl _) (Or.inr (fun _ => ha))))) (fun ha => br_t rfl (rr_ct (u := (u.1, u.2.1, u.2.2.1, (nI A), (s), (v), (t), (g), (nI l), u.2.2.2.2.2.2.2.2.2.1, u.2.2.2.2.2.2.2.2.2.2.1, u.2.2.2.2.2.2.2.2.2.2.2.1, u.2.2.2.2.2.2.2.2.2.2.2.2.1, u.2.2.2.2.2.2.2.2.2.2.2.2.2.1, u.2.2.2.2.2.2.2.2.2.2.2.2.2.2.1, u.2.2.2.2.2.2.2.2.2.2.2.2.2.2.2.1, u.2.2.2.2.2.2.2.2.2.2.2.2.2.2.2.2.1, u.2.2.2.2.2.2.2.2.2.2.2.2.2.2.2.2.2.1, u.2.2.2.2.2.2.2.2.2.2.2.2.2.2.2.2.2.2.1, u.2.2.2.2.2.2.2.2.2.2.2.2.2.2.2.2.2.2.2.1, u.2.2.2.2.2.2.2.2.2.2.2.2.2.2.2.2.2.2.2.2)) rfl (by omega) (fun r1 g1 l1 y1 y2 => br_c (fun z => nm_r (nI_1 i) (skip g1 l1 y1 ?_)) (fun _ => rr_ct (u := (u.1, u.2.1, u.2.2.1, (nI A), (s), (v), (t), (g1), (nI l1), u.2.2.2.2.2.2.2.2.2.1, u.2.2.2.2.2.2.2.2.2.2.1, u.2.2.2.2.2.2.2.2.2.2.2.1, u.2.2.2.2.2.2.2.2.2.2.2.2.1, u.2.2.2.2.2.2.2.2.2.2.2.2.2.1, u.2.2.2.2.2.2.2.2.2.2.2.2.2.2.1, u.2.2.2.2.2.2.2.2.2.2.2.2.2.2.2.1, u.2.2.2.2.2.2.2.2.2.2.2.2.2.2.2.2.1, u.2.2.2.2.2.2.2.2.2.2.2.2.2.2.2.2.2.1, u.2.2.2.2.2.2.2.2.2.2.2.2.2.2.2.2.2.2.1, u.2.2.2.2.2.2.2.2.2.2.2.2.2.2.2.2.2.2.2.1, u.2.2.2.2.2.2.2.2.2.2.2.2.2.2.2.2.2.2.2.2)) rfl (by omega) (fun r2 g2 l2 w1 w2 => br_c (fun z => nm_r (nI_1 i) (skip g2 l2 (by omega) ?_)) (fun _ => nm_r (rr_or A (by omega) i (by omega)) (rr_hear (u := (u.1, u.2.1, u.2.2.1, (nI (A ||| 2 ^ i)), (s), (v), (t), (g2), (nI l2), u.2.2.2.2.2.2.2.2.2.1, u.2.2.2.2.2.2.2.2.2.2.1, u.2.2.2.2.2.2.2.2.2.2.2.1, u.2.2.2.2.2.2.2.2.2.2.2.2.1, u.2.2.2.2.2.2.2.2.2.2.2.2.2.1, u.2.2.2.2.2.2.2.2.2.2.2.2.2.2.1, u.2.2.2.2.2.2.2.2.2.2.2.2.2.2.2.1, u.2.2.2.2.2.2.2.2.2.2.2.2.2.2.2.2.1, u.2.2.2.2.2.2.2.2.2.2.2.2.2.2.2.2.2.1, u.2.2.2.2.2.2.2.2.2.2.2.2.2.2.2.2.2.2.1, u.2.2.2.2.2.2.2.2.2.2.2.2.2.2.2.2.2.2.2.1, u.2.2.2.2.2.2.2.2.2.2.2.2.2.2.2.2.2.2.2.2)) qi hk hC h2 (fun s' v' t' p1 p2 p3 => nm_r (nI_1 i) (hn (A ||| 2 ^ i, s', v', t', g2, l2) ⟨?_, p1, ⟨rr_or8 A h4 i hi, fun j hj hbj e => ?_⟩, ?_⟩))))))))))) (fun hb => br_t rfl (nm_r (nI_1 i) (skip g l (Nat.le_refl _) (Or.inr (fun z => absurd z hb))))))))
    · rcases y2 with y2 | y2
      · rw [y2] at z
        exact absurd z (by decide)
      · exact Or.inl y2.2
    · rcases w2 with w2 | w2
      · rw [w2] at z
        exact absurd z (by decide)
      · exact Or.inl (by omega)
    · dsimp only
      omega
    · rcases ((rr_or_b A (by omega) i (by omega)).2 j (by omega)).mp hbj with z | z
      · exact p2 (h5 j hj z e)
      · rw [z] at e
        exact p3 e
    · dsimp only
      rcases h6 with h6 | h6
      · exact Or.inl (by omega)
      · refine Or.inr (fun j hj hbj => ((rr_or_b A (by omega) i (by omega)).2 j (by omega)).mpr ?_)
        by_cases e : j = i
        · exact Or.inr e
        · exact Or.inl (h6 j (by omega) hbj)
end
section
theorem rr_b0 : ∀ j, j < 3 → ¬ rr_b 0 j := by decide +kernel
theorem rr_rn11 {post : St1 → Prop} {u : St1} {T : Nat → Nat} {V D : Nat → Int32} {M W k : Nat} {x1 : Int32} (hw : rr_wf M W) (hk : k < 16) (eW : u.2.1 = nI W) (hK : rr_K M k u.2.2.2.2.2.2.2.2.2.2.2.2.2.2.2.2.2.1) (hC : rr_C T V D u.2.2.2.2.2.2.2.2.2.2.2.1 u.2.2.2.2.2.2.2.2.2.2.2.2.1 u.2.2.2.2.2.2.2.2.2.2.2.2.2.1) (hL : rr_L u.2.2.2.2.2.2.2.2.1) (hQ : rr_Q M T k u.2.2.2.2.2.2.2.2.2.2.2.1)
    (H : ∀ A v t g l b3 b4 b5, rr_ok (T k) (V k) (D k) (nI (T k)) v t → l ≤ 30 → rr_C T V D b3 b4 b5 → rr_G T u.2.2.2.2.2.2.2.2.2.2.2.1 b3 → post (u.1, u.2.1, u.2.2.1, (nI A), (nI (T k)), (v), (t), (g), (nI l), u.2.2.2.2.2.2.2.2.2.1, u.2.2.2.2.2.2.2.2.2.2.1, (b3), (b4), (b5), u.2.2.2.2.2.2.2.2.2.2.2.2.2.2.1, u.2.2.2.2.2.2.2.2.2.2.2.2.2.2.2.1, u.2.2.2.2.2.2.2.2.2.2.2.2.2.2.2.2.1, u.2.2.2.2.2.2.2.2.2.2.2.2.2.2.2.2.2.1, u.2.2.2.2.2.2.2.2.2.2.2.2.2.2.2.2.2.2.1, u.2.2.2.2.2.2.2.2.2.2.2.2.2.2.2.2.2.2.2.1, u.2.2.2.2.2.2.2.2.2.2.2.2.2.2.2.2.2.2.2.2)) : ∃ n, wX_readNewest_11 post x1 (nI k) n 0 u.1 u.2.1 u.2.2.1 (0) (0) (0) (0) u.2.2.2.2.2.2.2.1 u.2.2.2.2.2.2.2.2.1 u.2.2.2.2.2.2.2.2.2.1 u.2.2.2.2.2.2.2.2.2.2.1 u.2.2.2.2.2.2.2.2.2.2.2.1 u.2.2.2.2.2.2.2.2.2.2.2.2.1 u.2.2.2.2.2.2.2.2.2.2.2.2.2.1 u.2.2.2.2.2.2.2.2.2.2.2.2.2.2.1 u.2.2.2.2.2.2.2.2.2.2.2.2.2.2.2.1 u.2.2.2.2.2.2.2.2.2.2.2.2.2.2.2.2.1 u.2.2.2.2.2.2.2.2.2.2.2.2.2.2.2.2.2.1 u.2.2.2.2.2.2.2.2.2.2.2.2.2.2.2.2.2.2.1 u.2.2.2.2.2.2.2.2.2.2.2.2.2.2.2.2.2.2.2.1 u.2.2.2.2.2.2.2.2.2.2.2.2.2.2.2.2.2.2.2.2 := by
  obtain ⟨l0, hl0, el⟩ := hL
  have hT : T k < 2 ^ 30 := (hC 0 (by omega) k hk).1
  have hwk := rr_two_work hw hk
  have full : ∀ A, A < 8 → (∀ j, j < 3 → rr_b W (rr_kp M k j) → rr_b A j) → 2 ≤ rr_pop A := fun A hA h => rr_two_pop hA (rr_two_mono hwk (fun j hj z => h j hj z))
  have fin : ∀ A s v t g l, l ≤ 30 → rr_ok (T k) (V k) (D k) s v t → rr_hd M k T u.2.2.2.2.2.2.2.2.2.2.2.1 A s → 2 ≤ rr_pop A → ∃ n, wX_readNewest_118 post x1 (nI k) n 0 u.1 u.2.1 u.2.2.1 (nI A) (s) (v) (t) (g) (nI l) u.2.2.2.2.2.2.2.2.2.1 u.2.2.2.2.2.2.2.2.2.2.1 u.2.2.2.2.2.2.2.2.2.2.2.1 u.2.2.2.2.2.2.2.2.2.2.2.2.1 u.2.2.2.2.2.2.2.2.2.2.2.2.2.1 u.2.2.2.2.2.2.2.2.2.2.2.2.2.2.1 u.2.2.2.2.2.2.2.2.2.2.2.2.2.2.2.1 u.2.2.2.2.2.2.2.2.2.2.2.2.2.2.2.2.1 u.2.2.2.2.2.2.2.2.2.2.2.2.2.2.2.2.2.1 u.2.2.2.2.2.2.2.2.2.2.2.2.2.2.2.2.2.2.1 u.2.2.2.2.2.2.2.2.2.2.2.2.2.2.2.2.2.2.2.1 u.2.2.2.2.2.2.2.2.2.2.2.2.2.2.2.2.2.2.2.2 := by
    intro A s v t g l y1 y2 y3 y4
    obtain ⟨j, hj, j1, j2⟩ := rr_two_meet (rr_pop_two y3.1 y4) hQ
    have es := y3.2 j hj j1 j2
    subst es
    exact rr_rn118 (u := (u.1, u.2.1, u.2.2.1, (nI A), (nI (T k)), (v), (t), (g), (nI l), u.2.2.2.2.2.2.2.2.2.1, u.2.2.2.2.2.2.2.2.2.2.1, u.2.2.2.2.2.2.2.2.2.2.2.1, u.2.2.2.2.2.2.2.2.2.2.2.2.1, u.2.2.2.2.2.2.2.2.2.2.2.2.2.1, u.2.2.2.2.2.2.2.2.2.2.2.2.2.2.1, u.2.2.2.2.2.2.2.2.2.2.2.2.2.2.2.1, u.2.2.2.2.2.2.2.2.2.2.2.2.2.2.2.2.1, u.2.2.2.2.2.2.2.2.2.2.2.2.2.2.2.2.2.1, u.2.2.2.2.2.2.2.2.2.2.2.2.2.2.2.2.2.2.1, u.2.2.2.2.2.2.2.2.2.2.2.2.2.2.2.2.2.2.2.1, u.2.2.2.2.2.2.2.2.2.2.2.2.2.2.2.2.2.2.2.2)) hw.1 hw.2.2.1 hk hK y3.1 rfl y2 hC ⟨l, y1, rfl⟩ (fun g' l' b3 b4 b5 z1 z2 z3 => H A v t g' l' b3 b4 b5 y2 z1 z2 z3)
  have t : ∃ n, wX_readNewest_11 post x1 (nI k) n 0 u.1 u.2.1 u.2.2.1 (nI 0) (0) (0) (0) u.2.2.2.2.2.2.2.1 (nI l0) u.2.2.2.2.2.2.2.2.2.1 u.2.2.2.2.2.2.2.2.2.2.1 u.2.2.2.2.2.2.2.2.2.2.2.1 u.2.2.2.2.2.2.2.2.2.2.2.2.1 u.2.2.2.2.2.2.2.2.2.2.2.2.2.1 u.2.2.2.2.2.2.2.2.2.2.2.2.2.2.1 u.2.2.2.2.2.2.2.2.2.2.2.2.2.2.2.1 u.2.2.2.2.2.2.2.2.2.2.2.2.2.2.2.2.1 u.2.2.2.2.2.2.2.2.2.2.2.2.2.2.2.2.2.1 u.2.2.2.2.2.2.2.2.2.2.2.2.2.2.2.2.2.2.1 u.2.2.2.2.2.2.2.2.2.2.2.2.2.2.2.2.2.2.2.1 u.2.2.2.2.2.2.2.2.2.2.2.2.2.2.2.2.2.2.2.2 := by
    refine pk_loop (σ := Nat × Int32 × Int32 × Int32 × Int32 × Nat) (fun n i s => wX_readNewest_11 post x1 (nI k) n (nI i) u.1 u.2.1 u.2.2.1 (nI s.1) (s.2.1) (s.2.2.1) (s.2.2.2.1) (s.2.2.2.2.1) (nI s.2.2.2.2.2) u.2.2.2.2.2.2.2.2.2.1 u.2.2.2.2.2.2.2.2.2.2.1 u.2.2.2.2.2.2.2.2.2.2.2.1 u.2.2.2.2.2.2.2.2.2.2.2.2.1 u.2.2.2.2.2.2.2.2.2.2.2.2.2.1 u.2.2.2.2.2.2.2.2.2.2.2.2.2.2.1 u.2.2.2.2.2.2.2.2.2.2.2.2.2.2.2.1 u.2.2.2.2.2.2.2.2.2.2.2.2.2.2.2.2.1 u.2.2.2.2.2.2.2.2.2.2.2.2.2.2.2.2.2.1 u.2.2.2.2.2.2.2.2.2.2.2.2.2.2.2.2.2.2.1 u.2.2.2.2.2.2.2.2.2.2.2.2.2.2.2.2.2.2.2.1 u.2.2.2.2.2.2.2.2.2.2.2.2.2.2.2.2.2.2.2.2) (fun i s => s.2.2.2.2.2 ≤ 30 ∧ rr_ok (T k) (V k) (D k) s.2.1 s.2.2.1 s.2.2.2.1 ∧ rr_hd M k T u.2.2.2.2.2.2.2.2.2.2.2.1 s.1 s.2.1 ∧ (s.2.2.2.2.2 + i ≤ 30 ∨ ∀ j, j < 3 → rr_b W (rr_kp M k j) → rr_b s.1 j)) 80 0 (0, 0, 0, 0, u.2.2.2.2.2.2.2.1, l0) (by omega) ⟨hl0, rr_ok0 hT (Or.inl rfl), ⟨Nat.zero_lt_succ 7, fun j hj hb => ?_⟩, Or.inl hl0⟩ ?_ ?_
    · exact absurd hb (rr_b0 j hj)
    · intro n ⟨A, s, v, t, g, l⟩ h
      obtain ⟨h1, h2, h4, h5⟩ := h
      dsimp only at h1 h2 h4 h5
      refine pk_le 80 80 (fun _ => fin A s v t g l h1 h2 h4 ?_) (fun z => absurd z (by omega))
      rcases h5 with h5 | h5
      · omega
      · exact full A h4.1 h5
    · intro n r ⟨A, s, v, t, g, l⟩ hr h hn
      obtain ⟨h1, h2, h4, h5⟩ := h
      dsimp only at h1 h2 h4 h5
      have hA := h4.1
      have hp6 := rr_pop_le A
      refine pk_le 80 r (fun z => absurd z (by omega)) (fun _ => rr_ones (A := A) (by omega) (pk_le 2 (rr_pop A) (fun z => fin A s v t g l h1 h2 h4 z) (fun z => rr_rn31 (A0 := A) (s0 := s) (v0 := v) (t0 := t) (g0 := g) (l0 := l) hw hk eW hK hC h1 h2 h4 (fun A' s' v' t' g' l' y1 y2 y3 y4 => hn (A', s', v', t', g', l') ⟨?_, y2, y3, ?_⟩))))
      · dsimp only
        omega
      · dsimp only
        rcases h5 with h5 | h5
        · rcases y4 with y4 | y4
          · exact Or.inl (by omega)
          · exact Or.inr y4
        · exact absurd (full A hA h5) (by omega)
  rw [← el] at t
  exact t
end
section
theorem rr_readNewest {post : St1 → Prop} {u : St1} {T : Nat → Nat} {V D : Nat → Int32} {M W k : Nat} {x1 : Int32} (hw : rr_wf M W) (hE : rr_E M W u) (hB : rr_B T V D u) (hk : k < 16) (hQ : rr_Q M T k u.2.2.2.2.2.2.2.2.2.2.2.1) (hp : ∀ u' : St1, rr_E M W u' → rr_B T V D u' → rr_G T u.2.2.2.2.2.2.2.2.2.2.2.1 u'.2.2.2.2.2.2.2.2.2.2.2.1 → rr_K M k u'.2.2.2.2.2.2.2.2.2.2.2.2.2.2.2.2.2.1 → u'.2.2.2.2.1 = nI (T k) → rr_ok (T k) (V k) (D k) u'.2.2.2.2.1 u'.2.2.2.2.2.1 u'.2.2.2.2.2.2.1 → post u') : wpX_readNewest post u x1 (nI k) := by
  unfold wpX_readNewest
  refine rr_findKeepers (u := u) hw.1 hw.2.2.1 hE.2.2 hk (fun b9 hb => ?_)
  exact rr_rn11 (u := (u.1, u.2.1, u.2.2.1, u.2.2.2.1, u.2.2.2.2.1, u.2.2.2.2.2.1, u.2.2.2.2.2.2.1, u.2.2.2.2.2.2.2.1, u.2.2.2.2.2.2.2.2.1, u.2.2.2.2.2.2.2.2.2.1, u.2.2.2.2.2.2.2.2.2.2.1, u.2.2.2.2.2.2.2.2.2.2.2.1, u.2.2.2.2.2.2.2.2.2.2.2.2.1, u.2.2.2.2.2.2.2.2.2.2.2.2.2.1, u.2.2.2.2.2.2.2.2.2.2.2.2.2.2.1, u.2.2.2.2.2.2.2.2.2.2.2.2.2.2.2.1, u.2.2.2.2.2.2.2.2.2.2.2.2.2.2.2.2.1, (b9), u.2.2.2.2.2.2.2.2.2.2.2.2.2.2.2.2.2.2.1, u.2.2.2.2.2.2.2.2.2.2.2.2.2.2.2.2.2.2.2.1, u.2.2.2.2.2.2.2.2.2.2.2.2.2.2.2.2.2.2.2.2)) hw hk hE.2.1 hb hB.1 hB.2.2 hQ (fun A v t g l b3 b4 b5 y1 y2 y3 y4 => hp (u.1, u.2.1, u.2.2.1, (nI A), (nI (T k)), (v), (t), (g), (nI l), u.2.2.2.2.2.2.2.2.2.1, u.2.2.2.2.2.2.2.2.2.2.1, (b3), (b4), (b5), u.2.2.2.2.2.2.2.2.2.2.2.2.2.2.1, u.2.2.2.2.2.2.2.2.2.2.2.2.2.2.2.1, u.2.2.2.2.2.2.2.2.2.2.2.2.2.2.2.2.1, (b9), u.2.2.2.2.2.2.2.2.2.2.2.2.2.2.2.2.2.2.1, u.2.2.2.2.2.2.2.2.2.2.2.2.2.2.2.2.2.2.2.1, u.2.2.2.2.2.2.2.2.2.2.2.2.2.2.2.2.2.2.2.2) hE ⟨y3, hB.2.1, l, y2, rfl⟩ y4 hb rfl y1)
end
section
theorem rr_hint {post : St1 → Prop} {u : St1} {T : Nat → Nat} {V D : Nat → Int32} {c m k : Nat} (hc : c < 6) (hm : m < 6) (hk : k < 16) (hH : rr_H T V D u.2.2.2.2.2.2.2.2.2.2.2.2.2.2.1 u.2.2.2.2.2.2.2.2.2.2.2.2.2.2.2.1 u.2.2.2.2.2.2.2.2.2.2.2.2.2.2.2.2.1) (hn : rr_ok (T k) (V k) (D k) u.2.2.2.2.1 u.2.2.2.2.2.1 u.2.2.2.2.2.2.1) (hp : ∀ b6 b7 b8, rr_H T V D b6 b7 b8 → post (u.1, u.2.1, u.2.2.1, u.2.2.2.1, u.2.2.2.2.1, u.2.2.2.2.2.1, u.2.2.2.2.2.2.1, u.2.2.2.2.2.2.2.1, u.2.2.2.2.2.2.2.2.1, u.2.2.2.2.2.2.2.2.2.1, u.2.2.2.2.2.2.2.2.2.2.1, u.2.2.2.2.2.2.2.2.2.2.2.1, u.2.2.2.2.2.2.2.2.2.2.2.2.1, u.2.2.2.2.2.2.2.2.2.2.2.2.2.1, (b6), (b7), (b8), u.2.2.2.2.2.2.2.2.2.2.2.2.2.2.2.2.2.1, u.2.2.2.2.2.2.2.2.2.2.2.2.2.2.2.2.2.2.1, u.2.2.2.2.2.2.2.2.2.2.2.2.2.2.2.2.2.2.2.1, u.2.2.2.2.2.2.2.2.2.2.2.2.2.2.2.2.2.2.2.2)) : wpX_hint post u (nI c) (nI m) (nI k) := by
  unfold wpX_hint
  have e : (nI ((c * 6 + m) * 16 + k)).toNatClampNeg = (c * 6 + m) * 16 + k := nI_clamp (by omega)
  exact nm_r (rr_hintE c m k) (And.intro (pk_in ((c * 6 + m) * 16 + k) 576 (by omega)) (br_c (fun z => hp _ _ _ hH) (fun z => And.intro (pk_in ((c * 6 + m) * 16 + k) 576 (by omega)) (nm_r (e' := upd u.2.2.2.2.2.2.2.2.2.2.2.2.2.2.1 ((c * 6 + m) * 16 + k) u.2.2.2.2.1) (by rw [e]) (And.intro (pk_in ((c * 6 + m) * 16 + k) 576 (by omega)) (nm_r (e' := upd u.2.2.2.2.2.2.2.2.2.2.2.2.2.2.2.1 ((c * 6 + m) * 16 + k) u.2.2.2.2.2.1) (by rw [e]) (And.intro (pk_in ((c * 6 + m) * 16 + k) 576 (by omega)) (nm_r (e' := upd u.2.2.2.2.2.2.2.2.2.2.2.2.2.2.2.2.1 ((c * 6 + m) * 16 + k) u.2.2.2.2.2.2.1) (by rw [e, (rr_bool hn.2.1).1]) (hp _ _ _ (rr_H_upd hH hk hn))))))))))
theorem rr_wn121 {post : St1 → Prop} {u : St1} {T : Nat → Nat} {V D : Nat → Int32} {M W k c : Nat} (hM : M < 64) (h3 : 3 ≤ rr_pop M) (hW : W < 64) (hk : k < 16) (hc : c < 6) (eW : u.2.1 = nI W) (hK : rr_K M k u.2.2.2.2.2.2.2.2.2.2.2.2.2.2.2.2.2.1) (hn : rr_ok (T k) (V k) (D k) u.2.2.2.2.1 u.2.2.2.2.2.1 u.2.2.2.2.2.2.1) (hH : rr_H T V D u.2.2.2.2.2.2.2.2.2.2.2.2.2.2.1 u.2.2.2.2.2.2.2.2.2.2.2.2.2.2.2.1 u.2.2.2.2.2.2.2.2.2.2.2.2.2.2.2.2.1) (H : ∀ b6 b7 b8, rr_H T V D b6 b7 b8 → post (u.1, u.2.1, u.2.2.1, u.2.2.2.1, u.2.2.2.2.1, u.2.2.2.2.2.1, u.2.2.2.2.2.2.1, u.2.2.2.2.2.2.2.1, u.2.2.2.2.2.2.2.2.1, u.2.2.2.2.2.2.2.2.2.1, u.2.2.2.2.2.2.2.2.2.2.1, u.2.2.2.2.2.2.2.2.2.2.2.1, u.2.2.2.2.2.2.2.2.2.2.2.2.1, u.2.2.2.2.2.2.2.2.2.2.2.2.2.1, (b6), (b7), (b8), u.2.2.2.2.2.2.2.2.2.2.2.2.2.2.2.2.2.1, u.2.2.2.2.2.2.2.2.2.2.2.2.2.2.2.2.2.2.1, u.2.2.2.2.2.2.2.2.2.2.2.2.2.2.2.2.2.2.2.1, u.2.2.2.2.2.2.2.2.2.2.2.2.2.2.2.2.2.2.2.2)) : ∃ n, wX_writeNewest_121 post (nI c) (nI k) n 0 u.1 u.2.1 u.2.2.1 u.2.2.2.1 u.2.2.2.2.1 u.2.2.2.2.2.1 u.2.2.2.2.2.2.1 u.2.2.2.2.2.2.2.1 u.2.2.2.2.2.2.2.2.1 u.2.2.2.2.2.2.2.2.2.1 u.2.2.2.2.2.2.2.2.2.2.1 u.2.2.2.2.2.2.2.2.2.2.2.1 u.2.2.2.2.2.2.2.2.2.2.2.2.1 u.2.2.2.2.2.2.2.2.2.2.2.2.2.1 u.2.2.2.2.2.2.2.2.2.2.2.2.2.2.1 u.2.2.2.2.2.2.2.2.2.2.2.2.2.2.2.1 u.2.2.2.2.2.2.2.2.2.2.2.2.2.2.2.2.1 u.2.2.2.2.2.2.2.2.2.2.2.2.2.2.2.2.2.1 u.2.2.2.2.2.2.2.2.2.2.2.2.2.2.2.2.2.2.1 u.2.2.2.2.2.2.2.2.2.2.2.2.2.2.2.2.2.2.2.1 u.2.2.2.2.2.2.2.2.2.2.2.2.2.2.2.2.2.2.2.2 := by
  have q := (rr_kpF hM h3 hk).2.1
  refine pk_loop (σ := (Nat → Int32) × (Nat → Int32) × (Nat → Int32)) (fun n i s => wX_writeNewest_121 post (nI c) (nI k) n (nI i) u.1 u.2.1 u.2.2.1 u.2.2.2.1 u.2.2.2.2.1 u.2.2.2.2.2.1 u.2.2.2.2.2.2.1 u.2.2.2.2.2.2.2.1 u.2.2.2.2.2.2.2.2.1 u.2.2.2.2.2.2.2.2.2.1 u.2.2.2.2.2.2.2.2.2.2.1 u.2.2.2.2.2.2.2.2.2.2.2.1 u.2.2.2.2.2.2.2.2.2.2.2.2.1 u.2.2.2.2.2.2.2.2.2.2.2.2.2.1 (s.1) (s.2.1) (s.2.2) u.2.2.2.2.2.2.2.2.2.2.2.2.2.2.2.2.2.1 u.2.2.2.2.2.2.2.2.2.2.2.2.2.2.2.2.2.2.1 u.2.2.2.2.2.2.2.2.2.2.2.2.2.2.2.2.2.2.2.1 u.2.2.2.2.2.2.2.2.2.2.2.2.2.2.2.2.2.2.2.2) (fun i s => rr_H T V D s.1 s.2.1 s.2.2) 3 0 (u.2.2.2.2.2.2.2.2.2.2.2.2.2.2.1, u.2.2.2.2.2.2.2.2.2.2.2.2.2.2.2.1, u.2.2.2.2.2.2.2.2.2.2.2.2.2.2.2.2.1) (by omega) hH ?_ ?_
  · intro n s h
    exact pk_le 3 3 (fun _ => H _ _ _ h) (fun z => absurd z (by omega))
  · intro n i ⟨b6, b7, b8⟩ hi h hw
    have qi := (q i hi).1
    have ek : u.2.2.2.2.2.2.2.2.2.2.2.2.2.2.2.2.2.1 (nI i).toNatClampNeg = nI (rr_kp M k i) := by
      rw [nI_clamp (by omega)]
      exact hK i hi
    refine pk_le 3 i (fun z => absurd z (by omega)) (fun _ => And.intro (pk_in i 3 hi) ?_)
    show wpX_isWorking _ _ (u.2.2.2.2.2.2.2.2.2.2.2.2.2.2.2.2.2.1 (nI i).toNatClampNeg)
    rw [ek]
    exact rr_isWorking (u := (u.1, u.2.1, u.2.2.1, u.2.2.2.1, u.2.2.2.2.1, u.2.2.2.2.2.1, u.2.2.2.2.2.2.1, u.2.2.2.2.2.2.2.1, u.2.2.2.2.2.2.2.2.1, u.2.2.2.2.2.2.2.2.2.1, u.2.2.2.2.2.2.2.2.2.2.1, u.2.2.2.2.2.2.2.2.2.2.2.1, u.2.2.2.2.2.2.2.2.2.2.2.2.1, u.2.2.2.2.2.2.2.2.2.2.2.2.2.1, (b6), (b7), (b8), u.2.2.2.2.2.2.2.2.2.2.2.2.2.2.2.2.2.1, u.2.2.2.2.2.2.2.2.2.2.2.2.2.2.2.2.2.2.1, u.2.2.2.2.2.2.2.2.2.2.2.2.2.2.2.2.2.2.2.1, u.2.2.2.2.2.2.2.2.2.2.2.2.2.2.2.2.2.2.2.2)) qi hW eW (fun _ => br_f (by decide) (nm_r (nI_1 i) (hw (b6, b7, b8) h))) (fun _ => br_t rfl (And.intro (pk_in i 3 hi) (rr_hint (u := (u.1, u.2.1, u.2.2.1, u.2.2.2.1, u.2.2.2.2.1, u.2.2.2.2.2.1, u.2.2.2.2.2.2.1, u.2.2.2.2.2.2.2.1, u.2.2.2.2.2.2.2.2.1, u.2.2.2.2.2.2.2.2.2.1, u.2.2.2.2.2.2.2.2.2.2.1, u.2.2.2.2.2.2.2.2.2.2.2.1, u.2.2.2.2.2.2.2.2.2.2.2.2.1, u.2.2.2.2.2.2.2.2.2.2.2.2.2.1, (b6), (b7), (b8), u.2.2.2.2.2.2.2.2.2.2.2.2.2.2.2.2.2.1, u.2.2.2.2.2.2.2.2.2.2.2.2.2.2.2.2.2.2.1, u.2.2.2.2.2.2.2.2.2.2.2.2.2.2.2.2.2.2.2.1, u.2.2.2.2.2.2.2.2.2.2.2.2.2.2.2.2.2.2.2.2)) hc qi hk h hn (fun c6 c7 c8 z => nm_r (nI_1 i) (hw (c6, c7, c8) z)))))
def rr_wd (M k : Nat) (T : Nat → Nat) (a3 : Nat → Int32) (A : Nat) : Prop := A < 8 ∧ ∀ j, j < 3 → rr_b A j → a3 (rr_kp M k j * 16 + k) = nI (T k)
theorem rr_or0 : ∀ A, A < 8 → nI A ||| 0 = nI A := by decide +kernel
theorem rr_wn29 {post : St1 → Prop} {J : Int32 → Int32 → Int32 → Int32 → Int32 → Int32 → Int32 → Int32 → Int32 → Int32 → (Nat → Int32) → (Nat → Int32) → (Nat → Int32) → (Nat → Int32) → (Nat → Int32) → (Nat → Int32) → (Nat → Int32) → (Nat → Int32) → (Nat → Int32) → (Nat → Int32) → (Nat → Int32) → (Nat → Int32) → Prop} {u : St1} {T : Nat → Nat} {V D : Nat → Int32} {M W k r : Nat} {x1 x3 : Int32} (hM : M < 64) (h3 : 3 ≤ rr_pop M) (hW : W < 64) (hk : k < 16) (eW : u.2.1 = nI W) (hK : rr_K M k u.2.2.2.2.2.2.2.2.2.2.2.2.2.2.2.2.2.1) (eN : u.2.2.2.2.1 = nI (T k)) (hn : rr_ok (T k) (V k) (D k) u.2.2.2.2.1 u.2.2.2.2.2.1 u.2.2.2.2.2.2.1) {A0 l0 : Nat} {g0 : Int32} {c3 c4 c5 : Nat → Int32} (hl0 : l0 ≤ 30) (hC : rr_C T V D c3 c4 c5) (hG : rr_G T u.2.2.2.2.2.2.2.2.2.2.2.1 c3) (hd : rr_wd M k T c3 A0)
    (H : ∀ A g l b3 b4 b5, l ≤ l0 → rr_C T V D b3 b4 b5 → rr_G T u.2.2.2.2.2.2.2.2.2.2.2.1 b3 → rr_wd M k T b3 A → (l < l0 ∨ ∀ j, j < 3 → rr_b W (rr_kp M k j) → rr_b A j) → J (nI (r + 1)) u.1 u.2.1 u.2.2.1 (nI A) u.2.2.2.2.1 u.2.2.2.2.2.1 u.2.2.2.2.2.2.1 (g) (nI l) u.2.2.2.2.2.2.2.2.2.1 u.2.2.2.2.2.2.2.2.2.2.1 (b3) (b4) (b5) u.2.2.2.2.2.2.2.2.2.2.2.2.2.2.1 u.2.2.2.2.2.2.2.2.2.2.2.2.2.2.2.1 u.2.2.2.2.2.2.2.2.2.2.2.2.2.2.2.2.1 u.2.2.2.2.2.2.2.2.2.2.2.2.2.2.2.2.2.1 u.2.2.2.2.2.2.2.2.2.2.2.2.2.2.2.2.2.2.1 u.2.2.2.2.2.2.2.2.2.2.2.2.2.2.2.2.2.2.2.1 u.2.2.2.2.2.2.2.2.2.2.2.2.2.2.2.2.2.2.2.2) : ∃ n, wX_writeNewest_29 post J x1 (nI k) x3 (nI r) n 0 u.1 u.2.1 u.2.2.1 (nI A0) u.2.2.2.2.1 u.2.2.2.2.2.1 u.2.2.2.2.2.2.1 (g0) (nI l0) u.2.2.2.2.2.2.2.2.2.1 u.2.2.2.2.2.2.2.2.2.2.1 (c3) (c4) (c5) u.2.2.2.2.2.2.2.2.2.2.2.2.2.2.1 u.2.2.2.2.2.2.2.2.2.2.2.2.2.2.2.1 u.2.2.2.2.2.2.2.2.2.2.2.2.2.2.2.2.1 u.2.2.2.2.2.2.2.2.2.2.2.2.2.2.2.2.2.1 u.2.2.2.2.2.2.2.2.2.2.2.2.2.2.2.2.2.2.1 u.2.2.2.2.2.2.2.2.2.2.2.2.2.2.2.2.2.2.2.1 u.2.2.2.2.2.2.2.2.2.2.2.2.2.2.2.2.2.2.2.2 := by
  have q := (rr_kpF hM h3 hk).2.1
  refine pk_loop (σ := Nat × Int32 × Nat × (Nat → Int32) × (Nat → Int32) × (Nat → Int32)) (fun n i s => wX_writeNewest_29 post J x1 (nI k) x3 (nI r) n (nI i) u.1 u.2.1 u.2.2.1 (nI s.1) u.2.2.2.2.1 u.2.2.2.2.2.1 u.2.2.2.2.2.2.1 (s.2.1) (nI s.2.2.1) u.2.2.2.2.2.2.2.2.2.1 u.2.2.2.2.2.2.2.2.2.2.1 (s.2.2.2.1) (s.2.2.2.2.1) (s.2.2.2.2.2) u.2.2.2.2.2.2.2.2.2.2.2.2.2.2.1 u.2.2.2.2.2.2.2.2.2.2.2.2.2.2.2.1 u.2.2.2.2.2.2.2.2.2.2.2.2.2.2.2.2.1 u.2.2.2.2.2.2.2.2.2.2.2.2.2.2.2.2.2.1 u.2.2.2.2.2.2.2.2.2.2.2.2.2.2.2.2.2.2.1 u.2.2.2.2.2.2.2.2.2.2.2.2.2.2.2.2.2.2.2.1 u.2.2.2.2.2.2.2.2.2.2.2.2.2.2.2.2.2.2.2.2) (fun i s => s.2.2.1 ≤ l0 ∧ rr_C T V D s.2.2.2.1 s.2.2.2.2.1 s.2.2.2.2.2 ∧ rr_G T u.2.2.2.2.2.2.2.2.2.2.2.1 s.2.2.2.1 ∧ rr_wd M k T s.2.2.2.1 s.1 ∧ (s.2.2.1 < l0 ∨ ∀ j, j < i → rr_b W (rr_kp M k j) → rr_b s.1 j)) 3 0 (A0, g0, l0, c3, c4, c5) (by omega) ⟨Nat.le_refl _, hC, hG, hd, Or.inr (fun j hj => absurd hj (by omega))⟩ ?_ ?_
  · intro n s h
    exact pk_le 3 3 (fun _ => nm_r (nI_1 r) (H _ _ _ _ _ _ h.1 h.2.1 h.2.2.1 h.2.2.2.1 h.2.2.2.2)) (fun z => absurd z (by omega))
  · intro n i ⟨A, g, l, b3, b4, b5⟩ hi h hw
    obtain ⟨h1, h2, h4, ⟨h5, h6⟩, h7⟩ := h
    dsimp only at h1 h2 h4 h5 h6 h7
    have qi := (q i hi).1
    have skip : ∀ (g' : Int32) (l' : Nat) (d3 d4 d5 : Nat → Int32), l' ≤ l → rr_C T V D d3 d4 d5 → rr_G T b3 d3 → (l' < l ∨ (rr_b W (rr_kp M k i) → rr_b A i)) → wX_writeNewest_29 post J x1 (nI k) x3 (nI r) n (nI (i + 1)) u.1 u.2.1 u.2.2.1 (nI A) u.2.2.2.2.1 u.2.2.2.2.2.1 u.2.2.2.2.2.2.1 (g') (nI l') u.2.2.2.2.2.2.2.2.2.1 u.2.2.2.2.2.2.2.2.2.2.1 (d3) (d4) (d5) u.2.2.2.2.2.2.2.2.2.2.2.2.2.2.1 u.2.2.2.2.2.2.2.2.2.2.2.2.2.2.2.1 u.2.2.2.2.2.2.2.2.2.2.2.2.2.2.2.2.1 u.2.2.2.2.2.2.2.2.2.2.2.2.2.2.2.2.2.1 u.2.2.2.2.2.2.2.2.2.2.2.2.2.2.2.2.2.2.1 u.2.2.2.2.2.2.2.2.2.2.2.2.2.2.2.2.2.2.2.1 u.2.2.2.2.2.2.2.2.2.2.2.2.2.2.2.2.2.2.2.2 := by
      intro g' l' d3 d4 d5 y1 yC yG y2
      refine hw (A, g', l', d3, d4, d5) ⟨by dsimp only; omega, yC, rr_G_trans h4 yG, ⟨h5, fun j hj hb => yG _ (q j hj).1 k hk (h6 j hj hb)⟩, ?_⟩
      dsimp only
      rcases h7 with h7 | h7
      · exact Or.inl (by omega)
      · rcases y2 with y2 | y2
        · exact Or.inl (by omega)
        · refine Or.inr (fun j hj => ?_)
          by_cases e : j = i
          · rw [e]; exact y2
          · exact h7 j (by omega)
    refine pk_le 3 i (fun z => absurd z (by omega)) (fun _ => And.intro (pk_in i 3 hi) (nm_r (e' := nI (rr_kp M k i)) (by rw [nI_clamp (by omega)]; exact hK i hi) (rr_isWorking (u := (u.1, u.2.1, u.2.2.1, (nI A), u.2.2.2.2.1, u.2.2.2.2.2.1, u.2.2.2.2.2.2.1, (g), (nI l), u.2.2.2.2.2.2.2.2.2.1, u.2.2.2.2.2.2.2.2.2.2.1, (b3), (b4), (b5), u.2.2.2.2.2.2.2.2.2.2.2.2.2.2.1, u.2.2.2.2.2.2.2.2.2.2.2.2.2.2.2.1, u.2.2.2.2.2.2.2.2.2.2.2.2.2.2.2.2.1, u.2.2.2.2.2.2.2.2.2.2.2.2.2.2.2.2.2.1, u.2.2.2.2.2.2.2.2.2.2.2.2.2.2.2.2.2.2.1, u.2.2.2.2.2.2.2.2.2.2.2.2.2.2.2.2.2.2.2.1, u.2.2.2.2.2.2.2.2.2.2.2.2.2.2.2.2.2.2.2.2)) qi hW eW (fun hb => br_f (by decide) (rr_hasAnswered (u := (u.1, u.2.1, u.2.2.1, (nI A), u.2.2.2.2.1, u.2.2.2.2.2.1, u.2.2.2.2.2.2.1, (g), (nI l), u.2.2.2.2.2.2.2.2.2.1, u.2.2.2.2.2.2.2.2.2.2.1, (b3), (b4), (b5), u.2.2.2.2.2.2.2.2.2.2.2.2.2.2.1, u.2.2.2.2.2.2.2.2.2.2.2.2.2.2.2.1, u.2.2.2.2.2.2.2.2.2.2.2.2.2.2.2.2.1, u.2.2.2.2.2.2.2.2.2.2.2.2.2.2.2.2.2.1, u.2.2.2.2.2.2.2.2.2.2.2.2.2.2.2.2.2.2.1, u.2.2.2.2.2.2.2.2.2.2.2.2.2.2.2.2.2.2.2.1, u.2.2.2.2.2.2.2.2.2.2.2.2.2.2.2.2.2.2.2.2)) rfl h5 hi (fun ha => br_f (by decide) (nm_r (nI_1 i) (skip g l b3 b4 b5 (Nat.le_refl _) h2 rr_G_refl (Or.inr (fun _ => ha))))) (fun ha => br_t rfl (rr_ct (u := (u.1, u.2.1, u.2.2.1, (nI A), u.2.2.2.2.1, u.2.2.2.2.2.1, u.2.2.2.2.2.2.1, (g), (nI l), u.2.2.2.2.2.2.2.2.2.1, u.2.2.2.2.2.2.2.2.2.2.1, (b3), (b4), (b5), u.2.2.2.2.2.2.2.2.2.2.2.2.2.2.1, u.2.2.2.2.2.2.2.2.2.2.2.2.2.2.2.1, u.2.2.2.2.2.2.2.2.2.2.2.2.2.2.2.2.1, u.2.2.2.2.2.2.2.2.2.2.2.2.2.2.2.2.2.1, u.2.2.2.2.2.2.2.2.2.2.2.2.2.2.2.2.2.2.1, u.2.2.2.2.2.2.2.2.2.2.2.2.2.2.2.2.2.2.2.1, u.2.2.2.2.2.2.2.2.2.2.2.2.2.2.2.2.2.2.2.2)) rfl (by omega) (fun r1 g1 l1 y1 y2 => br_c (fun z => nm_r (nI_1 i) (skip g1 l1 b3 b4 b5 y1 h2 rr_G_refl ?_)) (fun _ => rr_store (u := (u.1, u.2.1, u.2.2.1, (nI A), u.2.2.2.2.1, u.2.2.2.2.2.1, u.2.2.2.2.2.2.1, (g1), (nI l1), u.2.2.2.2.2.2.2.2.2.1, u.2.2.2.2.2.2.2.2.2.2.1, (b3), (b4), (b5), u.2.2.2.2.2.2.2.2.2.2.2.2.2.2.1, u.2.2.2.2.2.2.2.2.2.2.2.2.2.2.2.1, u.2.2.2.2.2.2.2.2.2.2.2.2.2.2.2.2.1, u.2.2.2.2.2.2.2.2.2.2.2.2.2.2.2.2.2.1, u.2.2.2.2.2.2.2.2.2.2.2.2.2.2.2.2.2.2.1, u.2.2.2.2.2.2.2.2.2.2.2.2.2.2.2.2.2.2.2.1, u.2.2.2.2.2.2.2.2.2.2.2.2.2.2.2.2.2.2.2.2)) qi hk h2 hn (fun d3 d4 d5 z1 z2 z3 => rr_ct (u := (u.1, u.2.1, u.2.2.1, (nI A), u.2.2.2.2.1, u.2.2.2.2.2.1, u.2.2.2.2.2.2.1, (g1), (nI l1), u.2.2.2.2.2.2.2.2.2.1, u.2.2.2.2.2.2.2.2.2.2.1, (d3), (d4), (d5), u.2.2.2.2.2.2.2.2.2.2.2.2.2.2.1, u.2.2.2.2.2.2.2.2.2.2.2.2.2.2.2.1, u.2.2.2.2.2.2.2.2.2.2.2.2.2.2.2.2.1, u.2.2.2.2.2.2.2.2.2.2.2.2.2.2.2.2.2.1, u.2.2.2.2.2.2.2.2.2.2.2.2.2.2.2.2.2.2.1, u.2.2.2.2.2.2.2.2.2.2.2.2.2.2.2.2.2.2.2.1, u.2.2.2.2.2.2.2.2.2.2.2.2.2.2.2.2.2.2.2.2)) rfl (by omega) (fun r2 g2 l2 w1 w2 => br_c (fun z => nm_r (rr_or0 A h5) (nm_r (nI_1 i) (skip g2 l2 d3 d4 d5 (by omega) z1 z2 ?_))) (fun _ => nm_r (rr_or A (by omega) i (by omega)) (nm_r (nI_1 i) (hw (A ||| 2 ^ i, g2, l2, d3, d4, d5) ⟨?_, z1, rr_G_trans h4 z2, ⟨rr_or8 A h5 i hi, fun j hj hbj => ?_⟩, ?_⟩))))))))))) (fun hb => br_t rfl (nm_r (nI_1 i) (skip g l b3 b4 b5 (Nat.le_refl _) h2 rr_G_refl (Or.inr (fun z => absurd z hb))))))))
    · rcases y2 with y2 | y2
      · rw [y2] at z
        exact absurd z (by decide)
      · exact Or.inl y2.2
    · rcases w2 with w2 | w2
      · rw [w2] at z
        exact absurd z (by decide)
      · exact Or.inl (by omega)
    · dsimp only
      omega
    · dsimp only
      rcases ((rr_or_b A (by omega) i (by omega)).2 j (by omega)).mp hbj with z | z
      · exact z2 _ (q j hj).1 k hk (h6 j hj z)
      · rw [z]
        exact z3 eN
    · dsimp only
      rcases h7 with h7 | h7
      · exact Or.inl (by omega)
      · refine Or.inr (fun j hj hbj => ((rr_or_b A (by omega) i (by omega)).2 j (by omega)).mpr ?_)
        by_cases e : j = i
        · exact Or.inr e
        · exact Or.inl (h7 j (by omega) hbj)
theorem rr_writeNewest {post : St1 → Prop} {u : St1} {T : Nat → Nat} {V D : Nat → Int32} {M W k c e : Nat} (hw : rr_wf M W) (hE : rr_E M W u) (hB : rr_B T V D u) (hk : k < 16) (hc : c < 6) (hK : rr_K M k u.2.2.2.2.2.2.2.2.2.2.2.2.2.2.2.2.2.1) (eN : u.2.2.2.2.1 = nI (T k)) (hn : rr_ok (T k) (V k) (D k) u.2.2.2.2.1 u.2.2.2.2.2.1 u.2.2.2.2.2.2.1) (he : e ≤ 3) (full : ∀ A, A < 8 → (∀ j, j < 3 → rr_b W (rr_kp M k j) → rr_b A j) → e ≤ rr_pop A)
    (hp : ∀ u' : St1, rr_E M W u' → rr_B T V D u' → rr_G T u.2.2.2.2.2.2.2.2.2.2.2.1 u'.2.2.2.2.2.2.2.2.2.2.2.1 → (∃ A, e ≤ rr_pop A ∧ rr_wd M k T u'.2.2.2.2.2.2.2.2.2.2.2.1 A) → post u') : wpX_writeNewest post u (nI c) (nI k) (nI e) := by
  obtain ⟨hC, hH, l0, hl0, el⟩ := hB
  have fin : ∀ A g l b3 b4 b5, l ≤ 30 → rr_C T V D b3 b4 b5 → rr_G T u.2.2.2.2.2.2.2.2.2.2.2.1 b3 → rr_wd M k T b3 A → e ≤ rr_pop A → ∃ n, wX_writeNewest_121 post (nI c) (nI k) n 0 u.1 u.2.1 u.2.2.1 (nI A) u.2.2.2.2.1 u.2.2.2.2.2.1 u.2.2.2.2.2.2.1 (g) (nI l) u.2.2.2.2.2.2.2.2.2.1 u.2.2.2.2.2.2.2.2.2.2.1 (b3) (b4) (b5) u.2.2.2.2.2.2.2.2.2.2.2.2.2.2.1 u.2.2.2.2.2.2.2.2.2.2.2.2.2.2.2.1 u.2.2.2.2.2.2.2.2.2.2.2.2.2.2.2.2.1 u.2.2.2.2.2.2.2.2.2.2.2.2.2.2.2.2.2.1 u.2.2.2.2.2.2.2.2.2.2.2.2.2.2.2.2.2.2.1 u.2.2.2.2.2.2.2.2.2.2.2.2.2.2.2.2.2.2.2.1 u.2.2.2.2.2.2.2.2.2.2.2.2.2.2.2.2.2.2.2.2 := by
    intro A g l b3 b4 b5 y1 y2 y3 y4 y5
    exact rr_wn121 (u := (u.1, u.2.1, u.2.2.1, (nI A), u.2.2.2.2.1, u.2.2.2.2.2.1, u.2.2.2.2.2.2.1, (g), (nI l), u.2.2.2.2.2.2.2.2.2.1, u.2.2.2.2.2.2.2.2.2.2.1, (b3), (b4), (b5), u.2.2.2.2.2.2.2.2.2.2.2.2.2.2.1, u.2.2.2.2.2.2.2.2.2.2.2.2.2.2.2.1, u.2.2.2.2.2.2.2.2.2.2.2.2.2.2.2.2.1, u.2.2.2.2.2.2.2.2.2.2.2.2.2.2.2.2.2.1, u.2.2.2.2.2.2.2.2.2.2.2.2.2.2.2.2.2.2.1, u.2.2.2.2.2.2.2.2.2.2.2.2.2.2.2.2.2.2.2.1, u.2.2.2.2.2.2.2.2.2.2.2.2.2.2.2.2.2.2.2.2)) hw.1 hw.2.2.1 hw.2.1 hk hc hE.2.1 hK hn hH (fun b6 b7 b8 z => hp (u.1, u.2.1, u.2.2.1, (nI A), u.2.2.2.2.1, u.2.2.2.2.2.1, u.2.2.2.2.2.2.1, (g), (nI l), u.2.2.2.2.2.2.2.2.2.1, u.2.2.2.2.2.2.2.2.2.2.1, (b3), (b4), (b5), (b6), (b7), (b8), u.2.2.2.2.2.2.2.2.2.2.2.2.2.2.2.2.2.1, u.2.2.2.2.2.2.2.2.2.2.2.2.2.2.2.2.2.2.1, u.2.2.2.2.2.2.2.2.2.2.2.2.2.2.2.2.2.2.2.1, u.2.2.2.2.2.2.2.2.2.2.2.2.2.2.2.2.2.2.2.2) hE ⟨y2, z, l, y1, rfl⟩ y3 ⟨A, y5, y4⟩)
  have t : ∃ n, wX_writeNewest_8 post (nI c) (nI k) (nI e) n 0 u.1 u.2.1 u.2.2.1 (nI 0) u.2.2.2.2.1 u.2.2.2.2.2.1 u.2.2.2.2.2.2.1 u.2.2.2.2.2.2.2.1 (nI l0) u.2.2.2.2.2.2.2.2.2.1 u.2.2.2.2.2.2.2.2.2.2.1 u.2.2.2.2.2.2.2.2.2.2.2.1 u.2.2.2.2.2.2.2.2.2.2.2.2.1 u.2.2.2.2.2.2.2.2.2.2.2.2.2.1 u.2.2.2.2.2.2.2.2.2.2.2.2.2.2.1 u.2.2.2.2.2.2.2.2.2.2.2.2.2.2.2.1 u.2.2.2.2.2.2.2.2.2.2.2.2.2.2.2.2.1 u.2.2.2.2.2.2.2.2.2.2.2.2.2.2.2.2.2.1 u.2.2.2.2.2.2.2.2.2.2.2.2.2.2.2.2.2.2.1 u.2.2.2.2.2.2.2.2.2.2.2.2.2.2.2.2.2.2.2.1 u.2.2.2.2.2.2.2.2.2.2.2.2.2.2.2.2.2.2.2.2 := by
    refine pk_loop (σ := Nat × Int32 × Nat × (Nat → Int32) × (Nat → Int32) × (Nat → Int32)) (fun n i s => wX_writeNewest_8 post (nI c) (nI k) (nI e) n (nI i) u.1 u.2.1 u.2.2.1 (nI s.1) u.2.2.2.2.1 u.2.2.2.2.2.1 u.2.2.2.2.2.2.1 (s.2.1) (nI s.2.2.1) u.2.2.2.2.2.2.2.2.2.1 u.2.2.2.2.2.2.2.2.2.2.1 (s.2.2.2.1) (s.2.2.2.2.1) (s.2.2.2.2.2) u.2.2.2.2.2.2.2.2.2.2.2.2.2.2.1 u.2.2.2.2.2.2.2.2.2.2.2.2.2.2.2.1 u.2.2.2.2.2.2.2.2.2.2.2.2.2.2.2.2.1 u.2.2.2.2.2.2.2.2.2.2.2.2.2.2.2.2.2.1 u.2.2.2.2.2.2.2.2.2.2.2.2.2.2.2.2.2.2.1 u.2.2.2.2.2.2.2.2.2.2.2.2.2.2.2.2.2.2.2.1 u.2.2.2.2.2.2.2.2.2.2.2.2.2.2.2.2.2.2.2.2) (fun i s => s.2.2.1 ≤ 30 ∧ rr_C T V D s.2.2.2.1 s.2.2.2.2.1 s.2.2.2.2.2 ∧ rr_G T u.2.2.2.2.2.2.2.2.2.2.2.1 s.2.2.2.1 ∧ rr_wd M k T s.2.2.2.1 s.1 ∧ (s.2.2.1 + i ≤ 30 ∨ ∀ j, j < 3 → rr_b W (rr_kp M k j) → rr_b s.1 j)) 80 0 (0, u.2.2.2.2.2.2.2.1, l0, u.2.2.2.2.2.2.2.2.2.2.2.1, u.2.2.2.2.2.2.2.2.2.2.2.2.1, u.2.2.2.2.2.2.2.2.2.2.2.2.2.1) (by omega) ⟨hl0, hC, rr_G_refl, ⟨Nat.zero_lt_succ 7, fun j hj hb => absurd hb (rr_b0 j hj)⟩, Or.inl hl0⟩ ?_ ?_
    · intro n ⟨A, g, l, b3, b4, b5⟩ h
      obtain ⟨h1, h2, h4, h5, h6⟩ := h
      dsimp only at h1 h2 h4 h5 h6
      refine pk_le 80 80 (fun _ => fin A g l b3 b4 b5 h1 h2 h4 h5 ?_) (fun z => absurd z (by omega))
      rcases h6 with h6 | h6
      · omega
      · exact full A h5.1 h6
    · intro n r ⟨A, g, l, b3, b4, b5⟩ hr h hn'
      obtain ⟨h1, h2, h4, h5, h6⟩ := h
      dsimp only at h1 h2 h4 h5 h6
      have hA := h5.1
      have hp6 := rr_pop_le A
      refine pk_le 80 r (fun z => absurd z (by omega)) (fun _ => rr_ones (A := A) (by omega) (pk_le e (rr_pop A) (fun z => fin A g l b3 b4 b5 h1 h2 h4 h5 z) (fun z => rr_wn29 (u := u) (A0 := A) (g0 := g) (l0 := l) (c3 := b3) (c4 := b4) (c5 := b5) hw.1 hw.2.2.1 hw.2.1 hk hE.2.1 hK eN hn h1 h2 h4 h5 (fun A' g' l' d3 d4 d5 y1 y2 y3 y4 y5 => hn' (A', g', l', d3, d4, d5) ⟨?_, y2, y3, y4, ?_⟩))))
      · dsimp only
        omega
      · dsimp only
        rcases h6 with h6 | h6
        · rcases y5 with y5 | y5
          · exact Or.inl (by omega)
          · exact Or.inr y5
        · exact absurd (full A hA h6) (by omega)
  rw [← el] at t
  exact t
end
section
def rr_up {α : Type} (f : Nat → α) (k : Nat) (x : α) : Nat → α := fun j => if j = k then x else f j
theorem rr_up_s {α : Type} {f : Nat → α} {k : Nat} {x : α} : rr_up f k x k = x := if_pos rfl
theorem rr_up_n {α : Type} {f : Nat → α} {k j : Nat} {x : α} (h : j ≠ k) : rr_up f k x j = f j := if_neg h
theorem rr_ok_raise {T T' : Nat} {V D V' D' s v t : Int32} (h : rr_ok T V D s v t) (hT : T < T') (h2 : T' < 2 ^ 30) : rr_ok T' V' D' s v t := by
  obtain ⟨q1, q2, n, e, hn, z⟩ := h
  exact ⟨h2, q2, n, e, by omega, fun y => absurd y (by omega)⟩
theorem rr_ok_up {T : Nat → Nat} {V D : Nat → Int32} {k k' T' : Nat} {v' t' s v t : Int32} (h : rr_ok (T k') (V k') (D k') s v t) (hT : T k < T') (h2 : T' < 2 ^ 30) : rr_ok (rr_up T k T' k') (rr_up V k v' k') (rr_up D k t' k') s v t := by
  by_cases e : k' = k
  · subst e
    rw [rr_up_s, rr_up_s, rr_up_s]
    exact rr_ok_raise h hT h2
  · rw [rr_up_n e, rr_up_n e, rr_up_n e]
    exact h
theorem rr_startWork {post : St1 → Prop} {u : St1} (h : post (u.1, u.2.1, u.2.2.1, (0), (0), (0), (0), u.2.2.2.2.2.2.2.1, u.2.2.2.2.2.2.2.2.1, u.2.2.2.2.2.2.2.2.2.1, u.2.2.2.2.2.2.2.2.2.2.1, u.2.2.2.2.2.2.2.2.2.2.2.1, u.2.2.2.2.2.2.2.2.2.2.2.2.1, u.2.2.2.2.2.2.2.2.2.2.2.2.2.1, u.2.2.2.2.2.2.2.2.2.2.2.2.2.2.1, u.2.2.2.2.2.2.2.2.2.2.2.2.2.2.2.1, u.2.2.2.2.2.2.2.2.2.2.2.2.2.2.2.2.1, u.2.2.2.2.2.2.2.2.2.2.2.2.2.2.2.2.2.1, u.2.2.2.2.2.2.2.2.2.2.2.2.2.2.2.2.2.2.1, u.2.2.2.2.2.2.2.2.2.2.2.2.2.2.2.2.2.2.2.1, u.2.2.2.2.2.2.2.2.2.2.2.2.2.2.2.2.2.2.2.2)) : wpX_startWork post u := h
theorem rr_change {post : St1 → Prop} {u : St1} {T : Nat → Nat} {V D : Nat → Int32} {M W k c : Nat} {v t : Int32} (hw : rr_wf M W) (hE : rr_E M W u) (hB : rr_B T V D u) (hk : k < 16) (hc : c < 6) (hQ : ∀ k', k' < 16 → rr_Q M T k' u.2.2.2.2.2.2.2.2.2.2.2.1) (hK : rr_K M k u.2.2.2.2.2.2.2.2.2.2.2.2.2.2.2.2.2.1) (eN : u.2.2.2.2.1 = nI (T k)) (hT : T k < 2 ^ 20) (ht : t = 0 ∨ t = 1) (hp : ∀ u' : St1, rr_E M W u' → rr_B (rr_up T k ((T k / 8 + 1) * 8 + c)) (rr_up V k v) (rr_up D k t) u' → (∀ k', k' < 16 → rr_Q M (rr_up T k ((T k / 8 + 1) * 8 + c)) k' u'.2.2.2.2.2.2.2.2.2.2.2.1) → post u') : wpX_change post u (nI c) (nI k) v t := by
  have e1 : ((u.2.2.2.2.1 / 8) + 1) * 8 + nI c = nI ((T k / 8 + 1) * 8 + c) := by
    rw [eN, show nI (T k) / 8 = nI (T k / 8) from pk_div (d := 8) (by omega) (by omega) (by omega), nI_1, show nI (T k / 8 + 1) * 8 = nI ((T k / 8 + 1) * 8) from pk_mul _ 8, nI_add]
  have hT' : T k < (T k / 8 + 1) * 8 + c := by omega
  have hT2 : (T k / 8 + 1) * 8 + c < 2 ^ 30 := by omega
  obtain ⟨hC, hH, hL⟩ := hB
  refine And.intro (by decide) (nm_r e1 (And.intro (rr_bool ht).2.1 (And.intro (rr_bool ht).2.2 (rr_writeNewest (e := 2) (T := rr_up T k ((T k / 8 + 1) * 8 + c)) (V := rr_up V k v) (D := rr_up D k t) (u := (u.1, u.2.1, u.2.2.1, u.2.2.2.1, (nI ((T k / 8 + 1) * 8 + c)), (v), (t), u.2.2.2.2.2.2.2.1, u.2.2.2.2.2.2.2.2.1, u.2.2.2.2.2.2.2.2.2.1, u.2.2.2.2.2.2.2.2.2.2.1, u.2.2.2.2.2.2.2.2.2.2.2.1, u.2.2.2.2.2.2.2.2.2.2.2.2.1, u.2.2.2.2.2.2.2.2.2.2.2.2.2.1, u.2.2.2.2.2.2.2.2.2.2.2.2.2.2.1, u.2.2.2.2.2.2.2.2.2.2.2.2.2.2.2.1, u.2.2.2.2.2.2.2.2.2.2.2.2.2.2.2.2.1, u.2.2.2.2.2.2.2.2.2.2.2.2.2.2.2.2.2.1, u.2.2.2.2.2.2.2.2.2.2.2.2.2.2.2.2.2.2.1, u.2.2.2.2.2.2.2.2.2.2.2.2.2.2.2.2.2.2.2.1, u.2.2.2.2.2.2.2.2.2.2.2.2.2.2.2.2.2.2.2.2)) hw hE ⟨fun m hm k' hk' => rr_ok_up (hC m hm k' hk') hT' hT2, fun h hh m hm k' hk' => rr_ok_up (hH h hh m hm k' hk') hT' hT2, hL⟩ hk hc hK ?_ ?_ (by omega) ?_ (fun u' y1 y2 y3 y4 => hp u' y1 y2 ?_)))))
  · rw [rr_up_s]
  · rw [rr_up_s, rr_up_s, rr_up_s]
    exact ⟨hT2, ht, _, rfl, Nat.le_refl _, fun _ _ => ⟨rfl, rfl⟩⟩
  · intro A hA h
    exact rr_two_pop hA (rr_two_mono (rr_two_work hw hk) (fun j hj z => h j hj z))
  · intro k' hk'
    by_cases e : k' = k
    · subst e
      obtain ⟨A, a1, a2⟩ := y4
      exact rr_two_mono (rr_pop_two a2.1 a1) (fun j hj z => a2.2 j hj z)
    · refine rr_Q_G hw.1 hw.2.2.1 hk' ?_ y3
      have z := hQ k' hk'
      unfold rr_Q at z ⊢
      rw [rr_up_n e]
      exact z
theorem rr_handOver {post : St1 → Prop} {u : St1} {T : Nat → Nat} {V D : Nat → Int32} {M W h m : Nat} (hh : h < 6) (hm : m < 6) (hE : rr_E M W u) (hB : rr_B T V D u) (hp : ∀ u' : St1, rr_E M W u' → rr_B T V D u' → rr_G T u.2.2.2.2.2.2.2.2.2.2.2.1 u'.2.2.2.2.2.2.2.2.2.2.2.1 → post u') : wpX_handOver post u (nI h) (nI m) := by
  have t : ∃ n, wX_handOver_2 post (nI h) (nI m) n 0 u.1 u.2.1 u.2.2.1 u.2.2.2.1 u.2.2.2.2.1 u.2.2.2.2.2.1 u.2.2.2.2.2.2.1 u.2.2.2.2.2.2.2.1 u.2.2.2.2.2.2.2.2.1 u.2.2.2.2.2.2.2.2.2.1 u.2.2.2.2.2.2.2.2.2.2.1 u.2.2.2.2.2.2.2.2.2.2.2.1 u.2.2.2.2.2.2.2.2.2.2.2.2.1 u.2.2.2.2.2.2.2.2.2.2.2.2.2.1 u.2.2.2.2.2.2.2.2.2.2.2.2.2.2.1 u.2.2.2.2.2.2.2.2.2.2.2.2.2.2.2.1 u.2.2.2.2.2.2.2.2.2.2.2.2.2.2.2.2.1 u.2.2.2.2.2.2.2.2.2.2.2.2.2.2.2.2.2.1 u.2.2.2.2.2.2.2.2.2.2.2.2.2.2.2.2.2.2.1 u.2.2.2.2.2.2.2.2.2.2.2.2.2.2.2.2.2.2.2.1 u.2.2.2.2.2.2.2.2.2.2.2.2.2.2.2.2.2.2.2.2 := by
    refine pk_loop (σ := St1) (fun n k s => wX_handOver_2 post (nI h) (nI m) n (nI k) s.1 s.2.1 s.2.2.1 s.2.2.2.1 s.2.2.2.2.1 s.2.2.2.2.2.1 s.2.2.2.2.2.2.1 s.2.2.2.2.2.2.2.1 s.2.2.2.2.2.2.2.2.1 s.2.2.2.2.2.2.2.2.2.1 s.2.2.2.2.2.2.2.2.2.2.1 s.2.2.2.2.2.2.2.2.2.2.2.1 s.2.2.2.2.2.2.2.2.2.2.2.2.1 s.2.2.2.2.2.2.2.2.2.2.2.2.2.1 s.2.2.2.2.2.2.2.2.2.2.2.2.2.2.1 s.2.2.2.2.2.2.2.2.2.2.2.2.2.2.2.1 s.2.2.2.2.2.2.2.2.2.2.2.2.2.2.2.2.1 s.2.2.2.2.2.2.2.2.2.2.2.2.2.2.2.2.2.1 s.2.2.2.2.2.2.2.2.2.2.2.2.2.2.2.2.2.2.1 s.2.2.2.2.2.2.2.2.2.2.2.2.2.2.2.2.2.2.2.1 s.2.2.2.2.2.2.2.2.2.2.2.2.2.2.2.2.2.2.2.2) (fun k s => rr_E M W s ∧ rr_B T V D s ∧ rr_G T u.2.2.2.2.2.2.2.2.2.2.2.1 s.2.2.2.2.2.2.2.2.2.2.2.1) 16 0 u (by omega) ⟨hE, hB, rr_G_refl⟩ ?_ ?_
    · intro n s g
      exact pk_le 16 16 (fun _ => hp s g.1 g.2.1 g.2.2) (fun z => absurd z (by omega))
    · intro n k s hk g hn
      obtain ⟨gE, ⟨gC, gH, l, hl, el⟩, gG⟩ := g
      have ec : (nI ((h * 6 + m) * 16 + k)).toNatClampNeg = (h * 6 + m) * 16 + k := nI_clamp (by omega)
      have q := gH h hh m hm k hk
      have hi : (h * 6 + m) * 16 + k < 576 := by omega
      refine pk_le 16 k (fun z => absurd z (by omega)) (fun _ => nm_r (rr_hintE h m k) (And.intro (pk_in _ 576 hi) (br_c (fun _ => nm_r (nI_1 k) (hn s ⟨gE, ⟨gC, gH, l, hl, el⟩, gG⟩)) (fun _ => rr_ct (u := s) el hl (fun r g' l' y1 y2 => br_c (fun _ => nm_r (nI_1 k) (hn (s.1, s.2.1, s.2.2.1, s.2.2.2.1, s.2.2.2.2.1, s.2.2.2.2.2.1, s.2.2.2.2.2.2.1, (g'), (nI l'), s.2.2.2.2.2.2.2.2.2.1, s.2.2.2.2.2.2.2.2.2.2.1, s.2.2.2.2.2.2.2.2.2.2.2.1, s.2.2.2.2.2.2.2.2.2.2.2.2.1, s.2.2.2.2.2.2.2.2.2.2.2.2.2.1, s.2.2.2.2.2.2.2.2.2.2.2.2.2.2.1, s.2.2.2.2.2.2.2.2.2.2.2.2.2.2.2.1, s.2.2.2.2.2.2.2.2.2.2.2.2.2.2.2.2.1, s.2.2.2.2.2.2.2.2.2.2.2.2.2.2.2.2.2.1, s.2.2.2.2.2.2.2.2.2.2.2.2.2.2.2.2.2.2.1, s.2.2.2.2.2.2.2.2.2.2.2.2.2.2.2.2.2.2.2.1, s.2.2.2.2.2.2.2.2.2.2.2.2.2.2.2.2.2.2.2.2) ⟨gE, ⟨gC, gH, l', by omega, rfl⟩, gG⟩)) (fun _ => And.intro (pk_in _ 576 hi) (nm_r (e' := s.2.2.2.2.2.2.2.2.2.2.2.2.2.2.1 ((h * 6 + m) * 16 + k)) (by rw [ec]) (And.intro (pk_in _ 576 hi) (nm_r (e' := s.2.2.2.2.2.2.2.2.2.2.2.2.2.2.2.1 ((h * 6 + m) * 16 + k)) (by rw [ec]) (And.intro (pk_in _ 576 hi) (nm_r (e' := s.2.2.2.2.2.2.2.2.2.2.2.2.2.2.2.2.1 ((h * 6 + m) * 16 + k)) (by rw [ec]) (And.intro (rr_bool q.2.1).2.1 (And.intro (rr_bool q.2.1).2.2 (rr_store (u := (s.1, s.2.1, s.2.2.1, s.2.2.2.1, (s.2.2.2.2.2.2.2.2.2.2.2.2.2.2.1 ((h * 6 + m) * 16 + k)), (s.2.2.2.2.2.2.2.2.2.2.2.2.2.2.2.1 ((h * 6 + m) * 16 + k)), (s.2.2.2.2.2.2.2.2.2.2.2.2.2.2.2.2.1 ((h * 6 + m) * 16 + k)), (g'), (nI l'), s.2.2.2.2.2.2.2.2.2.1, s.2.2.2.2.2.2.2.2.2.2.1, s.2.2.2.2.2.2.2.2.2.2.2.1, s.2.2.2.2.2.2.2.2.2.2.2.2.1, s.2.2.2.2.2.2.2.2.2.2.2.2.2.1, s.2.2.2.2.2.2.2.2.2.2.2.2.2.2.1, s.2.2.2.2.2.2.2.2.2.2.2.2.2.2.2.1, s.2.2.2.2.2.2.2.2.2.2.2.2.2.2.2.2.1, s.2.2.2.2.2.2.2.2.2.2.2.2.2.2.2.2.2.1, s.2.2.2.2.2.2.2.2.2.2.2.2.2.2.2.2.2.2.1, s.2.2.2.2.2.2.2.2.2.2.2.2.2.2.2.2.2.2.2.1, s.2.2.2.2.2.2.2.2.2.2.2.2.2.2.2.2.2.2.2.2)) hm hk gC q (fun b3 b4 b5 z1 z2 z3 => And.intro (pk_in _ 576 hi) (nm_r (e' := upd s.2.2.2.2.2.2.2.2.2.2.2.2.2.2.1 ((h * 6 + m) * 16 + k) 0) (by rw [ec]) (nm_r (nI_1 k) (hn (s.1, s.2.1, s.2.2.1, s.2.2.2.1, (s.2.2.2.2.2.2.2.2.2.2.2.2.2.2.1 ((h * 6 + m) * 16 + k)), (s.2.2.2.2.2.2.2.2.2.2.2.2.2.2.2.1 ((h * 6 + m) * 16 + k)), (s.2.2.2.2.2.2.2.2.2.2.2.2.2.2.2.2.1 ((h * 6 + m) * 16 + k)), (g'), (nI l'), s.2.2.2.2.2.2.2.2.2.1, s.2.2.2.2.2.2.2.2.2.2.1, (b3), (b4), (b5), (upd s.2.2.2.2.2.2.2.2.2.2.2.2.2.2.1 ((h * 6 + m) * 16 + k) 0), s.2.2.2.2.2.2.2.2.2.2.2.2.2.2.2.1, s.2.2.2.2.2.2.2.2.2.2.2.2.2.2.2.2.1, s.2.2.2.2.2.2.2.2.2.2.2.2.2.2.2.2.2.1, s.2.2.2.2.2.2.2.2.2.2.2.2.2.2.2.2.2.2.1, s.2.2.2.2.2.2.2.2.2.2.2.2.2.2.2.2.2.2.2.1, s.2.2.2.2.2.2.2.2.2.2.2.2.2.2.2.2.2.2.2.2) ⟨gE, ⟨z1, rr_H_zero gH, l', by omega, rfl⟩, rr_G_trans gG z2⟩))))))))))))))))))
  exact t
theorem rr_erase {post : St1 → Prop} {u : St1} {m k : Nat} (hm : m < 6) (hk : k < 16) (hp : post (u.1, u.2.1, u.2.2.1, u.2.2.2.1, u.2.2.2.2.1, u.2.2.2.2.2.1, u.2.2.2.2.2.2.1, u.2.2.2.2.2.2.2.1, u.2.2.2.2.2.2.2.2.1, u.2.2.2.2.2.2.2.2.2.1, u.2.2.2.2.2.2.2.2.2.2.1, (upd u.2.2.2.2.2.2.2.2.2.2.2.1 (m * 16 + k) 0), (upd u.2.2.2.2.2.2.2.2.2.2.2.2.1 (m * 16 + k) 0), (upd u.2.2.2.2.2.2.2.2.2.2.2.2.2.1 (m * 16 + k) 0), u.2.2.2.2.2.2.2.2.2.2.2.2.2.2.1, u.2.2.2.2.2.2.2.2.2.2.2.2.2.2.2.1, u.2.2.2.2.2.2.2.2.2.2.2.2.2.2.2.2.1, u.2.2.2.2.2.2.2.2.2.2.2.2.2.2.2.2.2.1, u.2.2.2.2.2.2.2.2.2.2.2.2.2.2.2.2.2.2.1, u.2.2.2.2.2.2.2.2.2.2.2.2.2.2.2.2.2.2.2.1, u.2.2.2.2.2.2.2.2.2.2.2.2.2.2.2.2.2.2.2.2)) : wpX_erase post u (nI m) (nI k) := by
  have hc : (nI (m * 16 + k)).toNatClampNeg = m * 16 + k := nI_clamp (by omega)
  exact nm_r (rr_cellE m k) (And.intro (pk_in (m * 16 + k) 96 (by omega)) (nm_r (e' := upd u.2.2.2.2.2.2.2.2.2.2.2.1 (m * 16 + k) 0) (by rw [hc]) (And.intro (pk_in (m * 16 + k) 96 (by omega)) (nm_r (e' := upd u.2.2.2.2.2.2.2.2.2.2.2.2.1 (m * 16 + k) 0) (by rw [hc]) (And.intro (pk_in (m * 16 + k) 96 (by omega)) (nm_r (e' := upd u.2.2.2.2.2.2.2.2.2.2.2.2.2.1 (m * 16 + k) 0) (by rw [hc]) hp))))))
end
section
def rr_XI (T : Nat → Nat) (V D : Nat → Int32) (M W a b k : Nat) (u : St1) (r : Nat) (x4 x5 : Int32) (s : St1) : Prop := rr_E M W s ∧ rr_C T V D s.2.2.2.2.2.2.2.2.2.2.2.1 s.2.2.2.2.2.2.2.2.2.2.2.2.1 s.2.2.2.2.2.2.2.2.2.2.2.2.2.1 ∧ rr_H T V D s.2.2.2.2.2.2.2.2.2.2.2.2.2.2.1 s.2.2.2.2.2.2.2.2.2.2.2.2.2.2.2.1 s.2.2.2.2.2.2.2.2.2.2.2.2.2.2.2.2.1 ∧ rr_G T u.2.2.2.2.2.2.2.2.2.2.2.1 s.2.2.2.2.2.2.2.2.2.2.2.1 ∧ (∃ l, l ≤ 30 ∧ s.2.2.2.2.2.2.2.2.1 = nI l ∧ (x5 = 0 → l + r ≤ 30)) ∧ (x5 = 0 ∨ (u.2.2.2.2.2.2.2.2.2.2.2.1 (b * 16 + k) = nI (T k) → s.2.2.2.2.2.2.2.2.2.2.2.1 (a * 16 + k) = nI (T k)))
theorem rr_ex59 {post : St1 → Prop} {J : Int32 → Int32 → Int32 → Int32 → Int32 → Int32 → Int32 → Int32 → Int32 → Int32 → Int32 → Int32 → (Nat → Int32) → (Nat → Int32) → (Nat → Int32) → (Nat → Int32) → (Nat → Int32) → (Nat → Int32) → (Nat → Int32) → (Nat → Int32) → (Nat → Int32) → (Nat → Int32) → (Nat → Int32) → (Nat → Int32) → Prop} {u s : St1} {T : Nat → Nat} {V D : Nat → Int32} {M W a b k r : Nat} {x4 x5 : Int32} (ha : a < 6) (hb : b < 6) (hk : k < 16) (h : rr_XI T V D M W a b k u r x4 x5 s) (H : ∀ (y5 : Int32) (s' : St1), rr_XI T V D M W a b k u (r + 1) x4 y5 s' → J x4 y5 (nI (r + 1)) s'.1 s'.2.1 s'.2.2.1 s'.2.2.2.1 s'.2.2.2.2.1 s'.2.2.2.2.2.1 s'.2.2.2.2.2.2.1 s'.2.2.2.2.2.2.2.1 s'.2.2.2.2.2.2.2.2.1 s'.2.2.2.2.2.2.2.2.2.1 s'.2.2.2.2.2.2.2.2.2.2.1 s'.2.2.2.2.2.2.2.2.2.2.2.1 s'.2.2.2.2.2.2.2.2.2.2.2.2.1 s'.2.2.2.2.2.2.2.2.2.2.2.2.2.1 s'.2.2.2.2.2.2.2.2.2.2.2.2.2.2.1 s'.2.2.2.2.2.2.2.2.2.2.2.2.2.2.2.1 s'.2.2.2.2.2.2.2.2.2.2.2.2.2.2.2.2.1 s'.2.2.2.2.2.2.2.2.2.2.2.2.2.2.2.2.2.1 s'.2.2.2.2.2.2.2.2.2.2.2.2.2.2.2.2.2.2.1 s'.2.2.2.2.2.2.2.2.2.2.2.2.2.2.2.2.2.2.2.1 s'.2.2.2.2.2.2.2.2.2.2.2.2.2.2.2.2.2.2.2.2) : wX_exchange_59 post J (nI a) (nI b) (nI k) x4 x5 (nI r) s.1 s.2.1 s.2.2.1 s.2.2.2.1 s.2.2.2.2.1 s.2.2.2.2.2.1 s.2.2.2.2.2.2.1 s.2.2.2.2.2.2.2.1 s.2.2.2.2.2.2.2.2.1 s.2.2.2.2.2.2.2.2.2.1 s.2.2.2.2.2.2.2.2.2.2.1 s.2.2.2.2.2.2.2.2.2.2.2.1 s.2.2.2.2.2.2.2.2.2.2.2.2.1 s.2.2.2.2.2.2.2.2.2.2.2.2.2.1 s.2.2.2.2.2.2.2.2.2.2.2.2.2.2.1 s.2.2.2.2.2.2.2.2.2.2.2.2.2.2.2.1 s.2.2.2.2.2.2.2.2.2.2.2.2.2.2.2.2.1 s.2.2.2.2.2.2.2.2.2.2.2.2.2.2.2.2.2.1 s.2.2.2.2.2.2.2.2.2.2.2.2.2.2.2.2.2.2.1 s.2.2.2.2.2.2.2.2.2.2.2.2.2.2.2.2.2.2.2.1 s.2.2.2.2.2.2.2.2.2.2.2.2.2.2.2.2.2.2.2.2 := by
  obtain ⟨h1, h2, h3, h4, ⟨l, hl, el, hr⟩, h5⟩ := h
  have hT : T k < 2 ^ 30 := (h2 a ha k hk).1
  refine br_c (fun z => rr_ct (u := s) el hl (fun q g l' y1 y2 => br_c (fun z0 => nm_r (nI_1 r) (H x5 (s.1, s.2.1, s.2.2.1, s.2.2.2.1, s.2.2.2.2.1, s.2.2.2.2.2.1, s.2.2.2.2.2.2.1, (g), (nI l'), s.2.2.2.2.2.2.2.2.2.1, s.2.2.2.2.2.2.2.2.2.2.1, s.2.2.2.2.2.2.2.2.2.2.2.1, s.2.2.2.2.2.2.2.2.2.2.2.2.1, s.2.2.2.2.2.2.2.2.2.2.2.2.2.1, s.2.2.2.2.2.2.2.2.2.2.2.2.2.2.1, s.2.2.2.2.2.2.2.2.2.2.2.2.2.2.2.1, s.2.2.2.2.2.2.2.2.2.2.2.2.2.2.2.2.1, s.2.2.2.2.2.2.2.2.2.2.2.2.2.2.2.2.2.1, s.2.2.2.2.2.2.2.2.2.2.2.2.2.2.2.2.2.2.1, s.2.2.2.2.2.2.2.2.2.2.2.2.2.2.2.2.2.2.2.1, s.2.2.2.2.2.2.2.2.2.2.2.2.2.2.2.2.2.2.2.2) ⟨h1, h2, h3, h4, ⟨l', by omega, rfl, fun _ => ?_⟩, h5⟩)) (fun z0 => rr_startWork (u := (s.1, s.2.1, s.2.2.1, s.2.2.2.1, s.2.2.2.2.1, s.2.2.2.2.2.1, s.2.2.2.2.2.2.1, (g), (nI l'), s.2.2.2.2.2.2.2.2.2.1, s.2.2.2.2.2.2.2.2.2.2.1, s.2.2.2.2.2.2.2.2.2.2.2.1, s.2.2.2.2.2.2.2.2.2.2.2.2.1, s.2.2.2.2.2.2.2.2.2.2.2.2.2.1, s.2.2.2.2.2.2.2.2.2.2.2.2.2.2.1, s.2.2.2.2.2.2.2.2.2.2.2.2.2.2.2.1, s.2.2.2.2.2.2.2.2.2.2.2.2.2.2.2.2.1, s.2.2.2.2.2.2.2.2.2.2.2.2.2.2.2.2.2.1, s.2.2.2.2.2.2.2.2.2.2.2.2.2.2.2.2.2.2.1, s.2.2.2.2.2.2.2.2.2.2.2.2.2.2.2.2.2.2.2.1, s.2.2.2.2.2.2.2.2.2.2.2.2.2.2.2.2.2.2.2.2)) (rr_hear (u := (s.1, s.2.1, s.2.2.1, (0), (0), (0), (0), (g), (nI l'), s.2.2.2.2.2.2.2.2.2.1, s.2.2.2.2.2.2.2.2.2.2.1, s.2.2.2.2.2.2.2.2.2.2.2.1, s.2.2.2.2.2.2.2.2.2.2.2.2.1, s.2.2.2.2.2.2.2.2.2.2.2.2.2.1, s.2.2.2.2.2.2.2.2.2.2.2.2.2.2.1, s.2.2.2.2.2.2.2.2.2.2.2.2.2.2.2.1, s.2.2.2.2.2.2.2.2.2.2.2.2.2.2.2.2.1, s.2.2.2.2.2.2.2.2.2.2.2.2.2.2.2.2.2.1, s.2.2.2.2.2.2.2.2.2.2.2.2.2.2.2.2.2.2.1, s.2.2.2.2.2.2.2.2.2.2.2.2.2.2.2.2.2.2.2.1, s.2.2.2.2.2.2.2.2.2.2.2.2.2.2.2.2.2.2.2.2)) hb hk h2 (rr_ok0 hT (Or.inl rfl)) (fun s1 v1 t1 p1 p2 p3 => rr_store (u := (s.1, s.2.1, s.2.2.1, (0), (s1), (v1), (t1), (g), (nI l'), s.2.2.2.2.2.2.2.2.2.1, s.2.2.2.2.2.2.2.2.2.2.1, s.2.2.2.2.2.2.2.2.2.2.2.1, s.2.2.2.2.2.2.2.2.2.2.2.2.1, s.2.2.2.2.2.2.2.2.2.2.2.2.2.1, s.2.2.2.2.2.2.2.2.2.2.2.2.2.2.1, s.2.2.2.2.2.2.2.2.2.2.2.2.2.2.2.1, s.2.2.2.2.2.2.2.2.2.2.2.2.2.2.2.2.1, s.2.2.2.2.2.2.2.2.2.2.2.2.2.2.2.2.2.1, s.2.2.2.2.2.2.2.2.2.2.2.2.2.2.2.2.2.2.1, s.2.2.2.2.2.2.2.2.2.2.2.2.2.2.2.2.2.2.2.1, s.2.2.2.2.2.2.2.2.2.2.2.2.2.2.2.2.2.2.2.2)) ha hk h2 p1 (fun b3 b4 b5 z1 z2 z3 => nm_r (nI_1 r) (H 1 (s.1, s.2.1, s.2.2.1, (0), (s1), (v1), (t1), (g), (nI l'), s.2.2.2.2.2.2.2.2.2.1, s.2.2.2.2.2.2.2.2.2.2.1, (b3), (b4), (b5), s.2.2.2.2.2.2.2.2.2.2.2.2.2.2.1, s.2.2.2.2.2.2.2.2.2.2.2.2.2.2.2.1, s.2.2.2.2.2.2.2.2.2.2.2.2.2.2.2.2.1, s.2.2.2.2.2.2.2.2.2.2.2.2.2.2.2.2.2.1, s.2.2.2.2.2.2.2.2.2.2.2.2.2.2.2.2.2.2.1, s.2.2.2.2.2.2.2.2.2.2.2.2.2.2.2.2.2.2.2.1, s.2.2.2.2.2.2.2.2.2.2.2.2.2.2.2.2.2.2.2.2) ⟨h1, z1, h3, rr_G_trans h4 z2, ⟨l', by omega, rfl, fun y => absurd y (by decide)⟩, Or.inr (fun e => z3 (p3 (h4 b hb k hk e)))⟩))))))) (fun z => nm_r (nI_1 r) (H x5 s ⟨h1, h2, h3, h4, ⟨l, hl, el, fun y => absurd y z⟩, h5⟩))
  have := hr z
  rcases y2 with y2 | y2
  · rw [y2] at z0
    exact absurd z0 (by decide)
  · omega
theorem rr_ex26 {post : St1 → Prop} {J : Int32 → Int32 → Int32 → Int32 → Int32 → Int32 → Int32 → Int32 → Int32 → Int32 → Int32 → Int32 → (Nat → Int32) → (Nat → Int32) → (Nat → Int32) → (Nat → Int32) → (Nat → Int32) → (Nat → Int32) → (Nat → Int32) → (Nat → Int32) → (Nat → Int32) → (Nat → Int32) → (Nat → Int32) → (Nat → Int32) → Prop} {u s : St1} {T : Nat → Nat} {V D : Nat → Int32} {M W a b k r : Nat} {x4 x5 : Int32} (ha : a < 6) (hb : b < 6) (hk : k < 16) (h : rr_XI T V D M W a b k u r x4 x5 s) (H : ∀ (y4 y5 : Int32) (s' : St1), rr_XI T V D M W a b k u (r + 1) y4 y5 s' → J y4 y5 (nI (r + 1)) s'.1 s'.2.1 s'.2.2.1 s'.2.2.2.1 s'.2.2.2.2.1 s'.2.2.2.2.2.1 s'.2.2.2.2.2.2.1 s'.2.2.2.2.2.2.2.1 s'.2.2.2.2.2.2.2.2.1 s'.2.2.2.2.2.2.2.2.2.1 s'.2.2.2.2.2.2.2.2.2.2.1 s'.2.2.2.2.2.2.2.2.2.2.2.1 s'.2.2.2.2.2.2.2.2.2.2.2.2.1 s'.2.2.2.2.2.2.2.2.2.2.2.2.2.1 s'.2.2.2.2.2.2.2.2.2.2.2.2.2.2.1 s'.2.2.2.2.2.2.2.2.2.2.2.2.2.2.2.1 s'.2.2.2.2.2.2.2.2.2.2.2.2.2.2.2.2.1 s'.2.2.2.2.2.2.2.2.2.2.2.2.2.2.2.2.2.1 s'.2.2.2.2.2.2.2.2.2.2.2.2.2.2.2.2.2.2.1 s'.2.2.2.2.2.2.2.2.2.2.2.2.2.2.2.2.2.2.2.1 s'.2.2.2.2.2.2.2.2.2.2.2.2.2.2.2.2.2.2.2.2) : wX_exchange_26 post J (nI a) (nI b) (nI k) x4 x5 (nI r) s.1 s.2.1 s.2.2.1 s.2.2.2.1 s.2.2.2.2.1 s.2.2.2.2.2.1 s.2.2.2.2.2.2.1 s.2.2.2.2.2.2.2.1 s.2.2.2.2.2.2.2.2.1 s.2.2.2.2.2.2.2.2.2.1 s.2.2.2.2.2.2.2.2.2.2.1 s.2.2.2.2.2.2.2.2.2.2.2.1 s.2.2.2.2.2.2.2.2.2.2.2.2.1 s.2.2.2.2.2.2.2.2.2.2.2.2.2.1 s.2.2.2.2.2.2.2.2.2.2.2.2.2.2.1 s.2.2.2.2.2.2.2.2.2.2.2.2.2.2.2.1 s.2.2.2.2.2.2.2.2.2.2.2.2.2.2.2.2.1 s.2.2.2.2.2.2.2.2.2.2.2.2.2.2.2.2.2.1 s.2.2.2.2.2.2.2.2.2.2.2.2.2.2.2.2.2.2.1 s.2.2.2.2.2.2.2.2.2.2.2.2.2.2.2.2.2.2.2.1 s.2.2.2.2.2.2.2.2.2.2.2.2.2.2.2.2.2.2.2.2 := by
  have h0 := h
  obtain ⟨h1, h2, h3, h4, ⟨l, hl, el, hr⟩, h5⟩ := h
  have hT : T k < 2 ^ 30 := (h2 a ha k hk).1
  exact br_c (fun z => rr_ct (u := s) el hl (fun q g l' y1 y2 => br_c (fun z0 => rr_ex59 (s := (s.1, s.2.1, s.2.2.1, s.2.2.2.1, s.2.2.2.2.1, s.2.2.2.2.2.1, s.2.2.2.2.2.2.1, (g), (nI l'), s.2.2.2.2.2.2.2.2.2.1, s.2.2.2.2.2.2.2.2.2.2.1, s.2.2.2.2.2.2.2.2.2.2.2.1, s.2.2.2.2.2.2.2.2.2.2.2.2.1, s.2.2.2.2.2.2.2.2.2.2.2.2.2.1, s.2.2.2.2.2.2.2.2.2.2.2.2.2.2.1, s.2.2.2.2.2.2.2.2.2.2.2.2.2.2.2.1, s.2.2.2.2.2.2.2.2.2.2.2.2.2.2.2.2.1, s.2.2.2.2.2.2.2.2.2.2.2.2.2.2.2.2.2.1, s.2.2.2.2.2.2.2.2.2.2.2.2.2.2.2.2.2.2.1, s.2.2.2.2.2.2.2.2.2.2.2.2.2.2.2.2.2.2.2.1, s.2.2.2.2.2.2.2.2.2.2.2.2.2.2.2.2.2.2.2.2)) ha hb hk ⟨h1, h2, h3, h4, ⟨l', by omega, rfl, fun y => by have := hr y; omega⟩, h5⟩ (fun y5 s' g' => H x4 y5 s' g')) (fun z0 => rr_startWork (u := (s.1, s.2.1, s.2.2.1, s.2.2.2.1, s.2.2.2.2.1, s.2.2.2.2.2.1, s.2.2.2.2.2.2.1, (g), (nI l'), s.2.2.2.2.2.2.2.2.2.1, s.2.2.2.2.2.2.2.2.2.2.1, s.2.2.2.2.2.2.2.2.2.2.2.1, s.2.2.2.2.2.2.2.2.2.2.2.2.1, s.2.2.2.2.2.2.2.2.2.2.2.2.2.1, s.2.2.2.2.2.2.2.2.2.2.2.2.2.2.1, s.2.2.2.2.2.2.2.2.2.2.2.2.2.2.2.1, s.2.2.2.2.2.2.2.2.2.2.2.2.2.2.2.2.1, s.2.2.2.2.2.2.2.2.2.2.2.2.2.2.2.2.2.1, s.2.2.2.2.2.2.2.2.2.2.2.2.2.2.2.2.2.2.1, s.2.2.2.2.2.2.2.2.2.2.2.2.2.2.2.2.2.2.2.1, s.2.2.2.2.2.2.2.2.2.2.2.2.2.2.2.2.2.2.2.2)) (rr_hear (u := (s.1, s.2.1, s.2.2.1, (0), (0), (0), (0), (g), (nI l'), s.2.2.2.2.2.2.2.2.2.1, s.2.2.2.2.2.2.2.2.2.2.1, s.2.2.2.2.2.2.2.2.2.2.2.1, s.2.2.2.2.2.2.2.2.2.2.2.2.1, s.2.2.2.2.2.2.2.2.2.2.2.2.2.1, s.2.2.2.2.2.2.2.2.2.2.2.2.2.2.1, s.2.2.2.2.2.2.2.2.2.2.2.2.2.2.2.1, s.2.2.2.2.2.2.2.2.2.2.2.2.2.2.2.2.1, s.2.2.2.2.2.2.2.2.2.2.2.2.2.2.2.2.2.1, s.2.2.2.2.2.2.2.2.2.2.2.2.2.2.2.2.2.2.1, s.2.2.2.2.2.2.2.2.2.2.2.2.2.2.2.2.2.2.2.1, s.2.2.2.2.2.2.2.2.2.2.2.2.2.2.2.2.2.2.2.2)) ha hk h2 (rr_ok0 hT (Or.inl rfl)) (fun s1 v1 t1 p1 p2 p3 => rr_store (u := (s.1, s.2.1, s.2.2.1, (0), (s1), (v1), (t1), (g), (nI l'), s.2.2.2.2.2.2.2.2.2.1, s.2.2.2.2.2.2.2.2.2.2.1, s.2.2.2.2.2.2.2.2.2.2.2.1, s.2.2.2.2.2.2.2.2.2.2.2.2.1, s.2.2.2.2.2.2.2.2.2.2.2.2.2.1, s.2.2.2.2.2.2.2.2.2.2.2.2.2.2.1, s.2.2.2.2.2.2.2.2.2.2.2.2.2.2.2.1, s.2.2.2.2.2.2.2.2.2.2.2.2.2.2.2.2.1, s.2.2.2.2.2.2.2.2.2.2.2.2.2.2.2.2.2.1, s.2.2.2.2.2.2.2.2.2.2.2.2.2.2.2.2.2.2.1, s.2.2.2.2.2.2.2.2.2.2.2.2.2.2.2.2.2.2.2.1, s.2.2.2.2.2.2.2.2.2.2.2.2.2.2.2.2.2.2.2.2)) hb hk h2 p1 (fun b3 b4 b5 z1 z2 z3 => rr_ex59 (s := (s.1, s.2.1, s.2.2.1, (0), (s1), (v1), (t1), (g), (nI l'), s.2.2.2.2.2.2.2.2.2.1, s.2.2.2.2.2.2.2.2.2.2.1, (b3), (b4), (b5), s.2.2.2.2.2.2.2.2.2.2.2.2.2.2.1, s.2.2.2.2.2.2.2.2.2.2.2.2.2.2.2.1, s.2.2.2.2.2.2.2.2.2.2.2.2.2.2.2.2.1, s.2.2.2.2.2.2.2.2.2.2.2.2.2.2.2.2.2.1, s.2.2.2.2.2.2.2.2.2.2.2.2.2.2.2.2.2.2.1, s.2.2.2.2.2.2.2.2.2.2.2.2.2.2.2.2.2.2.2.1, s.2.2.2.2.2.2.2.2.2.2.2.2.2.2.2.2.2.2.2.2)) ha hb hk ⟨h1, z1, h3, rr_G_trans h4 z2, ⟨l', by omega, rfl, fun y => by have := hr y; omega⟩, h5.imp id (fun f e => z2 a ha k hk (f e))⟩ (fun y5 s' g' => H 1 y5 s' g'))))))) (fun z => rr_ex59 (s := s) ha hb hk h0 (fun y5 s' g' => H x4 y5 s' g'))
theorem rr_exchange {post : St1 → Prop} {u : St1} {T : Nat → Nat} {V D : Nat → Int32} {M W a b k : Nat} (ha : a < 6) (hb : b < 6) (hk : k < 16) (hE : rr_E M W u) (hB : rr_B T V D u) (hp : ∀ u' : St1, rr_E M W u' → rr_B T V D u' → rr_G T u.2.2.2.2.2.2.2.2.2.2.2.1 u'.2.2.2.2.2.2.2.2.2.2.2.1 → (u.2.2.2.2.2.2.2.2.2.2.2.1 (b * 16 + k) = nI (T k) → u'.2.2.2.2.2.2.2.2.2.2.2.1 (a * 16 + k) = nI (T k)) → post u') : wpX_exchange post u (nI a) (nI b) (nI k) := by
  obtain ⟨hC, hH, l0, hl0, el0⟩ := hB
  have t : ∃ n, wX_exchange_9 post (nI a) (nI b) (nI k) n 0 0 0 u.1 u.2.1 u.2.2.1 u.2.2.2.1 u.2.2.2.2.1 u.2.2.2.2.2.1 u.2.2.2.2.2.2.1 u.2.2.2.2.2.2.2.1 u.2.2.2.2.2.2.2.2.1 u.2.2.2.2.2.2.2.2.2.1 u.2.2.2.2.2.2.2.2.2.2.1 u.2.2.2.2.2.2.2.2.2.2.2.1 u.2.2.2.2.2.2.2.2.2.2.2.2.1 u.2.2.2.2.2.2.2.2.2.2.2.2.2.1 u.2.2.2.2.2.2.2.2.2.2.2.2.2.2.1 u.2.2.2.2.2.2.2.2.2.2.2.2.2.2.2.1 u.2.2.2.2.2.2.2.2.2.2.2.2.2.2.2.2.1 u.2.2.2.2.2.2.2.2.2.2.2.2.2.2.2.2.2.1 u.2.2.2.2.2.2.2.2.2.2.2.2.2.2.2.2.2.2.1 u.2.2.2.2.2.2.2.2.2.2.2.2.2.2.2.2.2.2.2.1 u.2.2.2.2.2.2.2.2.2.2.2.2.2.2.2.2.2.2.2.2 := by
    refine pk_loop (σ := Int32 × Int32 × St1) (fun n r s => wX_exchange_9 post (nI a) (nI b) (nI k) n s.1 s.2.1 (nI r) s.2.2.1 s.2.2.2.1 s.2.2.2.2.1 s.2.2.2.2.2.1 s.2.2.2.2.2.2.1 s.2.2.2.2.2.2.2.1 s.2.2.2.2.2.2.2.2.1 s.2.2.2.2.2.2.2.2.2.1 s.2.2.2.2.2.2.2.2.2.2.1 s.2.2.2.2.2.2.2.2.2.2.2.1 s.2.2.2.2.2.2.2.2.2.2.2.2.1 s.2.2.2.2.2.2.2.2.2.2.2.2.2.1 s.2.2.2.2.2.2.2.2.2.2.2.2.2.2.1 s.2.2.2.2.2.2.2.2.2.2.2.2.2.2.2.1 s.2.2.2.2.2.2.2.2.2.2.2.2.2.2.2.2.1 s.2.2.2.2.2.2.2.2.2.2.2.2.2.2.2.2.2.1 s.2.2.2.2.2.2.2.2.2.2.2.2.2.2.2.2.2.2.1 s.2.2.2.2.2.2.2.2.2.2.2.2.2.2.2.2.2.2.2.1 s.2.2.2.2.2.2.2.2.2.2.2.2.2.2.2.2.2.2.2.2.1 s.2.2.2.2.2.2.2.2.2.2.2.2.2.2.2.2.2.2.2.2.2.1 s.2.2.2.2.2.2.2.2.2.2.2.2.2.2.2.2.2.2.2.2.2.2) (fun r s => rr_XI T V D M W a b k u r s.1 s.2.1 s.2.2) 80 0 (0, 0, u) (by omega) ⟨hE, hC, hH, rr_G_refl, ⟨l0, hl0, el0, fun _ => hl0⟩, Or.inl rfl⟩ ?_ ?_
    · intro n ⟨x4, x5, s⟩ h
      obtain ⟨h1, h2, h3, h4, ⟨l, hl, el, hr⟩, h5⟩ := h
      refine pk_le 80 80 (fun _ => hp s h1 ⟨h2, h3, l, hl, el⟩ h4 ?_) (fun z => absurd z (by omega))
      rcases h5 with h5 | h5
      · have := hr h5
        omega
      · exact h5
    · intro n r ⟨x4, x5, s⟩ hr h hn
      refine pk_le 80 r (fun z => absurd z (by omega)) (fun _ => br_c (fun z4 => rr_ex26 (s := s) ha hb hk h (fun y4 y5 s' g => hn (y4, y5, s') g)) (fun z4 => br_c (fun z5 => rr_ex26 (s := s) ha hb hk h (fun y4 y5 s' g => hn (y4, y5, s') g)) (fun z5 => ?_)))
      obtain ⟨h1, h2, h3, h4, ⟨l, hl, el, hr⟩, h5⟩ := h
      refine hp s h1 ⟨h2, h3, l, hl, el⟩ h4 ?_
      rcases h5 with h5 | h5
      · exact absurd h5 z5
      · exact h5
  exact t
end
section
theorem rr_leaf31 {post : Int32 → St1 → Prop} {u : St1} {c : Nat} {z0 : Int32} (hc : c < 96) (H : ∀ r, post r (u.1, u.2.1, u.2.2.1, u.2.2.2.1, u.2.2.2.2.1, u.2.2.2.2.2.1, u.2.2.2.2.2.2.1, u.2.2.2.2.2.2.2.1, u.2.2.2.2.2.2.2.2.1, u.2.2.2.2.2.2.2.2.2.1, u.2.2.2.2.2.2.2.2.2.2.1, u.2.2.2.2.2.2.2.2.2.2.2.1, u.2.2.2.2.2.2.2.2.2.2.2.2.1, u.2.2.2.2.2.2.2.2.2.2.2.2.2.1, u.2.2.2.2.2.2.2.2.2.2.2.2.2.2.1, u.2.2.2.2.2.2.2.2.2.2.2.2.2.2.2.1, u.2.2.2.2.2.2.2.2.2.2.2.2.2.2.2.2.1, u.2.2.2.2.2.2.2.2.2.2.2.2.2.2.2.2.2.1, u.2.2.2.2.2.2.2.2.2.2.2.2.2.2.2.2.2.2.1, u.2.2.2.2.2.2.2.2.2.2.2.2.2.2.2.2.2.2.2.1, u.2.2.2.2.2.2.2.2.2.2.2.2.2.2.2.2.2.2.2.2)) : wX_leaf_31 post (nI c) z0 u.1 u.2.1 u.2.2.1 u.2.2.2.1 u.2.2.2.2.1 u.2.2.2.2.2.1 u.2.2.2.2.2.2.1 u.2.2.2.2.2.2.2.1 u.2.2.2.2.2.2.2.2.1 u.2.2.2.2.2.2.2.2.2.1 u.2.2.2.2.2.2.2.2.2.2.1 u.2.2.2.2.2.2.2.2.2.2.2.1 u.2.2.2.2.2.2.2.2.2.2.2.2.1 u.2.2.2.2.2.2.2.2.2.2.2.2.2.1 u.2.2.2.2.2.2.2.2.2.2.2.2.2.2.1 u.2.2.2.2.2.2.2.2.2.2.2.2.2.2.2.1 u.2.2.2.2.2.2.2.2.2.2.2.2.2.2.2.2.1 u.2.2.2.2.2.2.2.2.2.2.2.2.2.2.2.2.2.1 u.2.2.2.2.2.2.2.2.2.2.2.2.2.2.2.2.2.2.1 u.2.2.2.2.2.2.2.2.2.2.2.2.2.2.2.2.2.2.2.1 u.2.2.2.2.2.2.2.2.2.2.2.2.2.2.2.2.2.2.2.2 :=
  br_c (fun _ => H _) (fun _ => And.intro (pk_in c 96 hc) (br_c (fun _ => H _) (fun _ => And.intro (pk_in c 96 hc) (And.intro (pk_in c 96 hc) (And.intro (pk_in c 96 hc) (nm_e (br_c (fun _ => H _) (fun _ => H _))))))))
theorem rr_leaf {post : Int32 → St1 → Prop} {u : St1} {M a b k : Nat} (hM : M < 64) (h3 : 3 ≤ rr_pop M) (hR : rr_Ring M u.2.2.1 u.2.2.2.2.2.2.2.2.2.1 u.2.2.2.2.2.2.2.2.2.2.1) (ha : a < 6) (hb : b < 6) (hk : k < 16) (H : ∀ r b9, post r (u.1, u.2.1, u.2.2.1, u.2.2.2.1, u.2.2.2.2.1, u.2.2.2.2.2.1, u.2.2.2.2.2.2.1, u.2.2.2.2.2.2.2.1, u.2.2.2.2.2.2.2.2.1, u.2.2.2.2.2.2.2.2.2.1, u.2.2.2.2.2.2.2.2.2.2.1, u.2.2.2.2.2.2.2.2.2.2.2.1, u.2.2.2.2.2.2.2.2.2.2.2.2.1, u.2.2.2.2.2.2.2.2.2.2.2.2.2.1, u.2.2.2.2.2.2.2.2.2.2.2.2.2.2.1, u.2.2.2.2.2.2.2.2.2.2.2.2.2.2.2.1, u.2.2.2.2.2.2.2.2.2.2.2.2.2.2.2.2.1, (b9), u.2.2.2.2.2.2.2.2.2.2.2.2.2.2.2.2.2.2.1, u.2.2.2.2.2.2.2.2.2.2.2.2.2.2.2.2.2.2.2.1, u.2.2.2.2.2.2.2.2.2.2.2.2.2.2.2.2.2.2.2.2)) : wpX_leaf post u (nI a) (nI b) (nI k) := by
  unfold wpX_leaf
  exact nm_r (rr_cellE a k) (rr_keeps (u := u) hM h3 hR ha hk (fun r b9 _ _ => br_c (fun _ => rr_leaf31 (u := (u.1, u.2.1, u.2.2.1, u.2.2.2.1, u.2.2.2.2.1, u.2.2.2.2.2.1, u.2.2.2.2.2.2.1, u.2.2.2.2.2.2.2.1, u.2.2.2.2.2.2.2.2.1, u.2.2.2.2.2.2.2.2.2.1, u.2.2.2.2.2.2.2.2.2.2.1, u.2.2.2.2.2.2.2.2.2.2.2.1, u.2.2.2.2.2.2.2.2.2.2.2.2.1, u.2.2.2.2.2.2.2.2.2.2.2.2.2.1, u.2.2.2.2.2.2.2.2.2.2.2.2.2.2.1, u.2.2.2.2.2.2.2.2.2.2.2.2.2.2.2.1, u.2.2.2.2.2.2.2.2.2.2.2.2.2.2.2.2.1, (b9), u.2.2.2.2.2.2.2.2.2.2.2.2.2.2.2.2.2.2.1, u.2.2.2.2.2.2.2.2.2.2.2.2.2.2.2.2.2.2.2.1, u.2.2.2.2.2.2.2.2.2.2.2.2.2.2.2.2.2.2.2.2)) (by omega) (fun r => H r b9)) (fun _ => rr_keeps (u := (u.1, u.2.1, u.2.2.1, u.2.2.2.1, u.2.2.2.2.1, u.2.2.2.2.2.1, u.2.2.2.2.2.2.1, u.2.2.2.2.2.2.2.1, u.2.2.2.2.2.2.2.2.1, u.2.2.2.2.2.2.2.2.2.1, u.2.2.2.2.2.2.2.2.2.2.1, u.2.2.2.2.2.2.2.2.2.2.2.1, u.2.2.2.2.2.2.2.2.2.2.2.2.1, u.2.2.2.2.2.2.2.2.2.2.2.2.2.1, u.2.2.2.2.2.2.2.2.2.2.2.2.2.2.1, u.2.2.2.2.2.2.2.2.2.2.2.2.2.2.2.1, u.2.2.2.2.2.2.2.2.2.2.2.2.2.2.2.2.1, (b9), u.2.2.2.2.2.2.2.2.2.2.2.2.2.2.2.2.2.2.1, u.2.2.2.2.2.2.2.2.2.2.2.2.2.2.2.2.2.2.2.1, u.2.2.2.2.2.2.2.2.2.2.2.2.2.2.2.2.2.2.2.2)) hM h3 hR hb hk (fun r c9 _ _ => br_c (fun _ => rr_leaf31 (u := (u.1, u.2.1, u.2.2.1, u.2.2.2.1, u.2.2.2.2.1, u.2.2.2.2.2.1, u.2.2.2.2.2.2.1, u.2.2.2.2.2.2.2.1, u.2.2.2.2.2.2.2.2.1, u.2.2.2.2.2.2.2.2.2.1, u.2.2.2.2.2.2.2.2.2.2.1, u.2.2.2.2.2.2.2.2.2.2.2.1, u.2.2.2.2.2.2.2.2.2.2.2.2.1, u.2.2.2.2.2.2.2.2.2.2.2.2.2.1, u.2.2.2.2.2.2.2.2.2.2.2.2.2.2.1, u.2.2.2.2.2.2.2.2.2.2.2.2.2.2.2.1, u.2.2.2.2.2.2.2.2.2.2.2.2.2.2.2.2.1, (c9), u.2.2.2.2.2.2.2.2.2.2.2.2.2.2.2.2.2.2.1, u.2.2.2.2.2.2.2.2.2.2.2.2.2.2.2.2.2.2.2.1, u.2.2.2.2.2.2.2.2.2.2.2.2.2.2.2.2.2.2.2.2)) (by omega) (fun r => H r c9)) (fun _ => rr_leaf31 (u := (u.1, u.2.1, u.2.2.1, u.2.2.2.1, u.2.2.2.2.1, u.2.2.2.2.2.1, u.2.2.2.2.2.2.1, u.2.2.2.2.2.2.2.1, u.2.2.2.2.2.2.2.2.1, u.2.2.2.2.2.2.2.2.2.1, u.2.2.2.2.2.2.2.2.2.2.1, u.2.2.2.2.2.2.2.2.2.2.2.1, u.2.2.2.2.2.2.2.2.2.2.2.2.1, u.2.2.2.2.2.2.2.2.2.2.2.2.2.1, u.2.2.2.2.2.2.2.2.2.2.2.2.2.2.1, u.2.2.2.2.2.2.2.2.2.2.2.2.2.2.2.1, u.2.2.2.2.2.2.2.2.2.2.2.2.2.2.2.2.1, (c9), u.2.2.2.2.2.2.2.2.2.2.2.2.2.2.2.2.2.2.1, u.2.2.2.2.2.2.2.2.2.2.2.2.2.2.2.2.2.2.2.1, u.2.2.2.2.2.2.2.2.2.2.2.2.2.2.2.2.2.2.2.2)) (by omega) (fun r => H r c9))))))
theorem rr_leaf_231 {post : Int32 → St1 → Prop} {u : St1} {c : Nat} {z0 : Int32} (hc : c < 96) (H : ∀ r, post r (u.1, u.2.1, u.2.2.1, u.2.2.2.1, u.2.2.2.2.1, u.2.2.2.2.2.1, u.2.2.2.2.2.2.1, u.2.2.2.2.2.2.2.1, u.2.2.2.2.2.2.2.2.1, u.2.2.2.2.2.2.2.2.2.1, u.2.2.2.2.2.2.2.2.2.2.1, u.2.2.2.2.2.2.2.2.2.2.2.1, u.2.2.2.2.2.2.2.2.2.2.2.2.1, u.2.2.2.2.2.2.2.2.2.2.2.2.2.1, u.2.2.2.2.2.2.2.2.2.2.2.2.2.2.1, u.2.2.2.2.2.2.2.2.2.2.2.2.2.2.2.1, u.2.2.2.2.2.2.2.2.2.2.2.2.2.2.2.2.1, u.2.2.2.2.2.2.2.2.2.2.2.2.2.2.2.2.2.1, u.2.2.2.2.2.2.2.2.2.2.2.2.2.2.2.2.2.2.1, u.2.2.2.2.2.2.2.2.2.2.2.2.2.2.2.2.2.2.2.1, u.2.2.2.2.2.2.2.2.2.2.2.2.2.2.2.2.2.2.2.2)) : wX_leaf_2_31 post (nI c) z0 u.1 u.2.1 u.2.2.1 u.2.2.2.1 u.2.2.2.2.1 u.2.2.2.2.2.1 u.2.2.2.2.2.2.1 u.2.2.2.2.2.2.2.1 u.2.2.2.2.2.2.2.2.1 u.2.2.2.2.2.2.2.2.2.1 u.2.2.2.2.2.2.2.2.2.2.1 u.2.2.2.2.2.2.2.2.2.2.2.1 u.2.2.2.2.2.2.2.2.2.2.2.2.1 u.2.2.2.2.2.2.2.2.2.2.2.2.2.1 u.2.2.2.2.2.2.2.2.2.2.2.2.2.2.1 u.2.2.2.2.2.2.2.2.2.2.2.2.2.2.2.1 u.2.2.2.2.2.2.2.2.2.2.2.2.2.2.2.2.1 u.2.2.2.2.2.2.2.2.2.2.2.2.2.2.2.2.2.1 u.2.2.2.2.2.2.2.2.2.2.2.2.2.2.2.2.2.2.1 u.2.2.2.2.2.2.2.2.2.2.2.2.2.2.2.2.2.2.2.1 u.2.2.2.2.2.2.2.2.2.2.2.2.2.2.2.2.2.2.2.2 :=
  br_c (fun _ => H _) (fun _ => And.intro (pk_in c 96 hc) (br_c (fun _ => H _) (fun _ => And.intro (pk_in c 96 hc) (And.intro (pk_in c 96 hc) (And.intro (pk_in c 96 hc) (nm_e (br_c (fun _ => H _) (fun _ => H _))))))))
theorem rr_leaf_2 {post : Int32 → St1 → Prop} {u : St1} {M a b k : Nat} (hM : M < 64) (h3 : 3 ≤ rr_pop M) (hR : rr_Ring M u.2.2.1 u.2.2.2.2.2.2.2.2.2.1 u.2.2.2.2.2.2.2.2.2.2.1) (ha : a < 6) (hb : b < 6) (hk : k < 16) (H : ∀ r b9, post r (u.1, u.2.1, u.2.2.1, u.2.2.2.1, u.2.2.2.2.1, u.2.2.2.2.2.1, u.2.2.2.2.2.2.1, u.2.2.2.2.2.2.2.1, u.2.2.2.2.2.2.2.2.1, u.2.2.2.2.2.2.2.2.2.1, u.2.2.2.2.2.2.2.2.2.2.1, u.2.2.2.2.2.2.2.2.2.2.2.1, u.2.2.2.2.2.2.2.2.2.2.2.2.1, u.2.2.2.2.2.2.2.2.2.2.2.2.2.1, u.2.2.2.2.2.2.2.2.2.2.2.2.2.2.1, u.2.2.2.2.2.2.2.2.2.2.2.2.2.2.2.1, u.2.2.2.2.2.2.2.2.2.2.2.2.2.2.2.2.1, (b9), u.2.2.2.2.2.2.2.2.2.2.2.2.2.2.2.2.2.2.1, u.2.2.2.2.2.2.2.2.2.2.2.2.2.2.2.2.2.2.2.1, u.2.2.2.2.2.2.2.2.2.2.2.2.2.2.2.2.2.2.2.2)) : wpX_leaf_2 post u (nI a) (nI b) (nI k) := by
  unfold wpX_leaf_2
  exact nm_r (rr_cellE a k) (rr_keeps_2 (u := u) hM h3 hR ha hk (fun r b9 _ _ => br_c (fun _ => rr_leaf_231 (u := (u.1, u.2.1, u.2.2.1, u.2.2.2.1, u.2.2.2.2.1, u.2.2.2.2.2.1, u.2.2.2.2.2.2.1, u.2.2.2.2.2.2.2.1, u.2.2.2.2.2.2.2.2.1, u.2.2.2.2.2.2.2.2.2.1, u.2.2.2.2.2.2.2.2.2.2.1, u.2.2.2.2.2.2.2.2.2.2.2.1, u.2.2.2.2.2.2.2.2.2.2.2.2.1, u.2.2.2.2.2.2.2.2.2.2.2.2.2.1, u.2.2.2.2.2.2.2.2.2.2.2.2.2.2.1, u.2.2.2.2.2.2.2.2.2.2.2.2.2.2.2.1, u.2.2.2.2.2.2.2.2.2.2.2.2.2.2.2.2.1, (b9), u.2.2.2.2.2.2.2.2.2.2.2.2.2.2.2.2.2.2.1, u.2.2.2.2.2.2.2.2.2.2.2.2.2.2.2.2.2.2.2.1, u.2.2.2.2.2.2.2.2.2.2.2.2.2.2.2.2.2.2.2.2)) (by omega) (fun r => H r b9)) (fun _ => rr_keeps_2 (u := (u.1, u.2.1, u.2.2.1, u.2.2.2.1, u.2.2.2.2.1, u.2.2.2.2.2.1, u.2.2.2.2.2.2.1, u.2.2.2.2.2.2.2.1, u.2.2.2.2.2.2.2.2.1, u.2.2.2.2.2.2.2.2.2.1, u.2.2.2.2.2.2.2.2.2.2.1, u.2.2.2.2.2.2.2.2.2.2.2.1, u.2.2.2.2.2.2.2.2.2.2.2.2.1, u.2.2.2.2.2.2.2.2.2.2.2.2.2.1, u.2.2.2.2.2.2.2.2.2.2.2.2.2.2.1, u.2.2.2.2.2.2.2.2.2.2.2.2.2.2.2.1, u.2.2.2.2.2.2.2.2.2.2.2.2.2.2.2.2.1, (b9), u.2.2.2.2.2.2.2.2.2.2.2.2.2.2.2.2.2.2.1, u.2.2.2.2.2.2.2.2.2.2.2.2.2.2.2.2.2.2.2.1, u.2.2.2.2.2.2.2.2.2.2.2.2.2.2.2.2.2.2.2.2)) hM h3 hR hb hk (fun r c9 _ _ => br_c (fun _ => rr_leaf_231 (u := (u.1, u.2.1, u.2.2.1, u.2.2.2.1, u.2.2.2.2.1, u.2.2.2.2.2.1, u.2.2.2.2.2.2.1, u.2.2.2.2.2.2.2.1, u.2.2.2.2.2.2.2.2.1, u.2.2.2.2.2.2.2.2.2.1, u.2.2.2.2.2.2.2.2.2.2.1, u.2.2.2.2.2.2.2.2.2.2.2.1, u.2.2.2.2.2.2.2.2.2.2.2.2.1, u.2.2.2.2.2.2.2.2.2.2.2.2.2.1, u.2.2.2.2.2.2.2.2.2.2.2.2.2.2.1, u.2.2.2.2.2.2.2.2.2.2.2.2.2.2.2.1, u.2.2.2.2.2.2.2.2.2.2.2.2.2.2.2.2.1, (c9), u.2.2.2.2.2.2.2.2.2.2.2.2.2.2.2.2.2.2.1, u.2.2.2.2.2.2.2.2.2.2.2.2.2.2.2.2.2.2.2.1, u.2.2.2.2.2.2.2.2.2.2.2.2.2.2.2.2.2.2.2.2)) (by omega) (fun r => H r c9)) (fun _ => rr_leaf_231 (u := (u.1, u.2.1, u.2.2.1, u.2.2.2.1, u.2.2.2.2.1, u.2.2.2.2.2.1, u.2.2.2.2.2.2.1, u.2.2.2.2.2.2.2.1, u.2.2.2.2.2.2.2.2.1, u.2.2.2.2.2.2.2.2.2.1, u.2.2.2.2.2.2.2.2.2.2.1, u.2.2.2.2.2.2.2.2.2.2.2.1, u.2.2.2.2.2.2.2.2.2.2.2.2.1, u.2.2.2.2.2.2.2.2.2.2.2.2.2.1, u.2.2.2.2.2.2.2.2.2.2.2.2.2.2.1, u.2.2.2.2.2.2.2.2.2.2.2.2.2.2.2.1, u.2.2.2.2.2.2.2.2.2.2.2.2.2.2.2.2.1, (c9), u.2.2.2.2.2.2.2.2.2.2.2.2.2.2.2.2.2.2.1, u.2.2.2.2.2.2.2.2.2.2.2.2.2.2.2.2.2.2.2.1, u.2.2.2.2.2.2.2.2.2.2.2.2.2.2.2.2.2.2.2.2)) (by omega) (fun r => H r c9))))))
theorem rr_gt49 {post : St1 → Prop} {u : St1} (H : ∀ t1 t2, post (u.1, u.2.1, u.2.2.1, u.2.2.2.1, u.2.2.2.2.1, u.2.2.2.2.2.1, u.2.2.2.2.2.2.1, u.2.2.2.2.2.2.2.1, u.2.2.2.2.2.2.2.2.1, u.2.2.2.2.2.2.2.2.2.1, u.2.2.2.2.2.2.2.2.2.2.1, u.2.2.2.2.2.2.2.2.2.2.2.1, u.2.2.2.2.2.2.2.2.2.2.2.2.1, u.2.2.2.2.2.2.2.2.2.2.2.2.2.1, u.2.2.2.2.2.2.2.2.2.2.2.2.2.2.1, u.2.2.2.2.2.2.2.2.2.2.2.2.2.2.2.1, u.2.2.2.2.2.2.2.2.2.2.2.2.2.2.2.2.1, u.2.2.2.2.2.2.2.2.2.2.2.2.2.2.2.2.2.1, (t1), (t2), u.2.2.2.2.2.2.2.2.2.2.2.2.2.2.2.2.2.2.2.2)) : ∀ i, i ≤ 15 → ∀ t1 t2, wX_growTrees_49 post u.1 u.2.1 u.2.2.1 u.2.2.2.1 u.2.2.2.2.1 u.2.2.2.2.2.1 u.2.2.2.2.2.2.1 u.2.2.2.2.2.2.2.1 u.2.2.2.2.2.2.2.2.1 (i + 1) (nI i - 1) u.2.2.2.2.2.2.2.2.2.1 u.2.2.2.2.2.2.2.2.2.2.1 u.2.2.2.2.2.2.2.2.2.2.2.1 u.2.2.2.2.2.2.2.2.2.2.2.2.1 u.2.2.2.2.2.2.2.2.2.2.2.2.2.1 u.2.2.2.2.2.2.2.2.2.2.2.2.2.2.1 u.2.2.2.2.2.2.2.2.2.2.2.2.2.2.2.1 u.2.2.2.2.2.2.2.2.2.2.2.2.2.2.2.2.1 u.2.2.2.2.2.2.2.2.2.2.2.2.2.2.2.2.2.1 (t1) (t2) u.2.2.2.2.2.2.2.2.2.2.2.2.2.2.2.2.2.2.2.2 := by
  intro i
  induction i with
  | zero =>
    intro _ t1 t2
    exact br_t (by decide) (H t1 t2)
  | succ i ih =>
    intro hi t1 t2
    have e1 : 2 * nI i + 1 = nI (2 * i + 1) := by rw [show 2 * nI i = nI (2 * i) from pk_mul 2 i, nI_1]
    have e2 : 2 * nI i + 2 = nI (2 * i + 2) := by rw [show 2 * nI i = nI (2 * i) from pk_mul 2 i]; exact nI_add _ 2
    have e3 : nI i + (-1) = nI i - 1 := by grind
    rw [nI_pred]
    exact pk_lt i 0 (fun z => absurd z (by omega)) (fun _ => And.intro (pk_in (2 * i + 1) 31 (by omega) (hx := e1)) (And.intro (pk_in (2 * i + 2) 31 (by omega) (hx := e2)) (And.intro (pk_in i 31 (by omega)) (nm_e (And.intro (pk_in (2 * i + 1) 31 (by omega) (hx := e1)) (And.intro (pk_in (2 * i + 2) 31 (by omega) (hx := e2)) (And.intro (pk_in i 31 (by omega)) (nm_e (nm_r e3 (ih (by omega) _ _))))))))))
theorem rr_growTrees {post : St1 → Prop} {u : St1} {M a b : Nat} (hM : M < 64) (h3 : 3 ≤ rr_pop M) (hR : rr_Ring M u.2.2.1 u.2.2.2.2.2.2.2.2.2.1 u.2.2.2.2.2.2.2.2.2.2.1) (ha : a < 6) (hb : b < 6) (H : ∀ b9 t1 t2, post (u.1, u.2.1, u.2.2.1, u.2.2.2.1, u.2.2.2.2.1, u.2.2.2.2.2.1, u.2.2.2.2.2.2.1, u.2.2.2.2.2.2.2.1, u.2.2.2.2.2.2.2.2.1, u.2.2.2.2.2.2.2.2.2.1, u.2.2.2.2.2.2.2.2.2.2.1, u.2.2.2.2.2.2.2.2.2.2.2.1, u.2.2.2.2.2.2.2.2.2.2.2.2.1, u.2.2.2.2.2.2.2.2.2.2.2.2.2.1, u.2.2.2.2.2.2.2.2.2.2.2.2.2.2.1, u.2.2.2.2.2.2.2.2.2.2.2.2.2.2.2.1, u.2.2.2.2.2.2.2.2.2.2.2.2.2.2.2.2.1, (b9), (t1), (t2), u.2.2.2.2.2.2.2.2.2.2.2.2.2.2.2.2.2.2.2.2)) : wpX_growTrees post u (nI a) (nI b) := by
  have t : ∃ n, wX_growTrees_2 post (nI a) (nI b) n 0 u.1 u.2.1 u.2.2.1 u.2.2.2.1 u.2.2.2.2.1 u.2.2.2.2.2.1 u.2.2.2.2.2.2.1 u.2.2.2.2.2.2.2.1 u.2.2.2.2.2.2.2.2.1 u.2.2.2.2.2.2.2.2.2.1 u.2.2.2.2.2.2.2.2.2.2.1 u.2.2.2.2.2.2.2.2.2.2.2.1 u.2.2.2.2.2.2.2.2.2.2.2.2.1 u.2.2.2.2.2.2.2.2.2.2.2.2.2.1 u.2.2.2.2.2.2.2.2.2.2.2.2.2.2.1 u.2.2.2.2.2.2.2.2.2.2.2.2.2.2.2.1 u.2.2.2.2.2.2.2.2.2.2.2.2.2.2.2.2.1 u.2.2.2.2.2.2.2.2.2.2.2.2.2.2.2.2.2.1 u.2.2.2.2.2.2.2.2.2.2.2.2.2.2.2.2.2.2.1 u.2.2.2.2.2.2.2.2.2.2.2.2.2.2.2.2.2.2.2.1 u.2.2.2.2.2.2.2.2.2.2.2.2.2.2.2.2.2.2.2.2 := by
    refine pk_loop (σ := (Nat → Int32) × (Nat → Int32) × (Nat → Int32)) (fun n k s => wX_growTrees_2 post (nI a) (nI b) n (nI k) u.1 u.2.1 u.2.2.1 u.2.2.2.1 u.2.2.2.2.1 u.2.2.2.2.2.1 u.2.2.2.2.2.2.1 u.2.2.2.2.2.2.2.1 u.2.2.2.2.2.2.2.2.1 u.2.2.2.2.2.2.2.2.2.1 u.2.2.2.2.2.2.2.2.2.2.1 u.2.2.2.2.2.2.2.2.2.2.2.1 u.2.2.2.2.2.2.2.2.2.2.2.2.1 u.2.2.2.2.2.2.2.2.2.2.2.2.2.1 u.2.2.2.2.2.2.2.2.2.2.2.2.2.2.1 u.2.2.2.2.2.2.2.2.2.2.2.2.2.2.2.1 u.2.2.2.2.2.2.2.2.2.2.2.2.2.2.2.2.1 (s.1) (s.2.1) (s.2.2) u.2.2.2.2.2.2.2.2.2.2.2.2.2.2.2.2.2.2.2.2) (fun k s => True) 16 0 (u.2.2.2.2.2.2.2.2.2.2.2.2.2.2.2.2.2.1, u.2.2.2.2.2.2.2.2.2.2.2.2.2.2.2.2.2.2.1, u.2.2.2.2.2.2.2.2.2.2.2.2.2.2.2.2.2.2.2.1) (by omega) trivial ?_ ?_
    · intro n ⟨b9, t1, t2⟩ _
      exact pk_le 16 16 (fun _ => Exists.intro _ (rr_gt49 (u := (u.1, u.2.1, u.2.2.1, u.2.2.2.1, u.2.2.2.2.1, u.2.2.2.2.2.1, u.2.2.2.2.2.2.1, u.2.2.2.2.2.2.2.1, u.2.2.2.2.2.2.2.2.1, u.2.2.2.2.2.2.2.2.2.1, u.2.2.2.2.2.2.2.2.2.2.1, u.2.2.2.2.2.2.2.2.2.2.2.1, u.2.2.2.2.2.2.2.2.2.2.2.2.1, u.2.2.2.2.2.2.2.2.2.2.2.2.2.1, u.2.2.2.2.2.2.2.2.2.2.2.2.2.2.1, u.2.2.2.2.2.2.2.2.2.2.2.2.2.2.2.1, u.2.2.2.2.2.2.2.2.2.2.2.2.2.2.2.2.1, (b9), (t1), (t2), u.2.2.2.2.2.2.2.2.2.2.2.2.2.2.2.2.2.2.2.2)) (fun c1 c2 => H b9 c1 c2) 15 (by omega) t1 t2)) (fun z => absurd z (by omega))
    · intro n k ⟨b9, t1, t2⟩ hk _ hn
      exact pk_le 16 k (fun z => absurd z (by omega)) (fun _ => rr_leaf (u := (u.1, u.2.1, u.2.2.1, u.2.2.2.1, u.2.2.2.2.1, u.2.2.2.2.2.1, u.2.2.2.2.2.2.1, u.2.2.2.2.2.2.2.1, u.2.2.2.2.2.2.2.2.1, u.2.2.2.2.2.2.2.2.2.1, u.2.2.2.2.2.2.2.2.2.2.1, u.2.2.2.2.2.2.2.2.2.2.2.1, u.2.2.2.2.2.2.2.2.2.2.2.2.1, u.2.2.2.2.2.2.2.2.2.2.2.2.2.1, u.2.2.2.2.2.2.2.2.2.2.2.2.2.2.1, u.2.2.2.2.2.2.2.2.2.2.2.2.2.2.2.1, u.2.2.2.2.2.2.2.2.2.2.2.2.2.2.2.2.1, (b9), (t1), (t2), u.2.2.2.2.2.2.2.2.2.2.2.2.2.2.2.2.2.2.2.2)) hM h3 hR ha hb hk (fun r c9 => And.intro (pk_in (15 + k) 31 (by omega) (hx := nI_add 15 k)) (nm_e (rr_leaf_2 (u := (u.1, u.2.1, u.2.2.1, u.2.2.2.1, u.2.2.2.2.1, u.2.2.2.2.2.1, u.2.2.2.2.2.2.1, u.2.2.2.2.2.2.2.1, u.2.2.2.2.2.2.2.2.1, u.2.2.2.2.2.2.2.2.2.1, u.2.2.2.2.2.2.2.2.2.2.1, u.2.2.2.2.2.2.2.2.2.2.2.1, u.2.2.2.2.2.2.2.2.2.2.2.2.1, u.2.2.2.2.2.2.2.2.2.2.2.2.2.1, u.2.2.2.2.2.2.2.2.2.2.2.2.2.2.1, u.2.2.2.2.2.2.2.2.2.2.2.2.2.2.2.1, u.2.2.2.2.2.2.2.2.2.2.2.2.2.2.2.2.1, (c9), (upd t1 (15 + nI k).toNatClampNeg r), (t2), u.2.2.2.2.2.2.2.2.2.2.2.2.2.2.2.2.2.2.2.2)) hM h3 hR hb ha hk (fun r' d9 => And.intro (pk_in (15 + k) 31 (by omega) (hx := nI_add 15 k)) (nm_e (nm_r (nI_1 k) (hn (d9, upd t1 (15 + nI k).toNatClampNeg r, upd t2 (15 + nI k).toNatClampNeg r') trivial))))))))
  exact t
end
section
theorem rr_cm68 {post : St1 → Prop} {J : Int32 → Int32 → Int32 → Int32 → Int32 → Int32 → Int32 → Int32 → Int32 → Int32 → (Nat → Int32) → (Nat → Int32) → (Nat → Int32) → (Nat → Int32) → (Nat → Int32) → (Nat → Int32) → (Nat → Int32) → (Nat → Int32) → (Nat → Int32) → (Nat → Int32) → (Nat → Int32) → (Nat → Int32) → Prop} {u : St1} {T : Nat → Nat} {V D : Nat → Int32} {M W a b i : Nat} {z0 : Int32} (ha : a < 6) (hb : b < 6) (hi : i < 31) (hE : rr_E M W u) (hB : rr_B T V D u) (H : ∀ u' : St1, rr_E M W u' → rr_B T V D u' → rr_G T u.2.2.2.2.2.2.2.2.2.2.2.1 u'.2.2.2.2.2.2.2.2.2.2.2.1 → J (nI (i + 1)) u'.1 u'.2.1 u'.2.2.1 u'.2.2.2.1 u'.2.2.2.2.1 u'.2.2.2.2.2.1 u'.2.2.2.2.2.2.1 u'.2.2.2.2.2.2.2.1 u'.2.2.2.2.2.2.2.2.1 u'.2.2.2.2.2.2.2.2.2.1 u'.2.2.2.2.2.2.2.2.2.2.1 u'.2.2.2.2.2.2.2.2.2.2.2.1 u'.2.2.2.2.2.2.2.2.2.2.2.2.1 u'.2.2.2.2.2.2.2.2.2.2.2.2.2.1 u'.2.2.2.2.2.2.2.2.2.2.2.2.2.2.1 u'.2.2.2.2.2.2.2.2.2.2.2.2.2.2.2.1 u'.2.2.2.2.2.2.2.2.2.2.2.2.2.2.2.2.1 u'.2.2.2.2.2.2.2.2.2.2.2.2.2.2.2.2.2.1 u'.2.2.2.2.2.2.2.2.2.2.2.2.2.2.2.2.2.2.1 u'.2.2.2.2.2.2.2.2.2.2.2.2.2.2.2.2.2.2.2.1 u'.2.2.2.2.2.2.2.2.2.2.2.2.2.2.2.2.2.2.2.2) : wX_compare_68 post J (nI a) (nI b) (nI i) z0 (nI i) u.1 u.2.1 u.2.2.1 u.2.2.2.1 u.2.2.2.2.1 u.2.2.2.2.2.1 u.2.2.2.2.2.2.1 u.2.2.2.2.2.2.2.1 u.2.2.2.2.2.2.2.2.1 u.2.2.2.2.2.2.2.2.2.1 u.2.2.2.2.2.2.2.2.2.2.1 u.2.2.2.2.2.2.2.2.2.2.2.1 u.2.2.2.2.2.2.2.2.2.2.2.2.1 u.2.2.2.2.2.2.2.2.2.2.2.2.2.1 u.2.2.2.2.2.2.2.2.2.2.2.2.2.2.1 u.2.2.2.2.2.2.2.2.2.2.2.2.2.2.2.1 u.2.2.2.2.2.2.2.2.2.2.2.2.2.2.2.2.1 u.2.2.2.2.2.2.2.2.2.2.2.2.2.2.2.2.2.1 u.2.2.2.2.2.2.2.2.2.2.2.2.2.2.2.2.2.2.1 u.2.2.2.2.2.2.2.2.2.2.2.2.2.2.2.2.2.2.2.1 u.2.2.2.2.2.2.2.2.2.2.2.2.2.2.2.2.2.2.2.2 := by
  refine And.intro (pk_in i 31 hi) (nm_e (And.intro (pk_in i 31 hi) (br_c (fun _ => nm_r (nI_1 i) (H (u.1, u.2.1, u.2.2.1, u.2.2.2.1, u.2.2.2.2.1, u.2.2.2.2.2.1, u.2.2.2.2.2.2.1, u.2.2.2.2.2.2.2.1, u.2.2.2.2.2.2.2.2.1, u.2.2.2.2.2.2.2.2.2.1, u.2.2.2.2.2.2.2.2.2.2.1, u.2.2.2.2.2.2.2.2.2.2.2.1, u.2.2.2.2.2.2.2.2.2.2.2.2.1, u.2.2.2.2.2.2.2.2.2.2.2.2.2.1, u.2.2.2.2.2.2.2.2.2.2.2.2.2.2.1, u.2.2.2.2.2.2.2.2.2.2.2.2.2.2.2.1, u.2.2.2.2.2.2.2.2.2.2.2.2.2.2.2.2.1, u.2.2.2.2.2.2.2.2.2.2.2.2.2.2.2.2.2.1, u.2.2.2.2.2.2.2.2.2.2.2.2.2.2.2.2.2.2.1, u.2.2.2.2.2.2.2.2.2.2.2.2.2.2.2.2.2.2.2.1, (upd u.2.2.2.2.2.2.2.2.2.2.2.2.2.2.2.2.2.2.2.2 (nI i).toNatClampNeg (vp_nar .boolean z0))) hE hB rr_G_refl)) (fun _ => pk_lt i 15 (fun _ => nm_r (nI_1 i) (H (u.1, u.2.1, u.2.2.1, u.2.2.2.1, u.2.2.2.2.1, u.2.2.2.2.2.1, u.2.2.2.2.2.2.1, u.2.2.2.2.2.2.2.1, u.2.2.2.2.2.2.2.2.1, u.2.2.2.2.2.2.2.2.2.1, u.2.2.2.2.2.2.2.2.2.2.1, u.2.2.2.2.2.2.2.2.2.2.2.1, u.2.2.2.2.2.2.2.2.2.2.2.2.1, u.2.2.2.2.2.2.2.2.2.2.2.2.2.1, u.2.2.2.2.2.2.2.2.2.2.2.2.2.2.1, u.2.2.2.2.2.2.2.2.2.2.2.2.2.2.2.1, u.2.2.2.2.2.2.2.2.2.2.2.2.2.2.2.2.1, u.2.2.2.2.2.2.2.2.2.2.2.2.2.2.2.2.2.1, u.2.2.2.2.2.2.2.2.2.2.2.2.2.2.2.2.2.2.1, u.2.2.2.2.2.2.2.2.2.2.2.2.2.2.2.2.2.2.2.1, (upd u.2.2.2.2.2.2.2.2.2.2.2.2.2.2.2.2.2.2.2.2 (nI i).toNatClampNeg (vp_nar .boolean z0))) hE hB rr_G_refl)) (fun z => ?_)))))
  have e : nI i - 15 = nI (i - 15) := pk_sub (b := 15) z
  show wpX_exchange _ _ (nI a) (nI b) (nI i - 15)
  rw [e]
  exact rr_exchange (u := (u.1, u.2.1, u.2.2.1, u.2.2.2.1, u.2.2.2.2.1, u.2.2.2.2.2.1, u.2.2.2.2.2.2.1, u.2.2.2.2.2.2.2.1, u.2.2.2.2.2.2.2.2.1, u.2.2.2.2.2.2.2.2.2.1, u.2.2.2.2.2.2.2.2.2.2.1, u.2.2.2.2.2.2.2.2.2.2.2.1, u.2.2.2.2.2.2.2.2.2.2.2.2.1, u.2.2.2.2.2.2.2.2.2.2.2.2.2.1, u.2.2.2.2.2.2.2.2.2.2.2.2.2.2.1, u.2.2.2.2.2.2.2.2.2.2.2.2.2.2.2.1, u.2.2.2.2.2.2.2.2.2.2.2.2.2.2.2.2.1, u.2.2.2.2.2.2.2.2.2.2.2.2.2.2.2.2.2.1, u.2.2.2.2.2.2.2.2.2.2.2.2.2.2.2.2.2.2.1, u.2.2.2.2.2.2.2.2.2.2.2.2.2.2.2.2.2.2.2.1, (upd u.2.2.2.2.2.2.2.2.2.2.2.2.2.2.2.2.2.2.2.2 (nI i).toNatClampNeg (vp_nar .boolean z0)))) ha hb (by omega) hE hB (fun u' y1 y2 y3 _ => nm_r (nI_1 i) (H u' y1 y2 y3))
theorem rr_cm36 {post : St1 → Prop} {J : Int32 → Int32 → Int32 → Int32 → Int32 → Int32 → Int32 → Int32 → Int32 → Int32 → (Nat → Int32) → (Nat → Int32) → (Nat → Int32) → (Nat → Int32) → (Nat → Int32) → (Nat → Int32) → (Nat → Int32) → (Nat → Int32) → (Nat → Int32) → (Nat → Int32) → (Nat → Int32) → (Nat → Int32) → Prop} {u : St1} {T : Nat → Nat} {V D : Nat → Int32} {M W a b i : Nat} {z0 : Int32} (ha : a < 6) (hb : b < 6) (hi : i < 31) (hE : rr_E M W u) (hB : rr_B T V D u) (H : ∀ u' : St1, rr_E M W u' → rr_B T V D u' → rr_G T u.2.2.2.2.2.2.2.2.2.2.2.1 u'.2.2.2.2.2.2.2.2.2.2.2.1 → J (nI (i + 1)) u'.1 u'.2.1 u'.2.2.1 u'.2.2.2.1 u'.2.2.2.2.1 u'.2.2.2.2.2.1 u'.2.2.2.2.2.2.1 u'.2.2.2.2.2.2.2.1 u'.2.2.2.2.2.2.2.2.1 u'.2.2.2.2.2.2.2.2.2.1 u'.2.2.2.2.2.2.2.2.2.2.1 u'.2.2.2.2.2.2.2.2.2.2.2.1 u'.2.2.2.2.2.2.2.2.2.2.2.2.1 u'.2.2.2.2.2.2.2.2.2.2.2.2.2.1 u'.2.2.2.2.2.2.2.2.2.2.2.2.2.2.1 u'.2.2.2.2.2.2.2.2.2.2.2.2.2.2.2.1 u'.2.2.2.2.2.2.2.2.2.2.2.2.2.2.2.2.1 u'.2.2.2.2.2.2.2.2.2.2.2.2.2.2.2.2.2.1 u'.2.2.2.2.2.2.2.2.2.2.2.2.2.2.2.2.2.2.1 u'.2.2.2.2.2.2.2.2.2.2.2.2.2.2.2.2.2.2.2.1 u'.2.2.2.2.2.2.2.2.2.2.2.2.2.2.2.2.2.2.2.2) : wX_compare_36 post J (nI a) (nI b) (nI i) z0 u.1 u.2.1 u.2.2.1 u.2.2.2.1 u.2.2.2.2.1 u.2.2.2.2.2.1 u.2.2.2.2.2.2.1 u.2.2.2.2.2.2.2.1 u.2.2.2.2.2.2.2.2.1 u.2.2.2.2.2.2.2.2.2.1 u.2.2.2.2.2.2.2.2.2.2.1 u.2.2.2.2.2.2.2.2.2.2.2.1 u.2.2.2.2.2.2.2.2.2.2.2.2.1 u.2.2.2.2.2.2.2.2.2.2.2.2.2.1 u.2.2.2.2.2.2.2.2.2.2.2.2.2.2.1 u.2.2.2.2.2.2.2.2.2.2.2.2.2.2.2.1 u.2.2.2.2.2.2.2.2.2.2.2.2.2.2.2.2.1 u.2.2.2.2.2.2.2.2.2.2.2.2.2.2.2.2.2.1 u.2.2.2.2.2.2.2.2.2.2.2.2.2.2.2.2.2.2.1 u.2.2.2.2.2.2.2.2.2.2.2.2.2.2.2.2.2.2.2.1 u.2.2.2.2.2.2.2.2.2.2.2.2.2.2.2.2.2.2.2.2 :=
  br_c (fun _ => rr_cm68 (u := u) ha hb hi hE hB H) (fun _ => And.intro (pk_in i 31 hi) (And.intro (pk_in i 31 hi) (br_c (fun _ => rr_cm68 (u := u) ha hb hi hE hB H) (fun _ => rr_cm68 (u := u) ha hb hi hE hB H))))
def rr_both (M k a b : Nat) : Prop := (∃ i, i < 3 ∧ rr_kp M k i = a) ∧ (∃ i, i < 3 ∧ rr_kp M k i = b)
theorem rr_cm102 {post : St1 → Prop} {u : St1} {T : Nat → Nat} {V D : Nat → Int32} {M W a b : Nat} (hw : rr_wf M W) (ha : a < 6) (hb : b < 6) (hE : rr_E M W u) (hB : rr_B T V D u) (H : ∀ u' : St1, rr_E M W u' → rr_B T V D u' → rr_G T u.2.2.2.2.2.2.2.2.2.2.2.1 u'.2.2.2.2.2.2.2.2.2.2.2.1 → (∀ k, k < 16 → rr_both M k a b → u.2.2.2.2.2.2.2.2.2.2.2.1 (b * 16 + k) = nI (T k) → u'.2.2.2.2.2.2.2.2.2.2.2.1 (a * 16 + k) = nI (T k)) → post u') : ∃ n, wX_compare_102 post (nI a) (nI b) n 0 u.1 u.2.1 u.2.2.1 u.2.2.2.1 u.2.2.2.2.1 u.2.2.2.2.2.1 u.2.2.2.2.2.2.1 u.2.2.2.2.2.2.2.1 u.2.2.2.2.2.2.2.2.1 u.2.2.2.2.2.2.2.2.2.1 u.2.2.2.2.2.2.2.2.2.2.1 u.2.2.2.2.2.2.2.2.2.2.2.1 u.2.2.2.2.2.2.2.2.2.2.2.2.1 u.2.2.2.2.2.2.2.2.2.2.2.2.2.1 u.2.2.2.2.2.2.2.2.2.2.2.2.2.2.1 u.2.2.2.2.2.2.2.2.2.2.2.2.2.2.2.1 u.2.2.2.2.2.2.2.2.2.2.2.2.2.2.2.2.1 u.2.2.2.2.2.2.2.2.2.2.2.2.2.2.2.2.2.1 u.2.2.2.2.2.2.2.2.2.2.2.2.2.2.2.2.2.2.1 u.2.2.2.2.2.2.2.2.2.2.2.2.2.2.2.2.2.2.2.1 u.2.2.2.2.2.2.2.2.2.2.2.2.2.2.2.2.2.2.2.2 := by
  refine pk_loop (σ := St1) (fun n k s => wX_compare_102 post (nI a) (nI b) n (nI k) s.1 s.2.1 s.2.2.1 s.2.2.2.1 s.2.2.2.2.1 s.2.2.2.2.2.1 s.2.2.2.2.2.2.1 s.2.2.2.2.2.2.2.1 s.2.2.2.2.2.2.2.2.1 s.2.2.2.2.2.2.2.2.2.1 s.2.2.2.2.2.2.2.2.2.2.1 s.2.2.2.2.2.2.2.2.2.2.2.1 s.2.2.2.2.2.2.2.2.2.2.2.2.1 s.2.2.2.2.2.2.2.2.2.2.2.2.2.1 s.2.2.2.2.2.2.2.2.2.2.2.2.2.2.1 s.2.2.2.2.2.2.2.2.2.2.2.2.2.2.2.1 s.2.2.2.2.2.2.2.2.2.2.2.2.2.2.2.2.1 s.2.2.2.2.2.2.2.2.2.2.2.2.2.2.2.2.2.1 s.2.2.2.2.2.2.2.2.2.2.2.2.2.2.2.2.2.2.1 s.2.2.2.2.2.2.2.2.2.2.2.2.2.2.2.2.2.2.2.1 s.2.2.2.2.2.2.2.2.2.2.2.2.2.2.2.2.2.2.2.2) (fun k s => rr_E M W s ∧ rr_B T V D s ∧ rr_G T u.2.2.2.2.2.2.2.2.2.2.2.1 s.2.2.2.2.2.2.2.2.2.2.2.1 ∧ (∀ k', k' < k → rr_both M k' a b → u.2.2.2.2.2.2.2.2.2.2.2.1 (b * 16 + k') = nI (T k') → s.2.2.2.2.2.2.2.2.2.2.2.1 (a * 16 + k') = nI (T k'))) 16 0 u (by omega) ⟨hE, hB, rr_G_refl, fun k' z => absurd z (by omega)⟩ ?_ ?_
  · intro n s h
    exact pk_le 16 16 (fun _ => H s h.1 h.2.1 h.2.2.1 h.2.2.2) (fun z => absurd z (by omega))
  · intro n k s hk h hn
    obtain ⟨h1, h2, h3, h4⟩ := h
    have no : ∀ x, (∀ i, i < 3 → rr_kp M k i ≠ x) → (x = a ∨ x = b) → ¬ rr_both M k a b := by
      intro x hx e
      rintro ⟨⟨i, i1, i2⟩, ⟨j, j1, j2⟩⟩
      rcases e with e | e
      · exact hx i i1 (by rw [i2, e])
      · exact hx j j1 (by rw [j2, e])
    have go : ∀ s' : St1, rr_E M W s' → rr_B T V D s' → rr_G T s.2.2.2.2.2.2.2.2.2.2.2.1 s'.2.2.2.2.2.2.2.2.2.2.2.1 → (rr_both M k a b → s.2.2.2.2.2.2.2.2.2.2.2.1 (b * 16 + k) = nI (T k) → s'.2.2.2.2.2.2.2.2.2.2.2.1 (a * 16 + k) = nI (T k)) → wX_compare_102 post (nI a) (nI b) n (nI (k + 1)) s'.1 s'.2.1 s'.2.2.1 s'.2.2.2.1 s'.2.2.2.2.1 s'.2.2.2.2.2.1 s'.2.2.2.2.2.2.1 s'.2.2.2.2.2.2.2.1 s'.2.2.2.2.2.2.2.2.1 s'.2.2.2.2.2.2.2.2.2.1 s'.2.2.2.2.2.2.2.2.2.2.1 s'.2.2.2.2.2.2.2.2.2.2.2.1 s'.2.2.2.2.2.2.2.2.2.2.2.2.1 s'.2.2.2.2.2.2.2.2.2.2.2.2.2.1 s'.2.2.2.2.2.2.2.2.2.2.2.2.2.2.1 s'.2.2.2.2.2.2.2.2.2.2.2.2.2.2.2.1 s'.2.2.2.2.2.2.2.2.2.2.2.2.2.2.2.2.1 s'.2.2.2.2.2.2.2.2.2.2.2.2.2.2.2.2.2.1 s'.2.2.2.2.2.2.2.2.2.2.2.2.2.2.2.2.2.2.1 s'.2.2.2.2.2.2.2.2.2.2.2.2.2.2.2.2.2.2.2.1 s'.2.2.2.2.2.2.2.2.2.2.2.2.2.2.2.2.2.2.2.2 := by
      intro s' y1 y2 y3 y4
      refine hn s' ⟨y1, y2, rr_G_trans h3 y3, fun k' hk' z1 z2 => ?_⟩
      by_cases e : k' = k
      · subst e
        exact y4 z1 (h3 b hb k' hk z2)
      · exact y3 a ha k' (by omega) (h4 k' (by omega) z1 z2)
    refine pk_le 16 k (fun z => absurd z (by omega)) (fun _ => rr_keeps_3 (u := s) hw.1 hw.2.2.1 h1.2.2 ha hk (fun r b9 _ e1 => br_c (fun z => br_t rfl (nm_r (nI_1 k) (go (s.1, s.2.1, s.2.2.1, s.2.2.2.1, s.2.2.2.2.1, s.2.2.2.2.2.1, s.2.2.2.2.2.2.1, s.2.2.2.2.2.2.2.1, s.2.2.2.2.2.2.2.2.1, s.2.2.2.2.2.2.2.2.2.1, s.2.2.2.2.2.2.2.2.2.2.1, s.2.2.2.2.2.2.2.2.2.2.2.1, s.2.2.2.2.2.2.2.2.2.2.2.2.1, s.2.2.2.2.2.2.2.2.2.2.2.2.2.1, s.2.2.2.2.2.2.2.2.2.2.2.2.2.2.1, s.2.2.2.2.2.2.2.2.2.2.2.2.2.2.2.1, s.2.2.2.2.2.2.2.2.2.2.2.2.2.2.2.2.1, (b9), s.2.2.2.2.2.2.2.2.2.2.2.2.2.2.2.2.2.2.1, s.2.2.2.2.2.2.2.2.2.2.2.2.2.2.2.2.2.2.2.1, s.2.2.2.2.2.2.2.2.2.2.2.2.2.2.2.2.2.2.2.2) h1 h2 rr_G_refl (fun y => absurd y (no a (e1.mp z) (Or.inl rfl)))))) (fun _ => rr_keeps_3 (u := (s.1, s.2.1, s.2.2.1, s.2.2.2.1, s.2.2.2.2.1, s.2.2.2.2.2.1, s.2.2.2.2.2.2.1, s.2.2.2.2.2.2.2.1, s.2.2.2.2.2.2.2.2.1, s.2.2.2.2.2.2.2.2.2.1, s.2.2.2.2.2.2.2.2.2.2.1, s.2.2.2.2.2.2.2.2.2.2.2.1, s.2.2.2.2.2.2.2.2.2.2.2.2.1, s.2.2.2.2.2.2.2.2.2.2.2.2.2.1, s.2.2.2.2.2.2.2.2.2.2.2.2.2.2.1, s.2.2.2.2.2.2.2.2.2.2.2.2.2.2.2.1, s.2.2.2.2.2.2.2.2.2.2.2.2.2.2.2.2.1, (b9), s.2.2.2.2.2.2.2.2.2.2.2.2.2.2.2.2.2.2.1, s.2.2.2.2.2.2.2.2.2.2.2.2.2.2.2.2.2.2.2.1, s.2.2.2.2.2.2.2.2.2.2.2.2.2.2.2.2.2.2.2.2)) hw.1 hw.2.2.1 h1.2.2 hb hk (fun r2 c9 _ e2 => br_c (fun z => br_t rfl (nm_r (nI_1 k) (go (s.1, s.2.1, s.2.2.1, s.2.2.2.1, s.2.2.2.2.1, s.2.2.2.2.2.1, s.2.2.2.2.2.2.1, s.2.2.2.2.2.2.2.1, s.2.2.2.2.2.2.2.2.1, s.2.2.2.2.2.2.2.2.2.1, s.2.2.2.2.2.2.2.2.2.2.1, s.2.2.2.2.2.2.2.2.2.2.2.1, s.2.2.2.2.2.2.2.2.2.2.2.2.1, s.2.2.2.2.2.2.2.2.2.2.2.2.2.1, s.2.2.2.2.2.2.2.2.2.2.2.2.2.2.1, s.2.2.2.2.2.2.2.2.2.2.2.2.2.2.2.1, s.2.2.2.2.2.2.2.2.2.2.2.2.2.2.2.2.1, (c9), s.2.2.2.2.2.2.2.2.2.2.2.2.2.2.2.2.2.2.1, s.2.2.2.2.2.2.2.2.2.2.2.2.2.2.2.2.2.2.2.1, s.2.2.2.2.2.2.2.2.2.2.2.2.2.2.2.2.2.2.2.2) h1 h2 rr_G_refl (fun y => absurd y (no b (e2.mp z) (Or.inr rfl)))))) (fun _ => br_f (by decide) (And.intro (pk_in (a * 16 + k) 96 (by omega) (hx := rr_cellE a k)) (And.intro (pk_in (b * 16 + k) 96 (by omega) (hx := rr_cellE b k)) (br_c (fun z => nm_r (nI_1 k) (go (s.1, s.2.1, s.2.2.1, s.2.2.2.1, s.2.2.2.2.1, s.2.2.2.2.2.1, s.2.2.2.2.2.2.1, s.2.2.2.2.2.2.2.1, s.2.2.2.2.2.2.2.2.1, s.2.2.2.2.2.2.2.2.2.1, s.2.2.2.2.2.2.2.2.2.2.1, s.2.2.2.2.2.2.2.2.2.2.2.1, s.2.2.2.2.2.2.2.2.2.2.2.2.1, s.2.2.2.2.2.2.2.2.2.2.2.2.2.1, s.2.2.2.2.2.2.2.2.2.2.2.2.2.2.1, s.2.2.2.2.2.2.2.2.2.2.2.2.2.2.2.1, s.2.2.2.2.2.2.2.2.2.2.2.2.2.2.2.2.1, (c9), s.2.2.2.2.2.2.2.2.2.2.2.2.2.2.2.2.2.2.1, s.2.2.2.2.2.2.2.2.2.2.2.2.2.2.2.2.2.2.2.1, s.2.2.2.2.2.2.2.2.2.2.2.2.2.2.2.2.2.2.2.2) h1 h2 rr_G_refl (fun _ y => ?_))) (fun _ => rr_exchange (u := (s.1, s.2.1, s.2.2.1, s.2.2.2.1, s.2.2.2.2.1, s.2.2.2.2.2.1, s.2.2.2.2.2.2.1, s.2.2.2.2.2.2.2.1, s.2.2.2.2.2.2.2.2.1, s.2.2.2.2.2.2.2.2.2.1, s.2.2.2.2.2.2.2.2.2.2.1, s.2.2.2.2.2.2.2.2.2.2.2.1, s.2.2.2.2.2.2.2.2.2.2.2.2.1, s.2.2.2.2.2.2.2.2.2.2.2.2.2.1, s.2.2.2.2.2.2.2.2.2.2.2.2.2.2.1, s.2.2.2.2.2.2.2.2.2.2.2.2.2.2.2.1, s.2.2.2.2.2.2.2.2.2.2.2.2.2.2.2.2.1, (c9), s.2.2.2.2.2.2.2.2.2.2.2.2.2.2.2.2.2.2.1, s.2.2.2.2.2.2.2.2.2.2.2.2.2.2.2.2.2.2.2.1, s.2.2.2.2.2.2.2.2.2.2.2.2.2.2.2.2.2.2.2.2)) ha hb hk h1 h2 (fun u' w1 w2 w3 w4 => nm_r (nI_1 k) (go u' w1 w2 w3 (fun _ => w4))))))))))))
    rw [rr_cellE, rr_cellE, nI_clamp (by omega), nI_clamp (by omega)] at z
    exact z.trans y
theorem rr_compare {post : St1 → Prop} {u : St1} {T : Nat → Nat} {V D : Nat → Int32} {M W a b : Nat} (hw : rr_wf M W) (ha : a < 6) (hb : b < 6) (hE : rr_E M W u) (hB : rr_B T V D u) (H : ∀ u' : St1, rr_E M W u' → rr_B T V D u' → rr_G T u.2.2.2.2.2.2.2.2.2.2.2.1 u'.2.2.2.2.2.2.2.2.2.2.2.1 → (∀ k, k < 16 → rr_both M k a b → u.2.2.2.2.2.2.2.2.2.2.2.1 (b * 16 + k) = nI (T k) → u'.2.2.2.2.2.2.2.2.2.2.2.1 (a * 16 + k) = nI (T k)) → post u') : wpX_compare post u (nI a) (nI b) := by
  unfold wpX_compare
  refine rr_growTrees (u := u) hw.1 hw.2.2.1 hE.2.2 ha hb (fun b9 t1 t2 => ?_)
  have t : ∃ n, wX_compare_8 post (nI a) (nI b) n 0 u.1 u.2.1 u.2.2.1 u.2.2.2.1 u.2.2.2.2.1 u.2.2.2.2.2.1 u.2.2.2.2.2.2.1 u.2.2.2.2.2.2.2.1 u.2.2.2.2.2.2.2.2.1 u.2.2.2.2.2.2.2.2.2.1 u.2.2.2.2.2.2.2.2.2.2.1 u.2.2.2.2.2.2.2.2.2.2.2.1 u.2.2.2.2.2.2.2.2.2.2.2.2.1 u.2.2.2.2.2.2.2.2.2.2.2.2.2.1 u.2.2.2.2.2.2.2.2.2.2.2.2.2.2.1 u.2.2.2.2.2.2.2.2.2.2.2.2.2.2.2.1 u.2.2.2.2.2.2.2.2.2.2.2.2.2.2.2.2.1 (b9) (t1) (t2) u.2.2.2.2.2.2.2.2.2.2.2.2.2.2.2.2.2.2.2.2 := by
    refine pk_loop (σ := St1) (fun n i s => wX_compare_8 post (nI a) (nI b) n (nI i) s.1 s.2.1 s.2.2.1 s.2.2.2.1 s.2.2.2.2.1 s.2.2.2.2.2.1 s.2.2.2.2.2.2.1 s.2.2.2.2.2.2.2.1 s.2.2.2.2.2.2.2.2.1 s.2.2.2.2.2.2.2.2.2.1 s.2.2.2.2.2.2.2.2.2.2.1 s.2.2.2.2.2.2.2.2.2.2.2.1 s.2.2.2.2.2.2.2.2.2.2.2.2.1 s.2.2.2.2.2.2.2.2.2.2.2.2.2.1 s.2.2.2.2.2.2.2.2.2.2.2.2.2.2.1 s.2.2.2.2.2.2.2.2.2.2.2.2.2.2.2.1 s.2.2.2.2.2.2.2.2.2.2.2.2.2.2.2.2.1 s.2.2.2.2.2.2.2.2.2.2.2.2.2.2.2.2.2.1 s.2.2.2.2.2.2.2.2.2.2.2.2.2.2.2.2.2.2.1 s.2.2.2.2.2.2.2.2.2.2.2.2.2.2.2.2.2.2.2.1 s.2.2.2.2.2.2.2.2.2.2.2.2.2.2.2.2.2.2.2.2) (fun i s => rr_E M W s ∧ rr_B T V D s ∧ rr_G T u.2.2.2.2.2.2.2.2.2.2.2.1 s.2.2.2.2.2.2.2.2.2.2.2.1) 31 0 (u.1, u.2.1, u.2.2.1, u.2.2.2.1, u.2.2.2.2.1, u.2.2.2.2.2.1, u.2.2.2.2.2.2.1, u.2.2.2.2.2.2.2.1, u.2.2.2.2.2.2.2.2.1, u.2.2.2.2.2.2.2.2.2.1, u.2.2.2.2.2.2.2.2.2.2.1, u.2.2.2.2.2.2.2.2.2.2.2.1, u.2.2.2.2.2.2.2.2.2.2.2.2.1, u.2.2.2.2.2.2.2.2.2.2.2.2.2.1, u.2.2.2.2.2.2.2.2.2.2.2.2.2.2.1, u.2.2.2.2.2.2.2.2.2.2.2.2.2.2.2.1, u.2.2.2.2.2.2.2.2.2.2.2.2.2.2.2.2.1, (b9), (t1), (t2), u.2.2.2.2.2.2.2.2.2.2.2.2.2.2.2.2.2.2.2.2) (by omega) ⟨hE, hB, rr_G_refl⟩ ?_ ?_
    · intro n s h
      exact pk_le 31 31 (fun _ => rr_cm102 (u := s) hw ha hb h.1 h.2.1 (fun u' y1 y2 y3 y4 => H u' y1 y2 (rr_G_trans h.2.2 y3) (fun k hk z1 z2 => y4 k hk z1 (h.2.2 b hb k hk z2)))) (fun z => absurd z (by omega))
    · intro n i s hi h hn
      have go : ∀ s' : St1, rr_E M W s' → rr_B T V D s' → rr_G T s.2.2.2.2.2.2.2.2.2.2.2.1 s'.2.2.2.2.2.2.2.2.2.2.2.1 → wX_compare_8 post (nI a) (nI b) n (nI (i + 1)) s'.1 s'.2.1 s'.2.2.1 s'.2.2.2.1 s'.2.2.2.2.1 s'.2.2.2.2.2.1 s'.2.2.2.2.2.2.1 s'.2.2.2.2.2.2.2.1 s'.2.2.2.2.2.2.2.2.1 s'.2.2.2.2.2.2.2.2.2.1 s'.2.2.2.2.2.2.2.2.2.2.1 s'.2.2.2.2.2.2.2.2.2.2.2.1 s'.2.2.2.2.2.2.2.2.2.2.2.2.1 s'.2.2.2.2.2.2.2.2.2.2.2.2.2.1 s'.2.2.2.2.2.2.2.2.2.2.2.2.2.2.1 s'.2.2.2.2.2.2.2.2.2.2.2.2.2.2.2.1 s'.2.2.2.2.2.2.2.2.2.2.2.2.2.2.2.2.1 s'.2.2.2.2.2.2.2.2.2.2.2.2.2.2.2.2.2.1 s'.2.2.2.2.2.2.2.2.2.2.2.2.2.2.2.2.2.2.1 s'.2.2.2.2.2.2.2.2.2.2.2.2.2.2.2.2.2.2.2.1 s'.2.2.2.2.2.2.2.2.2.2.2.2.2.2.2.2.2.2.2.2 := fun s' y1 y2 y3 => hn s' ⟨y1, y2, rr_G_trans h.2.2 y3⟩
      refine pk_le 31 i (fun z => absurd z (by omega)) (fun _ => pk_eq i 0 (fun _ => rr_cm36 (u := s) ha hb hi h.1 h.2.1 go) (fun z => And.intro (by decide) (And.intro (pk_in ((i - 1) / 2) 31 (by omega) (hx := ?_)) (br_c (fun _ => rr_cm36 (u := s) ha hb hi h.1 h.2.1 go) (fun _ => rr_cm36 (u := s) ha hb hi h.1 h.2.1 go)))))
      rw [show nI i - 1 = nI (i - 1) from pk_sub (b := 1) (by omega)]
      exact pk_div (d := 2) (by omega) (by omega) (by omega)
  exact t
theorem rr_compareAll {post : St1 → Prop} {u : St1} {T : Nat → Nat} {V D : Nat → Int32} {M W : Nat} (hw : rr_wf M W) (hE : rr_E M W u) (hB : rr_B T V D u) (H : ∀ u' : St1, rr_E M W u' → rr_B T V D u' → rr_G T u.2.2.2.2.2.2.2.2.2.2.2.1 u'.2.2.2.2.2.2.2.2.2.2.2.1 → post u') : wpX_compareAll post u := by
  have t : ∃ n, wX_compareAll_2 post n 0 u.1 u.2.1 u.2.2.1 u.2.2.2.1 u.2.2.2.2.1 u.2.2.2.2.2.1 u.2.2.2.2.2.2.1 u.2.2.2.2.2.2.2.1 u.2.2.2.2.2.2.2.2.1 u.2.2.2.2.2.2.2.2.2.1 u.2.2.2.2.2.2.2.2.2.2.1 u.2.2.2.2.2.2.2.2.2.2.2.1 u.2.2.2.2.2.2.2.2.2.2.2.2.1 u.2.2.2.2.2.2.2.2.2.2.2.2.2.1 u.2.2.2.2.2.2.2.2.2.2.2.2.2.2.1 u.2.2.2.2.2.2.2.2.2.2.2.2.2.2.2.1 u.2.2.2.2.2.2.2.2.2.2.2.2.2.2.2.2.1 u.2.2.2.2.2.2.2.2.2.2.2.2.2.2.2.2.2.1 u.2.2.2.2.2.2.2.2.2.2.2.2.2.2.2.2.2.2.1 u.2.2.2.2.2.2.2.2.2.2.2.2.2.2.2.2.2.2.2.1 u.2.2.2.2.2.2.2.2.2.2.2.2.2.2.2.2.2.2.2.2 := by
    refine pk_loop (σ := St1) (fun n a s => wX_compareAll_2 post n (nI a) s.1 s.2.1 s.2.2.1 s.2.2.2.1 s.2.2.2.2.1 s.2.2.2.2.2.1 s.2.2.2.2.2.2.1 s.2.2.2.2.2.2.2.1 s.2.2.2.2.2.2.2.2.1 s.2.2.2.2.2.2.2.2.2.1 s.2.2.2.2.2.2.2.2.2.2.1 s.2.2.2.2.2.2.2.2.2.2.2.1 s.2.2.2.2.2.2.2.2.2.2.2.2.1 s.2.2.2.2.2.2.2.2.2.2.2.2.2.1 s.2.2.2.2.2.2.2.2.2.2.2.2.2.2.1 s.2.2.2.2.2.2.2.2.2.2.2.2.2.2.2.1 s.2.2.2.2.2.2.2.2.2.2.2.2.2.2.2.2.1 s.2.2.2.2.2.2.2.2.2.2.2.2.2.2.2.2.2.1 s.2.2.2.2.2.2.2.2.2.2.2.2.2.2.2.2.2.2.1 s.2.2.2.2.2.2.2.2.2.2.2.2.2.2.2.2.2.2.2.1 s.2.2.2.2.2.2.2.2.2.2.2.2.2.2.2.2.2.2.2.2) (fun a s => rr_E M W s ∧ rr_B T V D s ∧ rr_G T u.2.2.2.2.2.2.2.2.2.2.2.1 s.2.2.2.2.2.2.2.2.2.2.2.1) 6 0 u (by omega) ⟨hE, hB, rr_G_refl⟩ ?_ ?_
    · intro n s h
      exact pk_le 6 6 (fun _ => H s h.1 h.2.1 h.2.2) (fun z => absurd z (by omega))
    · intro n a s ha h hn
      refine pk_le 6 a (fun z => absurd z (by omega)) (fun _ => nm_r (nI_1 a) ?_)
      refine pk_loop (σ := St1) (fun n' b s' => wX_compareAll_12 post (wX_compareAll_2 post n) (nI a) n' (nI b) s'.1 s'.2.1 s'.2.2.1 s'.2.2.2.1 s'.2.2.2.2.1 s'.2.2.2.2.2.1 s'.2.2.2.2.2.2.1 s'.2.2.2.2.2.2.2.1 s'.2.2.2.2.2.2.2.2.1 s'.2.2.2.2.2.2.2.2.2.1 s'.2.2.2.2.2.2.2.2.2.2.1 s'.2.2.2.2.2.2.2.2.2.2.2.1 s'.2.2.2.2.2.2.2.2.2.2.2.2.1 s'.2.2.2.2.2.2.2.2.2.2.2.2.2.1 s'.2.2.2.2.2.2.2.2.2.2.2.2.2.2.1 s'.2.2.2.2.2.2.2.2.2.2.2.2.2.2.2.1 s'.2.2.2.2.2.2.2.2.2.2.2.2.2.2.2.2.1 s'.2.2.2.2.2.2.2.2.2.2.2.2.2.2.2.2.2.1 s'.2.2.2.2.2.2.2.2.2.2.2.2.2.2.2.2.2.2.1 s'.2.2.2.2.2.2.2.2.2.2.2.2.2.2.2.2.2.2.2.1 s'.2.2.2.2.2.2.2.2.2.2.2.2.2.2.2.2.2.2.2.2) (fun b s' => rr_E M W s' ∧ rr_B T V D s' ∧ rr_G T u.2.2.2.2.2.2.2.2.2.2.2.1 s'.2.2.2.2.2.2.2.2.2.2.2.1) 6 (a + 1) s (by omega) h ?_ ?_
      · intro n' s' h'
        exact pk_le 6 6 (fun _ => nm_r (nI_1 a) (hn s' h')) (fun z => absurd z (by omega))
      · intro n' b s' hb h' hn'
        exact pk_le 6 b (fun z => absurd z (by omega)) (fun _ => rr_isWorking (u := s') ha hw.2.1 h'.1.2.1 (fun _ => br_f (by decide) (rr_isWorking (u := s') hb hw.2.1 h'.1.2.1 (fun _ => br_f (by decide) (rr_compare (u := s') hw ha hb h'.1 h'.2.1 (fun u' y1 y2 y3 _ => nm_r (nI_1 b) (hn' u' ⟨y1, y2, rr_G_trans h'.2.2 y3⟩)))) (fun _ => br_t rfl (nm_r (nI_1 b) (hn' s' h'))))) (fun _ => br_t rfl (nm_r (nI_1 b) (hn' s' h'))))
  exact t
end
section
theorem rr_someWork {M W : Nat} (hw : rr_wf M W) : ∃ m, m < 6 ∧ rr_b W m := by
  obtain ⟨i, hi, h⟩ := rr_two_work hw (k := 0) (by omega)
  have q := (rr_kpF hw.1 hw.2.2.1 (k := 0) (by omega)).2.1
  by_cases e : i = 0
  · exact ⟨_, (q 1 (by omega)).1, h 1 (by omega) (by omega)⟩
  · exact ⟨_, (q 0 (by omega)).1, h 0 (by omega) (by omega)⟩
theorem rr_leader {post : Int32 → Prop} {u : St1} {M W : Nat} (hw : rr_wf M W) (eW : u.2.1 = nI W) (H : ∀ c, c < 6 → rr_b W c → post (nI c)) : wpX_leader post u := by
  have t : ∃ n, wX_leader_2 post u.1 u.2.1 u.2.2.1 u.2.2.2.1 u.2.2.2.2.1 u.2.2.2.2.2.1 u.2.2.2.2.2.2.1 u.2.2.2.2.2.2.2.1 u.2.2.2.2.2.2.2.2.1 u.2.2.2.2.2.2.2.2.2.1 u.2.2.2.2.2.2.2.2.2.2.1 u.2.2.2.2.2.2.2.2.2.2.2.1 u.2.2.2.2.2.2.2.2.2.2.2.2.1 u.2.2.2.2.2.2.2.2.2.2.2.2.2.1 u.2.2.2.2.2.2.2.2.2.2.2.2.2.2.1 u.2.2.2.2.2.2.2.2.2.2.2.2.2.2.2.1 u.2.2.2.2.2.2.2.2.2.2.2.2.2.2.2.2.1 u.2.2.2.2.2.2.2.2.2.2.2.2.2.2.2.2.2.1 u.2.2.2.2.2.2.2.2.2.2.2.2.2.2.2.2.2.2.1 u.2.2.2.2.2.2.2.2.2.2.2.2.2.2.2.2.2.2.2.1 u.2.2.2.2.2.2.2.2.2.2.2.2.2.2.2.2.2.2.2.2 n 0 := by
    refine pk_loop (σ := Unit) (fun n i _ => wX_leader_2 post u.1 u.2.1 u.2.2.1 u.2.2.2.1 u.2.2.2.2.1 u.2.2.2.2.2.1 u.2.2.2.2.2.2.1 u.2.2.2.2.2.2.2.1 u.2.2.2.2.2.2.2.2.1 u.2.2.2.2.2.2.2.2.2.1 u.2.2.2.2.2.2.2.2.2.2.1 u.2.2.2.2.2.2.2.2.2.2.2.1 u.2.2.2.2.2.2.2.2.2.2.2.2.1 u.2.2.2.2.2.2.2.2.2.2.2.2.2.1 u.2.2.2.2.2.2.2.2.2.2.2.2.2.2.1 u.2.2.2.2.2.2.2.2.2.2.2.2.2.2.2.1 u.2.2.2.2.2.2.2.2.2.2.2.2.2.2.2.2.1 u.2.2.2.2.2.2.2.2.2.2.2.2.2.2.2.2.2.1 u.2.2.2.2.2.2.2.2.2.2.2.2.2.2.2.2.2.2.1 u.2.2.2.2.2.2.2.2.2.2.2.2.2.2.2.2.2.2.2.1 u.2.2.2.2.2.2.2.2.2.2.2.2.2.2.2.2.2.2.2.2 n (nI i)) (fun i _ => ∀ j, j < i → ¬ rr_b W j) 5 0 () (by omega) (fun j hj => absurd hj (by omega)) ?_ ?_
    · intro n _ h
      refine pk_le 5 5 (fun _ => H 5 (by omega) ?_) (fun z => absurd z (by omega))
      obtain ⟨m, hm, hb⟩ := rr_someWork hw
      by_cases e : m = 5
      · rw [e] at hb
        exact hb
      · exact absurd hb (h m (by omega))
    · intro n i _ hi h hn
      refine pk_le 5 i (fun z => absurd z (by omega)) (fun _ => rr_isWorking (u := u) (by omega) hw.2.1 eW (fun hb => br_f (by decide) (H i (by omega) hb)) (fun hb => br_t rfl (nm_r (nI_1 i) (hn () (fun j hj => ?_)))))
      by_cases e : j = i
      · rw [e]
        exact hb
      · exact h j (by omega)
  exact t
theorem rr_wf_self {M : Nat} (hM : M < 64) (h3 : 3 ≤ rr_pop M) : rr_wf M M := ⟨hM, hM, h3, fun _ _ h => h, fun m _ m' _ a b => absurd a b⟩
def rr_All (M : Nat) (T : Nat → Nat) (a3 : Nat → Int32) (k : Nat) : Prop := ∀ j, j < 3 → a3 (rr_kp M k j * 16 + k) = nI (T k)
theorem rr_do53 {post : St1 → Prop} {u : St1} {T : Nat → Nat} {V D : Nat → Int32} (hH : rr_H T V D u.2.2.2.2.2.2.2.2.2.2.2.2.2.2.1 u.2.2.2.2.2.2.2.2.2.2.2.2.2.2.2.1 u.2.2.2.2.2.2.2.2.2.2.2.2.2.2.2.2.1) (H : ∀ b6, rr_H T V D b6 u.2.2.2.2.2.2.2.2.2.2.2.2.2.2.2.1 u.2.2.2.2.2.2.2.2.2.2.2.2.2.2.2.2.1 → post (u.1, u.2.1, u.2.2.1, u.2.2.2.1, u.2.2.2.2.1, u.2.2.2.2.2.1, u.2.2.2.2.2.2.1, u.2.2.2.2.2.2.2.1, u.2.2.2.2.2.2.2.2.1, u.2.2.2.2.2.2.2.2.2.1, u.2.2.2.2.2.2.2.2.2.2.1, u.2.2.2.2.2.2.2.2.2.2.2.1, u.2.2.2.2.2.2.2.2.2.2.2.2.1, u.2.2.2.2.2.2.2.2.2.2.2.2.2.1, (b6), u.2.2.2.2.2.2.2.2.2.2.2.2.2.2.2.1, u.2.2.2.2.2.2.2.2.2.2.2.2.2.2.2.2.1, u.2.2.2.2.2.2.2.2.2.2.2.2.2.2.2.2.2.1, u.2.2.2.2.2.2.2.2.2.2.2.2.2.2.2.2.2.2.1, u.2.2.2.2.2.2.2.2.2.2.2.2.2.2.2.2.2.2.2.1, u.2.2.2.2.2.2.2.2.2.2.2.2.2.2.2.2.2.2.2.2)) : ∃ n, wX_dropOthers_53 post u.1 u.2.1 u.2.2.1 u.2.2.2.1 u.2.2.2.2.1 u.2.2.2.2.2.1 u.2.2.2.2.2.2.1 u.2.2.2.2.2.2.2.1 u.2.2.2.2.2.2.2.2.1 n 0 u.2.2.2.2.2.2.2.2.2.1 u.2.2.2.2.2.2.2.2.2.2.1 u.2.2.2.2.2.2.2.2.2.2.2.1 u.2.2.2.2.2.2.2.2.2.2.2.2.1 u.2.2.2.2.2.2.2.2.2.2.2.2.2.1 u.2.2.2.2.2.2.2.2.2.2.2.2.2.2.1 u.2.2.2.2.2.2.2.2.2.2.2.2.2.2.2.1 u.2.2.2.2.2.2.2.2.2.2.2.2.2.2.2.2.1 u.2.2.2.2.2.2.2.2.2.2.2.2.2.2.2.2.2.1 u.2.2.2.2.2.2.2.2.2.2.2.2.2.2.2.2.2.2.1 u.2.2.2.2.2.2.2.2.2.2.2.2.2.2.2.2.2.2.2.1 u.2.2.2.2.2.2.2.2.2.2.2.2.2.2.2.2.2.2.2.2 := by
  refine pk_loop (σ := Nat → Int32) (fun n i s => wX_dropOthers_53 post u.1 u.2.1 u.2.2.1 u.2.2.2.1 u.2.2.2.2.1 u.2.2.2.2.2.1 u.2.2.2.2.2.2.1 u.2.2.2.2.2.2.2.1 u.2.2.2.2.2.2.2.2.1 n (nI i) u.2.2.2.2.2.2.2.2.2.1 u.2.2.2.2.2.2.2.2.2.2.1 u.2.2.2.2.2.2.2.2.2.2.2.1 u.2.2.2.2.2.2.2.2.2.2.2.2.1 u.2.2.2.2.2.2.2.2.2.2.2.2.2.1 (s) u.2.2.2.2.2.2.2.2.2.2.2.2.2.2.2.1 u.2.2.2.2.2.2.2.2.2.2.2.2.2.2.2.2.1 u.2.2.2.2.2.2.2.2.2.2.2.2.2.2.2.2.2.1 u.2.2.2.2.2.2.2.2.2.2.2.2.2.2.2.2.2.2.1 u.2.2.2.2.2.2.2.2.2.2.2.2.2.2.2.2.2.2.2.1 u.2.2.2.2.2.2.2.2.2.2.2.2.2.2.2.2.2.2.2.2) (fun i s => rr_H T V D s u.2.2.2.2.2.2.2.2.2.2.2.2.2.2.2.1 u.2.2.2.2.2.2.2.2.2.2.2.2.2.2.2.2.1) 576 0 u.2.2.2.2.2.2.2.2.2.2.2.2.2.2.1 (by omega) hH ?_ ?_
  · intro n s h
    exact pk_le 576 576 (fun _ => H s h) (fun z => absurd z (by omega))
  · intro n i s hi h hn
    exact pk_le 576 i (fun z => absurd z (by omega)) (fun _ => And.intro (pk_in i 576 hi) (nm_e (nm_r (nI_1 i) (hn _ (rr_H_zero h)))))
theorem rr_dropOthers {post : St1 → Prop} {u : St1} {T : Nat → Nat} {V D : Nat → Int32} {M W : Nat} (hw : rr_wf M W) (hE : rr_E M W u) (hB : rr_B T V D u) (hA : ∀ k, k < 16 → rr_All M T u.2.2.2.2.2.2.2.2.2.2.2.1 k) (H : ∀ u' : St1, rr_E M W u' → rr_B T V D u' → (∀ k, k < 16 → rr_All M T u'.2.2.2.2.2.2.2.2.2.2.2.1 k) → post u') : wpX_dropOthers post u := by
  have t : ∃ n, wX_dropOthers_2 post n 0 u.1 u.2.1 u.2.2.1 u.2.2.2.1 u.2.2.2.2.1 u.2.2.2.2.2.1 u.2.2.2.2.2.2.1 u.2.2.2.2.2.2.2.1 u.2.2.2.2.2.2.2.2.1 u.2.2.2.2.2.2.2.2.2.1 u.2.2.2.2.2.2.2.2.2.2.1 u.2.2.2.2.2.2.2.2.2.2.2.1 u.2.2.2.2.2.2.2.2.2.2.2.2.1 u.2.2.2.2.2.2.2.2.2.2.2.2.2.1 u.2.2.2.2.2.2.2.2.2.2.2.2.2.2.1 u.2.2.2.2.2.2.2.2.2.2.2.2.2.2.2.1 u.2.2.2.2.2.2.2.2.2.2.2.2.2.2.2.2.1 u.2.2.2.2.2.2.2.2.2.2.2.2.2.2.2.2.2.1 u.2.2.2.2.2.2.2.2.2.2.2.2.2.2.2.2.2.2.1 u.2.2.2.2.2.2.2.2.2.2.2.2.2.2.2.2.2.2.2.1 u.2.2.2.2.2.2.2.2.2.2.2.2.2.2.2.2.2.2.2.2 := by
    refine pk_loop (σ := St1) (fun n m s => wX_dropOthers_2 post n (nI m) s.1 s.2.1 s.2.2.1 s.2.2.2.1 s.2.2.2.2.1 s.2.2.2.2.2.1 s.2.2.2.2.2.2.1 s.2.2.2.2.2.2.2.1 s.2.2.2.2.2.2.2.2.1 s.2.2.2.2.2.2.2.2.2.1 s.2.2.2.2.2.2.2.2.2.2.1 s.2.2.2.2.2.2.2.2.2.2.2.1 s.2.2.2.2.2.2.2.2.2.2.2.2.1 s.2.2.2.2.2.2.2.2.2.2.2.2.2.1 s.2.2.2.2.2.2.2.2.2.2.2.2.2.2.1 s.2.2.2.2.2.2.2.2.2.2.2.2.2.2.2.1 s.2.2.2.2.2.2.2.2.2.2.2.2.2.2.2.2.1 s.2.2.2.2.2.2.2.2.2.2.2.2.2.2.2.2.2.1 s.2.2.2.2.2.2.2.2.2.2.2.2.2.2.2.2.2.2.1 s.2.2.2.2.2.2.2.2.2.2.2.2.2.2.2.2.2.2.2.1 s.2.2.2.2.2.2.2.2.2.2.2.2.2.2.2.2.2.2.2.2) (fun m s => rr_E M W s ∧ rr_B T V D s ∧ ∀ k, k < 16 → rr_All M T s.2.2.2.2.2.2.2.2.2.2.2.1 k) 6 0 u (by omega) ⟨hE, hB, hA⟩ ?_ ?_
    · intro n s h
      exact pk_le 6 6 (fun _ => rr_do53 (u := s) h.2.1.2.1 (fun b6 z => H (s.1, s.2.1, s.2.2.1, s.2.2.2.1, s.2.2.2.2.1, s.2.2.2.2.2.1, s.2.2.2.2.2.2.1, s.2.2.2.2.2.2.2.1, s.2.2.2.2.2.2.2.2.1, s.2.2.2.2.2.2.2.2.2.1, s.2.2.2.2.2.2.2.2.2.2.1, s.2.2.2.2.2.2.2.2.2.2.2.1, s.2.2.2.2.2.2.2.2.2.2.2.2.1, s.2.2.2.2.2.2.2.2.2.2.2.2.2.1, (b6), s.2.2.2.2.2.2.2.2.2.2.2.2.2.2.2.1, s.2.2.2.2.2.2.2.2.2.2.2.2.2.2.2.2.1, s.2.2.2.2.2.2.2.2.2.2.2.2.2.2.2.2.2.1, s.2.2.2.2.2.2.2.2.2.2.2.2.2.2.2.2.2.2.1, s.2.2.2.2.2.2.2.2.2.2.2.2.2.2.2.2.2.2.2.1, s.2.2.2.2.2.2.2.2.2.2.2.2.2.2.2.2.2.2.2.2) h.1 ⟨h.2.1.1, z, h.2.1.2.2⟩ h.2.2)) (fun z => absurd z (by omega))
    · intro n m s hm h hn
      refine pk_le 6 m (fun z => absurd z (by omega)) (fun _ => ?_)
      refine pk_loop (σ := St1) (fun n' k s' => wX_dropOthers_10 post (wX_dropOthers_2 post n) (nI m) n' (nI k) s'.1 s'.2.1 s'.2.2.1 s'.2.2.2.1 s'.2.2.2.2.1 s'.2.2.2.2.2.1 s'.2.2.2.2.2.2.1 s'.2.2.2.2.2.2.2.1 s'.2.2.2.2.2.2.2.2.1 s'.2.2.2.2.2.2.2.2.2.1 s'.2.2.2.2.2.2.2.2.2.2.1 s'.2.2.2.2.2.2.2.2.2.2.2.1 s'.2.2.2.2.2.2.2.2.2.2.2.2.1 s'.2.2.2.2.2.2.2.2.2.2.2.2.2.1 s'.2.2.2.2.2.2.2.2.2.2.2.2.2.2.1 s'.2.2.2.2.2.2.2.2.2.2.2.2.2.2.2.1 s'.2.2.2.2.2.2.2.2.2.2.2.2.2.2.2.2.1 s'.2.2.2.2.2.2.2.2.2.2.2.2.2.2.2.2.2.1 s'.2.2.2.2.2.2.2.2.2.2.2.2.2.2.2.2.2.2.1 s'.2.2.2.2.2.2.2.2.2.2.2.2.2.2.2.2.2.2.2.1 s'.2.2.2.2.2.2.2.2.2.2.2.2.2.2.2.2.2.2.2.2) (fun k s' => rr_E M W s' ∧ rr_B T V D s' ∧ ∀ k, k < 16 → rr_All M T s'.2.2.2.2.2.2.2.2.2.2.2.1 k) 16 0 s (by omega) h ?_ ?_
      · intro n' s' h'
        exact pk_le 16 16 (fun _ => nm_r (nI_1 m) (hn s' h')) (fun z => absurd z (by omega))
      · intro n' k s' hk h' hn'
        obtain ⟨h1, ⟨h2, h3, h4⟩, h5⟩ := h'
        have del : ∀ b9, (∀ i, i < 3 → rr_kp M k i ≠ m) → wX_dropOthers_33 post (wX_dropOthers_2 post n) (wX_dropOthers_10 post (wX_dropOthers_2 post n) (nI m) n') (nI m) (nI k) s'.1 s'.2.1 s'.2.2.1 s'.2.2.2.1 s'.2.2.2.2.1 s'.2.2.2.2.2.1 s'.2.2.2.2.2.2.1 s'.2.2.2.2.2.2.2.1 s'.2.2.2.2.2.2.2.2.1 s'.2.2.2.2.2.2.2.2.2.1 s'.2.2.2.2.2.2.2.2.2.2.1 s'.2.2.2.2.2.2.2.2.2.2.2.1 s'.2.2.2.2.2.2.2.2.2.2.2.2.1 s'.2.2.2.2.2.2.2.2.2.2.2.2.2.1 s'.2.2.2.2.2.2.2.2.2.2.2.2.2.2.1 s'.2.2.2.2.2.2.2.2.2.2.2.2.2.2.2.1 s'.2.2.2.2.2.2.2.2.2.2.2.2.2.2.2.2.1 (b9) s'.2.2.2.2.2.2.2.2.2.2.2.2.2.2.2.2.2.2.1 s'.2.2.2.2.2.2.2.2.2.2.2.2.2.2.2.2.2.2.2.1 s'.2.2.2.2.2.2.2.2.2.2.2.2.2.2.2.2.2.2.2.2 := by
          intro b9 ne
          refine rr_erase (u := (s'.1, s'.2.1, s'.2.2.1, s'.2.2.2.1, s'.2.2.2.2.1, s'.2.2.2.2.2.1, s'.2.2.2.2.2.2.1, s'.2.2.2.2.2.2.2.1, s'.2.2.2.2.2.2.2.2.1, s'.2.2.2.2.2.2.2.2.2.1, s'.2.2.2.2.2.2.2.2.2.2.1, s'.2.2.2.2.2.2.2.2.2.2.2.1, s'.2.2.2.2.2.2.2.2.2.2.2.2.1, s'.2.2.2.2.2.2.2.2.2.2.2.2.2.1, s'.2.2.2.2.2.2.2.2.2.2.2.2.2.2.1, s'.2.2.2.2.2.2.2.2.2.2.2.2.2.2.2.1, s'.2.2.2.2.2.2.2.2.2.2.2.2.2.2.2.2.1, (b9), s'.2.2.2.2.2.2.2.2.2.2.2.2.2.2.2.2.2.2.1, s'.2.2.2.2.2.2.2.2.2.2.2.2.2.2.2.2.2.2.2.1, s'.2.2.2.2.2.2.2.2.2.2.2.2.2.2.2.2.2.2.2.2)) hm hk (nm_r (nI_1 k) (hn' (s'.1, s'.2.1, s'.2.2.1, s'.2.2.2.1, s'.2.2.2.2.1, s'.2.2.2.2.2.1, s'.2.2.2.2.2.2.1, s'.2.2.2.2.2.2.2.1, s'.2.2.2.2.2.2.2.2.1, s'.2.2.2.2.2.2.2.2.2.1, s'.2.2.2.2.2.2.2.2.2.2.1, (upd s'.2.2.2.2.2.2.2.2.2.2.2.1 (m * 16 + k) 0), (upd s'.2.2.2.2.2.2.2.2.2.2.2.2.1 (m * 16 + k) 0), (upd s'.2.2.2.2.2.2.2.2.2.2.2.2.2.1 (m * 16 + k) 0), s'.2.2.2.2.2.2.2.2.2.2.2.2.2.2.1, s'.2.2.2.2.2.2.2.2.2.2.2.2.2.2.2.1, s'.2.2.2.2.2.2.2.2.2.2.2.2.2.2.2.2.1, (b9), s'.2.2.2.2.2.2.2.2.2.2.2.2.2.2.2.2.2.2.1, s'.2.2.2.2.2.2.2.2.2.2.2.2.2.2.2.2.2.2.2.1, s'.2.2.2.2.2.2.2.2.2.2.2.2.2.2.2.2.2.2.2.2) ⟨h1, ⟨rr_C_upd h2 hk (rr_ok0 (h2 m hm k hk).1 (Or.inl rfl)), h3, h4⟩, fun k' hk' j hj => ?_⟩))
          show upd s'.2.2.2.2.2.2.2.2.2.2.2.1 (m * 16 + k) 0 (rr_kp M k' j * 16 + k') = nI (T k')
          rw [pk_un]
          · exact h5 k' hk' j hj
          · intro e
            have e2 : k' = k := by omega
            subst e2
            exact ne j hj (by omega)
        exact pk_le 16 k (fun z => absurd z (by omega)) (fun _ => rr_isMember (u := s') hm hw.1 h1.1 (fun hb => br_f (by decide) (rr_keeps_3 (u := s') hw.1 hw.2.2.1 h1.2.2 hm hk (fun r b9 _ e => br_c (fun z => del b9 (e.mp z)) (fun _ => nm_r (nI_1 k) (hn' (s'.1, s'.2.1, s'.2.2.1, s'.2.2.2.1, s'.2.2.2.2.1, s'.2.2.2.2.2.1, s'.2.2.2.2.2.2.1, s'.2.2.2.2.2.2.2.1, s'.2.2.2.2.2.2.2.2.1, s'.2.2.2.2.2.2.2.2.2.1, s'.2.2.2.2.2.2.2.2.2.2.1, s'.2.2.2.2.2.2.2.2.2.2.2.1, s'.2.2.2.2.2.2.2.2.2.2.2.2.1, s'.2.2.2.2.2.2.2.2.2.2.2.2.2.1, s'.2.2.2.2.2.2.2.2.2.2.2.2.2.2.1, s'.2.2.2.2.2.2.2.2.2.2.2.2.2.2.2.1, s'.2.2.2.2.2.2.2.2.2.2.2.2.2.2.2.2.1, (b9), s'.2.2.2.2.2.2.2.2.2.2.2.2.2.2.2.2.2.2.1, s'.2.2.2.2.2.2.2.2.2.2.2.2.2.2.2.2.2.2.2.1, s'.2.2.2.2.2.2.2.2.2.2.2.2.2.2.2.2.2.2.2.2) ⟨h1, ⟨h2, h3, h4⟩, h5⟩))))) (fun hb => br_t rfl (del s'.2.2.2.2.2.2.2.2.2.2.2.2.2.2.2.2.2.1 (fun i hi e => hb (by rw [← e]; exact ((rr_kpF hw.1 hw.2.2.1 hk).2.1 i hi).2)))))
  exact t
theorem rr_moveTo {post : St1 → Prop} {u : St1} {T : Nat → Nat} {V D : Nat → Int32} {M M' : Nat} (hw : rr_wf M M) (hw' : rr_wf M' M') (eM : u.1 = nI M) (hB : rr_B T V D u) (hQ : ∀ k, k < 16 → rr_Q M T k u.2.2.2.2.2.2.2.2.2.2.2.1) (H : ∀ u' : St1, rr_E M' M' u' → rr_B T V D u' → (∀ k, k < 16 → rr_Q M' T k u'.2.2.2.2.2.2.2.2.2.2.2.1) → post u') : wpX_moveTo post u (nI M') := by
  have t : ∃ n, wX_moveTo_7 post (nI M') (nI M) n 0 u.1 u.2.1 u.2.2.1 u.2.2.2.1 u.2.2.2.2.1 u.2.2.2.2.2.1 u.2.2.2.2.2.2.1 u.2.2.2.2.2.2.2.1 u.2.2.2.2.2.2.2.2.1 u.2.2.2.2.2.2.2.2.2.1 u.2.2.2.2.2.2.2.2.2.2.1 u.2.2.2.2.2.2.2.2.2.2.2.1 u.2.2.2.2.2.2.2.2.2.2.2.2.1 u.2.2.2.2.2.2.2.2.2.2.2.2.2.1 u.2.2.2.2.2.2.2.2.2.2.2.2.2.2.1 u.2.2.2.2.2.2.2.2.2.2.2.2.2.2.2.1 u.2.2.2.2.2.2.2.2.2.2.2.2.2.2.2.2.1 u.2.2.2.2.2.2.2.2.2.2.2.2.2.2.2.2.2.1 u.2.2.2.2.2.2.2.2.2.2.2.2.2.2.2.2.2.2.1 u.2.2.2.2.2.2.2.2.2.2.2.2.2.2.2.2.2.2.2.1 u.2.2.2.2.2.2.2.2.2.2.2.2.2.2.2.2.2.2.2.2 := by
    refine pk_loop (σ := St1) (fun n k s => wX_moveTo_7 post (nI M') (nI M) n (nI k) s.1 s.2.1 s.2.2.1 s.2.2.2.1 s.2.2.2.2.1 s.2.2.2.2.2.1 s.2.2.2.2.2.2.1 s.2.2.2.2.2.2.2.1 s.2.2.2.2.2.2.2.2.1 s.2.2.2.2.2.2.2.2.2.1 s.2.2.2.2.2.2.2.2.2.2.1 s.2.2.2.2.2.2.2.2.2.2.2.1 s.2.2.2.2.2.2.2.2.2.2.2.2.1 s.2.2.2.2.2.2.2.2.2.2.2.2.2.1 s.2.2.2.2.2.2.2.2.2.2.2.2.2.2.1 s.2.2.2.2.2.2.2.2.2.2.2.2.2.2.2.1 s.2.2.2.2.2.2.2.2.2.2.2.2.2.2.2.2.1 s.2.2.2.2.2.2.2.2.2.2.2.2.2.2.2.2.2.1 s.2.2.2.2.2.2.2.2.2.2.2.2.2.2.2.2.2.2.1 s.2.2.2.2.2.2.2.2.2.2.2.2.2.2.2.2.2.2.2.1 s.2.2.2.2.2.2.2.2.2.2.2.2.2.2.2.2.2.2.2.2) (fun k s => rr_B T V D s ∧ (∀ k', k' < 16 → k ≤ k' → rr_Q M T k' s.2.2.2.2.2.2.2.2.2.2.2.1) ∧ (∀ k', k' < k → rr_All M' T s.2.2.2.2.2.2.2.2.2.2.2.1 k') ∧ (k = 0 ∨ rr_E M' M' s)) 16 0 u (by omega) ⟨hB, fun k' hk' _ => hQ k' hk', fun k' hk' => absurd hk' (by omega), Or.inl rfl⟩ ?_ ?_
    · intro n s h
      obtain ⟨h1, _, h3, h4⟩ := h
      have hE : rr_E M' M' s := h4.resolve_left (by omega)
      exact pk_le 16 16 (fun _ => rr_dropOthers (u := s) hw' hE h1 h3 (fun u' y1 y2 y3 => H u' y1 y2 (fun k hk => rr_two_all (y3 k hk)))) (fun z => absurd z (by omega))
    · intro n k s hk h hn
      obtain ⟨h1, h2, h3, _⟩ := h
      refine pk_le 16 k (fun z => absurd z (by omega)) (fun _ => rr_layRing (u := ((nI M), (nI M), s.2.2.1, s.2.2.2.1, s.2.2.2.2.1, s.2.2.2.2.2.1, s.2.2.2.2.2.2.1, s.2.2.2.2.2.2.2.1, s.2.2.2.2.2.2.2.2.1, s.2.2.2.2.2.2.2.2.2.1, s.2.2.2.2.2.2.2.2.2.2.1, s.2.2.2.2.2.2.2.2.2.2.2.1, s.2.2.2.2.2.2.2.2.2.2.2.2.1, s.2.2.2.2.2.2.2.2.2.2.2.2.2.1, s.2.2.2.2.2.2.2.2.2.2.2.2.2.2.1, s.2.2.2.2.2.2.2.2.2.2.2.2.2.2.2.1, s.2.2.2.2.2.2.2.2.2.2.2.2.2.2.2.2.1, s.2.2.2.2.2.2.2.2.2.2.2.2.2.2.2.2.2.1, s.2.2.2.2.2.2.2.2.2.2.2.2.2.2.2.2.2.2.1, s.2.2.2.2.2.2.2.2.2.2.2.2.2.2.2.2.2.2.2.1, s.2.2.2.2.2.2.2.2.2.2.2.2.2.2.2.2.2.2.2.2)) hw.1 rfl (fun b1 b2 hb => rr_leader (u := ((nI M), (nI M), (nI (rr_lay M 24).length), s.2.2.2.1, s.2.2.2.2.1, s.2.2.2.2.2.1, s.2.2.2.2.2.2.1, s.2.2.2.2.2.2.2.1, s.2.2.2.2.2.2.2.2.1, (b1), (b2), s.2.2.2.2.2.2.2.2.2.2.2.1, s.2.2.2.2.2.2.2.2.2.2.2.2.1, s.2.2.2.2.2.2.2.2.2.2.2.2.2.1, s.2.2.2.2.2.2.2.2.2.2.2.2.2.2.1, s.2.2.2.2.2.2.2.2.2.2.2.2.2.2.2.1, s.2.2.2.2.2.2.2.2.2.2.2.2.2.2.2.2.1, s.2.2.2.2.2.2.2.2.2.2.2.2.2.2.2.2.2.1, s.2.2.2.2.2.2.2.2.2.2.2.2.2.2.2.2.2.2.1, s.2.2.2.2.2.2.2.2.2.2.2.2.2.2.2.2.2.2.2.1, s.2.2.2.2.2.2.2.2.2.2.2.2.2.2.2.2.2.2.2.2)) hw rfl (fun c _ _ => rr_readNewest (u := ((nI M), (nI M), (nI (rr_lay M 24).length), s.2.2.2.1, s.2.2.2.2.1, s.2.2.2.2.2.1, s.2.2.2.2.2.2.1, s.2.2.2.2.2.2.2.1, s.2.2.2.2.2.2.2.2.1, (b1), (b2), s.2.2.2.2.2.2.2.2.2.2.2.1, s.2.2.2.2.2.2.2.2.2.2.2.2.1, s.2.2.2.2.2.2.2.2.2.2.2.2.2.1, s.2.2.2.2.2.2.2.2.2.2.2.2.2.2.1, s.2.2.2.2.2.2.2.2.2.2.2.2.2.2.2.1, s.2.2.2.2.2.2.2.2.2.2.2.2.2.2.2.2.1, s.2.2.2.2.2.2.2.2.2.2.2.2.2.2.2.2.2.1, s.2.2.2.2.2.2.2.2.2.2.2.2.2.2.2.2.2.2.1, s.2.2.2.2.2.2.2.2.2.2.2.2.2.2.2.2.2.2.2.1, s.2.2.2.2.2.2.2.2.2.2.2.2.2.2.2.2.2.2.2.2)) hw ⟨rfl, rfl, rfl, hb⟩ h1 hk (h2 k hk (Nat.le_refl _)) (fun s2 _ y2 y3 _ y5 y6 => rr_layRing (u := ((nI M'), (nI M'), s2.2.2.1, s2.2.2.2.1, s2.2.2.2.2.1, s2.2.2.2.2.2.1, s2.2.2.2.2.2.2.1, s2.2.2.2.2.2.2.2.1, s2.2.2.2.2.2.2.2.2.1, s2.2.2.2.2.2.2.2.2.2.1, s2.2.2.2.2.2.2.2.2.2.2.1, s2.2.2.2.2.2.2.2.2.2.2.2.1, s2.2.2.2.2.2.2.2.2.2.2.2.2.1, s2.2.2.2.2.2.2.2.2.2.2.2.2.2.1, s2.2.2.2.2.2.2.2.2.2.2.2.2.2.2.1, s2.2.2.2.2.2.2.2.2.2.2.2.2.2.2.2.1, s2.2.2.2.2.2.2.2.2.2.2.2.2.2.2.2.2.1, s2.2.2.2.2.2.2.2.2.2.2.2.2.2.2.2.2.2.1, s2.2.2.2.2.2.2.2.2.2.2.2.2.2.2.2.2.2.2.1, s2.2.2.2.2.2.2.2.2.2.2.2.2.2.2.2.2.2.2.2.1, s2.2.2.2.2.2.2.2.2.2.2.2.2.2.2.2.2.2.2.2.2)) hw'.1 rfl (fun c1 c2 hc => rr_findKeepers (u := ((nI M'), (nI M'), (nI (rr_lay M' 24).length), s2.2.2.2.1, s2.2.2.2.2.1, s2.2.2.2.2.2.1, s2.2.2.2.2.2.2.1, s2.2.2.2.2.2.2.2.1, s2.2.2.2.2.2.2.2.2.1, (c1), (c2), s2.2.2.2.2.2.2.2.2.2.2.2.1, s2.2.2.2.2.2.2.2.2.2.2.2.2.1, s2.2.2.2.2.2.2.2.2.2.2.2.2.2.1, s2.2.2.2.2.2.2.2.2.2.2.2.2.2.2.1, s2.2.2.2.2.2.2.2.2.2.2.2.2.2.2.2.1, s2.2.2.2.2.2.2.2.2.2.2.2.2.2.2.2.2.1, s2.2.2.2.2.2.2.2.2.2.2.2.2.2.2.2.2.2.1, s2.2.2.2.2.2.2.2.2.2.2.2.2.2.2.2.2.2.2.1, s2.2.2.2.2.2.2.2.2.2.2.2.2.2.2.2.2.2.2.2.1, s2.2.2.2.2.2.2.2.2.2.2.2.2.2.2.2.2.2.2.2.2)) hw'.1 hw'.2.2.1 ⟨rfl, hc⟩ hk (fun b9 h9 => ?_))))))
      have hT : T k < 2 ^ 30 := (y2.1 0 (by omega) k hk).1
      have q := (rr_kpF hw'.1 hw'.2.2.1 hk).2.1
      have go : ∀ s' : St1, rr_E M' M' s' → rr_B T V D s' → rr_G T s2.2.2.2.2.2.2.2.2.2.2.2.1 s'.2.2.2.2.2.2.2.2.2.2.2.1 → rr_All M' T s'.2.2.2.2.2.2.2.2.2.2.2.1 k → wX_moveTo_7 post (nI M') (nI M) n (nI (k + 1)) s'.1 s'.2.1 s'.2.2.1 s'.2.2.2.1 s'.2.2.2.2.1 s'.2.2.2.2.2.1 s'.2.2.2.2.2.2.1 s'.2.2.2.2.2.2.2.1 s'.2.2.2.2.2.2.2.2.1 s'.2.2.2.2.2.2.2.2.2.1 s'.2.2.2.2.2.2.2.2.2.2.1 s'.2.2.2.2.2.2.2.2.2.2.2.1 s'.2.2.2.2.2.2.2.2.2.2.2.2.1 s'.2.2.2.2.2.2.2.2.2.2.2.2.2.1 s'.2.2.2.2.2.2.2.2.2.2.2.2.2.2.1 s'.2.2.2.2.2.2.2.2.2.2.2.2.2.2.2.1 s'.2.2.2.2.2.2.2.2.2.2.2.2.2.2.2.2.1 s'.2.2.2.2.2.2.2.2.2.2.2.2.2.2.2.2.2.1 s'.2.2.2.2.2.2.2.2.2.2.2.2.2.2.2.2.2.2.1 s'.2.2.2.2.2.2.2.2.2.2.2.2.2.2.2.2.2.2.2.1 s'.2.2.2.2.2.2.2.2.2.2.2.2.2.2.2.2.2.2.2.2 := by
        intro s' w1 w2 w3 w4
        refine hn s' ⟨w2, fun k' hk' le => rr_Q_G hw.1 hw.2.2.1 hk' (h2 k' hk' (by omega)) (rr_G_trans y3 w3), fun k' hk' => ?_, Or.inr w1⟩
        by_cases e : k' = k
        · subst e
          exact w4
        · intro j hj
          have hk2 : k' < 16 := by omega
          exact w3 _ ((rr_kpF hw'.1 hw'.2.2.1 hk2).2.1 j hj).1 k' hk2 (y3 _ ((rr_kpF hw'.1 hw'.2.2.1 hk2).2.1 j hj).1 k' hk2 (h3 k' (by omega) j hj))
      refine pk_le (T k) 0 (fun z => nm_r (nI_1 k) (go ((nI M'), (nI M'), (nI (rr_lay M' 24).length), s2.2.2.2.1, s2.2.2.2.2.1, s2.2.2.2.2.2.1, s2.2.2.2.2.2.2.1, s2.2.2.2.2.2.2.2.1, s2.2.2.2.2.2.2.2.2.1, (c1), (c2), s2.2.2.2.2.2.2.2.2.2.2.2.1, s2.2.2.2.2.2.2.2.2.2.2.2.2.1, s2.2.2.2.2.2.2.2.2.2.2.2.2.2.1, s2.2.2.2.2.2.2.2.2.2.2.2.2.2.2.1, s2.2.2.2.2.2.2.2.2.2.2.2.2.2.2.2.1, s2.2.2.2.2.2.2.2.2.2.2.2.2.2.2.2.2.1, (b9), s2.2.2.2.2.2.2.2.2.2.2.2.2.2.2.2.2.2.2.1, s2.2.2.2.2.2.2.2.2.2.2.2.2.2.2.2.2.2.2.2.1, s2.2.2.2.2.2.2.2.2.2.2.2.2.2.2.2.2.2.2.2.2) ⟨rfl, rfl, rfl, hc⟩ y2 rr_G_refl (fun j hj => ?_))) (fun z => rr_leader (u := ((nI M'), (nI M'), (nI (rr_lay M' 24).length), s2.2.2.2.1, s2.2.2.2.2.1, s2.2.2.2.2.2.1, s2.2.2.2.2.2.2.1, s2.2.2.2.2.2.2.2.1, s2.2.2.2.2.2.2.2.2.1, (c1), (c2), s2.2.2.2.2.2.2.2.2.2.2.2.1, s2.2.2.2.2.2.2.2.2.2.2.2.2.1, s2.2.2.2.2.2.2.2.2.2.2.2.2.2.1, s2.2.2.2.2.2.2.2.2.2.2.2.2.2.2.1, s2.2.2.2.2.2.2.2.2.2.2.2.2.2.2.2.1, s2.2.2.2.2.2.2.2.2.2.2.2.2.2.2.2.2.1, (b9), s2.2.2.2.2.2.2.2.2.2.2.2.2.2.2.2.2.2.2.1, s2.2.2.2.2.2.2.2.2.2.2.2.2.2.2.2.2.2.2.2.1, s2.2.2.2.2.2.2.2.2.2.2.2.2.2.2.2.2.2.2.2.2)) hw' rfl (fun c' hc' _ => rr_writeNewest (e := 3) (u := ((nI M'), (nI M'), (nI (rr_lay M' 24).length), s2.2.2.2.1, s2.2.2.2.2.1, s2.2.2.2.2.2.1, s2.2.2.2.2.2.2.1, s2.2.2.2.2.2.2.2.1, s2.2.2.2.2.2.2.2.2.1, (c1), (c2), s2.2.2.2.2.2.2.2.2.2.2.2.1, s2.2.2.2.2.2.2.2.2.2.2.2.2.1, s2.2.2.2.2.2.2.2.2.2.2.2.2.2.1, s2.2.2.2.2.2.2.2.2.2.2.2.2.2.2.1, s2.2.2.2.2.2.2.2.2.2.2.2.2.2.2.2.1, s2.2.2.2.2.2.2.2.2.2.2.2.2.2.2.2.2.1, (b9), s2.2.2.2.2.2.2.2.2.2.2.2.2.2.2.2.2.2.2.1, s2.2.2.2.2.2.2.2.2.2.2.2.2.2.2.2.2.2.2.2.1, s2.2.2.2.2.2.2.2.2.2.2.2.2.2.2.2.2.2.2.2.2)) hw' ⟨rfl, rfl, rfl, hc⟩ y2 hk hc' h9 y5 y6 (by omega) (fun A hA f => rr_pop3b A hA (fun j hj => f j hj (q j hj).2)) (fun u' w1 w2 w3 w4 => nm_r (nI_1 k) (go u' w1 w2 w3 (fun j hj => ?_))))) (hx := y5)
      · obtain ⟨_, _, x, e, hx, _⟩ := y2.1 _ (q j hj).1 k hk
        have e0 : x = T k := by omega
        rw [e0] at e
        exact e
      · obtain ⟨A, a1, a2⟩ := w4
        exact a2.2 j hj (rr_pop3a A a2.1 a1 j hj)
  rw [← eM] at t
  exact t
end
section
def rr_Inv (T : Nat → Nat) (V D : Nat → Int32) (M W : Nat) (u : St1) : Prop := rr_wf M W ∧ rr_E M W u ∧ rr_B T V D u ∧ ∀ k, k < 16 → rr_Q M T k u.2.2.2.2.2.2.2.2.2.2.2.1
theorem rr_pop_or : ∀ M, M < 64 → ∀ m, m < 6 → 3 ≤ rr_pop M → 3 ≤ rr_pop (M ||| 2 ^ m) := by decide +kernel
theorem rr_pop_clr : ∀ M, M < 64 → ∀ m, m < 6 → 3 ≤ rr_pop M → rr_pop M ≠ 3 → 3 ≤ rr_pop (rr_clr M m) := by decide +kernel
theorem rr_onesE {post : Int32 → Prop} {A : Nat} {x : Int32} (e : x = nI A) (hA : A < 64) (h : post (nI (rr_pop A))) : wpX_ones post () x := by
  subst e
  exact rr_ones hA h
theorem rr_moveToE {post : St1 → Prop} {u : St1} {T : Nat → Nat} {V D : Nat → Int32} {M M' : Nat} {x : Int32} (ex : x = nI M') (hw : rr_wf M M) (hw' : rr_wf M' M') (eM : u.1 = nI M) (hB : rr_B T V D u) (hQ : ∀ k, k < 16 → rr_Q M T k u.2.2.2.2.2.2.2.2.2.2.2.1) (H : ∀ u' : St1, rr_E M' M' u' → rr_B T V D u' → (∀ k, k < 16 → rr_Q M' T k u'.2.2.2.2.2.2.2.2.2.2.2.1) → post u') : wpX_moveTo post u x := by
  subst ex
  exact rr_moveTo hw hw' eM hB hQ H
theorem rr_wf_down {M m : Nat} (hm : m < 6) (h : rr_wf M M) : rr_wf M (rr_clr M m) := by
  obtain ⟨h1, _, h3, _, _⟩ := h
  obtain ⟨c1, c2⟩ := rr_clr_b M h1 m hm
  refine ⟨h1, c1, h3, fun j hj b => ((c2 j hj).mp b).1, fun j hj j' hj' b n b' n' => ?_⟩
  have e : j = m := Decidable.byContradiction (fun z => n ((c2 j hj).mpr ⟨b, z⟩))
  have e' : j' = m := Decidable.byContradiction (fun z => n' ((c2 j' hj').mpr ⟨b', z⟩))
  rw [e, e']
theorem rr_wf_up {M W m : Nat} (hm : m < 6) (h : rr_wf M W) (b : rr_b M m) (nb : ¬ rr_b W m) : rr_wf M (W ||| 2 ^ m) ∧ ∀ j, j < 6 → rr_b M j → rr_b (W ||| 2 ^ m) j := by
  obtain ⟨h1, h2, h3, h4, h5⟩ := h
  obtain ⟨c1, c2⟩ := rr_or_b W h2 m hm
  have all : ∀ j, j < 6 → rr_b M j → rr_b (W ||| 2 ^ m) j := by
    intro j hj bj
    refine (c2 j hj).mpr (Decidable.byContradiction (fun z => z (Or.inr ?_)))
    exact h5 j hj m hm bj (fun y => z (Or.inl y)) b nb
  refine ⟨⟨h1, c1, h3, fun j hj bj => ?_, fun j hj j' hj' bj n _ _ => absurd (all j hj bj) n⟩, all⟩
  rcases (c2 j hj).mp bj with y | y
  · exact h4 j hj y
  · rw [y]; exact b
theorem rr_down {post : Int32 → St1 → Prop} {u : St1} {T : Nat → Nat} {V D : Nat → Int32} {M W m : Nat} (hm : m < 6) (h : rr_Inv T V D M W u) (H : ∀ r W' u', rr_Inv T V D M W' u' → post r u') : wpX_down post u (nI m) := by
  obtain ⟨hw, hE, hB, hQ⟩ := h
  unfold wpX_down
  refine rr_isWorking (u := u) hm hw.2.1 hE.2.1 (fun _ => br_f (by decide) (pk_eq W M (fun e => nm_r (e' := nI (rr_clr M m)) ?_ (H 1 (rr_clr M m) (u.1, (nI (rr_clr M m)), u.2.2.1, u.2.2.2.1, u.2.2.2.2.1, u.2.2.2.2.2.1, u.2.2.2.2.2.2.1, u.2.2.2.2.2.2.2.1, u.2.2.2.2.2.2.2.2.1, u.2.2.2.2.2.2.2.2.2.1, u.2.2.2.2.2.2.2.2.2.2.1, u.2.2.2.2.2.2.2.2.2.2.2.1, u.2.2.2.2.2.2.2.2.2.2.2.2.1, u.2.2.2.2.2.2.2.2.2.2.2.2.2.1, u.2.2.2.2.2.2.2.2.2.2.2.2.2.2.1, u.2.2.2.2.2.2.2.2.2.2.2.2.2.2.2.1, u.2.2.2.2.2.2.2.2.2.2.2.2.2.2.2.2.1, u.2.2.2.2.2.2.2.2.2.2.2.2.2.2.2.2.2.1, u.2.2.2.2.2.2.2.2.2.2.2.2.2.2.2.2.2.2.1, u.2.2.2.2.2.2.2.2.2.2.2.2.2.2.2.2.2.2.2.1, u.2.2.2.2.2.2.2.2.2.2.2.2.2.2.2.2.2.2.2.2) ⟨?_, ⟨hE.1, rfl, hE.2.2⟩, hB, hQ⟩)) (fun _ => H 0 W u ⟨hw, hE, hB, hQ⟩) (hx := hE.2.1) (hy := hE.1) (ha := ?_) (hb := ?_))) (fun _ => br_t rfl (H 0 W u ⟨hw, hE, hB, hQ⟩))
  · rw [hE.2.1, e]
    exact rr_and M hw.1 m hm
  · rw [e] at hw
    exact rr_wf_down hm hw
  · have := hw.2.1
    omega
  · have := hw.1
    omega
theorem rr_lose {post : Int32 → St1 → Prop} {u : St1} {T : Nat → Nat} {V D : Nat → Int32} {M W n : Nat} (hn : n ≤ 15) (h : rr_Inv T V D M W u) (H : ∀ r u', rr_Inv T V D M W u' → post r u') : wpX_lose post u (nI n) := by
  obtain ⟨hw, hE, hB, hQ⟩ := h
  exact pk_lt n 0 (fun z => absurd z (by omega)) (fun _ => pk_le n 30 (fun _ => H 1 (u.1, u.2.1, u.2.2.1, u.2.2.2.1, u.2.2.2.2.1, u.2.2.2.2.2.1, u.2.2.2.2.2.2.1, u.2.2.2.2.2.2.2.1, (nI n), u.2.2.2.2.2.2.2.2.2.1, u.2.2.2.2.2.2.2.2.2.2.1, u.2.2.2.2.2.2.2.2.2.2.2.1, u.2.2.2.2.2.2.2.2.2.2.2.2.1, u.2.2.2.2.2.2.2.2.2.2.2.2.2.1, u.2.2.2.2.2.2.2.2.2.2.2.2.2.2.1, u.2.2.2.2.2.2.2.2.2.2.2.2.2.2.2.1, u.2.2.2.2.2.2.2.2.2.2.2.2.2.2.2.2.1, u.2.2.2.2.2.2.2.2.2.2.2.2.2.2.2.2.2.1, u.2.2.2.2.2.2.2.2.2.2.2.2.2.2.2.2.2.2.1, u.2.2.2.2.2.2.2.2.2.2.2.2.2.2.2.2.2.2.2.1, u.2.2.2.2.2.2.2.2.2.2.2.2.2.2.2.2.2.2.2.2) ⟨hw, hE, ⟨hB.1, hB.2.1, n, by omega, rfl⟩, hQ⟩) (fun z => absurd z (by omega)))
theorem rr_join {post : Int32 → St1 → Prop} {u : St1} {T : Nat → Nat} {V D : Nat → Int32} {M W m : Nat} (hm : m < 6) (h : rr_Inv T V D M W u) (H : ∀ r M' W' u', rr_Inv T V D M' W' u' → post r u') : wpX_join post u (nI m) := by
  have h0 := h
  obtain ⟨hw, hE, hB, hQ⟩ := h
  have hM := hw.1
  have hW := hw.2.1
  unfold wpX_join
  refine rr_isMachine hm (br_f (by decide) (rr_isMember (u := u) hm hM hE.1 (fun _ => br_f (by decide) (H _ M W u h0)) (fun _ => br_t rfl (pk_eq W M (fun e => ?_) (fun _ => H _ M W u h0) (hx := hE.2.1) (hy := hE.1)))))
  subst e
  refine rr_moveToE (u := u) (M' := W ||| 2 ^ m) (by rw [hE.1]; exact rr_or W hM m hm) hw (rr_wf_self (rr_or_b W hM m hm).1 (rr_pop_or W hM m hm hw.2.2.1)) hE.1 hB hQ (fun u' y1 y2 y3 => ?_)
  exact rr_onesE y1.1 (rr_or_b W hM m hm).1 (H _ _ _ u' ⟨rr_wf_self (rr_or_b W hM m hm).1 (rr_pop_or W hM m hm hw.2.2.1), y1, y2, y3⟩)
theorem rr_leave {post : Int32 → St1 → Prop} {u : St1} {T : Nat → Nat} {V D : Nat → Int32} {M W m : Nat} (hm : m < 6) (h : rr_Inv T V D M W u) (H : ∀ r M' W' u', rr_Inv T V D M' W' u' → post r u') : wpX_leave post u (nI m) := by
  have h0 := h
  obtain ⟨hw, hE, hB, hQ⟩ := h
  have hM := hw.1
  have hW := hw.2.1
  have hp6 := rr_pop_le M
  unfold wpX_leave
  refine rr_isMachine hm (br_f (by decide) (rr_isMember (u := u) hm hM hE.1 (fun _ => br_f (by decide) (rr_onesE hE.1 hM (pk_eq (rr_pop M) 3 (fun _ => H _ M W u h0) (fun n3 => pk_eq W M (fun e => ?_) (fun _ => H _ M W u h0) (hx := hE.2.1) (hy := hE.1))))) (fun _ => br_t rfl (H _ M W u h0))))
  subst e
  refine rr_moveToE (u := u) (M' := rr_clr W m) (by rw [hE.1]; exact rr_and W hM m hm) hw (rr_wf_self (rr_clr_b W hM m hm).1 (rr_pop_clr W hM m hm hw.2.2.1 n3)) hE.1 hB hQ (fun u' y1 y2 y3 => ?_)
  exact rr_onesE y1.1 (rr_clr_b W hM m hm).1 (H _ _ _ u' ⟨rr_wf_self (rr_clr_b W hM m hm).1 (rr_pop_clr W hM m hm hw.2.2.1 n3), y1, y2, y3⟩)
/-! coming back -/
def rr_Gm (m : Nat) (T : Nat → Nat) (a3 b3 : Nat → Int32) : Prop := ∀ m', m' < 6 → m' ≠ m → ∀ k, k < 16 → a3 (m' * 16 + k) = nI (T k) → b3 (m' * 16 + k) = nI (T k)
theorem rr_up118 {post : Int32 → St1 → Prop} {u : St1} {T : Nat → Nat} {V D : Nat → Int32} {M W m : Nat} (hm : m < 6) (hw : rr_wf M W) (hE : rr_E M W u) (hB : rr_B T V D u) (H : ∀ u' : St1, rr_E M W u' → rr_B T V D u' → rr_G T u.2.2.2.2.2.2.2.2.2.2.2.1 u'.2.2.2.2.2.2.2.2.2.2.2.1 → (∀ o, o < 6 → o ≠ m → rr_b W o → ∀ k, k < 16 → rr_both M k m o → u.2.2.2.2.2.2.2.2.2.2.2.1 (o * 16 + k) = nI (T k) → u'.2.2.2.2.2.2.2.2.2.2.2.1 (m * 16 + k) = nI (T k)) → post 1 u') : ∃ n, wX_up_118 post (nI m) n 0 u.1 u.2.1 u.2.2.1 u.2.2.2.1 u.2.2.2.2.1 u.2.2.2.2.2.1 u.2.2.2.2.2.2.1 u.2.2.2.2.2.2.2.1 u.2.2.2.2.2.2.2.2.1 u.2.2.2.2.2.2.2.2.2.1 u.2.2.2.2.2.2.2.2.2.2.1 u.2.2.2.2.2.2.2.2.2.2.2.1 u.2.2.2.2.2.2.2.2.2.2.2.2.1 u.2.2.2.2.2.2.2.2.2.2.2.2.2.1 u.2.2.2.2.2.2.2.2.2.2.2.2.2.2.1 u.2.2.2.2.2.2.2.2.2.2.2.2.2.2.2.1 u.2.2.2.2.2.2.2.2.2.2.2.2.2.2.2.2.1 u.2.2.2.2.2.2.2.2.2.2.2.2.2.2.2.2.2.1 u.2.2.2.2.2.2.2.2.2.2.2.2.2.2.2.2.2.2.1 u.2.2.2.2.2.2.2.2.2.2.2.2.2.2.2.2.2.2.2.1 u.2.2.2.2.2.2.2.2.2.2.2.2.2.2.2.2.2.2.2.2 := by
  have hW := hw.2.1
  refine pk_loop (σ := St1) (fun n o s => wX_up_118 post (nI m) n (nI o) s.1 s.2.1 s.2.2.1 s.2.2.2.1 s.2.2.2.2.1 s.2.2.2.2.2.1 s.2.2.2.2.2.2.1 s.2.2.2.2.2.2.2.1 s.2.2.2.2.2.2.2.2.1 s.2.2.2.2.2.2.2.2.2.1 s.2.2.2.2.2.2.2.2.2.2.1 s.2.2.2.2.2.2.2.2.2.2.2.1 s.2.2.2.2.2.2.2.2.2.2.2.2.1 s.2.2.2.2.2.2.2.2.2.2.2.2.2.1 s.2.2.2.2.2.2.2.2.2.2.2.2.2.2.1 s.2.2.2.2.2.2.2.2.2.2.2.2.2.2.2.1 s.2.2.2.2.2.2.2.2.2.2.2.2.2.2.2.2.1 s.2.2.2.2.2.2.2.2.2.2.2.2.2.2.2.2.2.1 s.2.2.2.2.2.2.2.2.2.2.2.2.2.2.2.2.2.2.1 s.2.2.2.2.2.2.2.2.2.2.2.2.2.2.2.2.2.2.2.1 s.2.2.2.2.2.2.2.2.2.2.2.2.2.2.2.2.2.2.2.2) (fun o s => rr_E M W s ∧ rr_B T V D s ∧ rr_G T u.2.2.2.2.2.2.2.2.2.2.2.1 s.2.2.2.2.2.2.2.2.2.2.2.1 ∧ (∀ o', o' < o → o' ≠ m → rr_b W o' → ∀ k, k < 16 → rr_both M k m o' → u.2.2.2.2.2.2.2.2.2.2.2.1 (o' * 16 + k) = nI (T k) → s.2.2.2.2.2.2.2.2.2.2.2.1 (m * 16 + k) = nI (T k))) 6 0 u (by omega) ⟨hE, hB, rr_G_refl, fun o' z => absurd z (by omega)⟩ ?_ ?_
  · intro n s h
    exact pk_le 6 6 (fun _ => H s h.1 h.2.1 h.2.2.1 h.2.2.2) (fun z => absurd z (by omega))
  · intro n o s ho h hn
    obtain ⟨h1, h2, h3, h4⟩ := h
    have go : ∀ s' : St1, rr_E M W s' → rr_B T V D s' → rr_G T s.2.2.2.2.2.2.2.2.2.2.2.1 s'.2.2.2.2.2.2.2.2.2.2.2.1 → (o ≠ m → rr_b W o → ∀ k, k < 16 → rr_both M k m o → s.2.2.2.2.2.2.2.2.2.2.2.1 (o * 16 + k) = nI (T k) → s'.2.2.2.2.2.2.2.2.2.2.2.1 (m * 16 + k) = nI (T k)) → wX_up_118 post (nI m) n (nI (o + 1)) s'.1 s'.2.1 s'.2.2.1 s'.2.2.2.1 s'.2.2.2.2.1 s'.2.2.2.2.2.1 s'.2.2.2.2.2.2.1 s'.2.2.2.2.2.2.2.1 s'.2.2.2.2.2.2.2.2.1 s'.2.2.2.2.2.2.2.2.2.1 s'.2.2.2.2.2.2.2.2.2.2.1 s'.2.2.2.2.2.2.2.2.2.2.2.1 s'.2.2.2.2.2.2.2.2.2.2.2.2.1 s'.2.2.2.2.2.2.2.2.2.2.2.2.2.1 s'.2.2.2.2.2.2.2.2.2.2.2.2.2.2.1 s'.2.2.2.2.2.2.2.2.2.2.2.2.2.2.2.1 s'.2.2.2.2.2.2.2.2.2.2.2.2.2.2.2.2.1 s'.2.2.2.2.2.2.2.2.2.2.2.2.2.2.2.2.2.1 s'.2.2.2.2.2.2.2.2.2.2.2.2.2.2.2.2.2.2.1 s'.2.2.2.2.2.2.2.2.2.2.2.2.2.2.2.2.2.2.2.1 s'.2.2.2.2.2.2.2.2.2.2.2.2.2.2.2.2.2.2.2.2 := by
      intro s' y1 y2 y3 y4
      refine hn s' ⟨y1, y2, rr_G_trans h3 y3, fun o' ho' z1 z2 k hk z3 z4 => ?_⟩
      by_cases e : o' = o
      · subst e
        exact y4 z1 z2 k hk z3 (h3 o' ho k hk z4)
      · exact y3 m hm k hk (h4 o' (by omega) z1 z2 k hk z3 z4)
    exact pk_le 6 o (fun z => absurd z (by omega)) (fun _ => pk_eq o m (fun e => nm_r (nI_1 o) (go s h1 h2 rr_G_refl (fun z => absurd e z))) (fun ne => rr_isWorking (u := s) ho hW h1.2.1 (fun _ => br_f (by decide) (rr_compare (u := s) hw hm ho h1 h2 (fun u' y1 y2 y3 y4 => nm_r (nI_1 o) (go u' y1 y2 y3 (fun _ _ k hk z3 z4 => y4 k hk z3 z4))))) (fun nb => br_t rfl (nm_r (nI_1 o) (go s h1 h2 rr_G_refl (fun _ z => absurd z nb))))))
theorem rr_up90 {post : Int32 → St1 → Prop} {u : St1} {T : Nat → Nat} {V D : Nat → Int32} {M W m : Nat} (hm : m < 6) (hw : rr_wf M W) (hE : rr_E M W u) (hB : rr_B T V D u) (H : ∀ u' : St1, rr_E M W u' → rr_B T V D u' → rr_G T u.2.2.2.2.2.2.2.2.2.2.2.1 u'.2.2.2.2.2.2.2.2.2.2.2.1 → ∃ n, wX_up_118 post (nI m) n 0 u'.1 u'.2.1 u'.2.2.1 u'.2.2.2.1 u'.2.2.2.2.1 u'.2.2.2.2.2.1 u'.2.2.2.2.2.2.1 u'.2.2.2.2.2.2.2.1 u'.2.2.2.2.2.2.2.2.1 u'.2.2.2.2.2.2.2.2.2.1 u'.2.2.2.2.2.2.2.2.2.2.1 u'.2.2.2.2.2.2.2.2.2.2.2.1 u'.2.2.2.2.2.2.2.2.2.2.2.2.1 u'.2.2.2.2.2.2.2.2.2.2.2.2.2.1 u'.2.2.2.2.2.2.2.2.2.2.2.2.2.2.1 u'.2.2.2.2.2.2.2.2.2.2.2.2.2.2.2.1 u'.2.2.2.2.2.2.2.2.2.2.2.2.2.2.2.2.1 u'.2.2.2.2.2.2.2.2.2.2.2.2.2.2.2.2.2.1 u'.2.2.2.2.2.2.2.2.2.2.2.2.2.2.2.2.2.2.1 u'.2.2.2.2.2.2.2.2.2.2.2.2.2.2.2.2.2.2.2.1 u'.2.2.2.2.2.2.2.2.2.2.2.2.2.2.2.2.2.2.2.2) : ∃ n, wX_up_90 post (nI m) n 0 u.1 u.2.1 u.2.2.1 u.2.2.2.1 u.2.2.2.2.1 u.2.2.2.2.2.1 u.2.2.2.2.2.2.1 u.2.2.2.2.2.2.2.1 u.2.2.2.2.2.2.2.2.1 u.2.2.2.2.2.2.2.2.2.1 u.2.2.2.2.2.2.2.2.2.2.1 u.2.2.2.2.2.2.2.2.2.2.2.1 u.2.2.2.2.2.2.2.2.2.2.2.2.1 u.2.2.2.2.2.2.2.2.2.2.2.2.2.1 u.2.2.2.2.2.2.2.2.2.2.2.2.2.2.1 u.2.2.2.2.2.2.2.2.2.2.2.2.2.2.2.1 u.2.2.2.2.2.2.2.2.2.2.2.2.2.2.2.2.1 u.2.2.2.2.2.2.2.2.2.2.2.2.2.2.2.2.2.1 u.2.2.2.2.2.2.2.2.2.2.2.2.2.2.2.2.2.2.1 u.2.2.2.2.2.2.2.2.2.2.2.2.2.2.2.2.2.2.2.1 u.2.2.2.2.2.2.2.2.2.2.2.2.2.2.2.2.2.2.2.2 := by
  have hW := hw.2.1
  refine pk_loop (σ := St1) (fun n o s => wX_up_90 post (nI m) n (nI o) s.1 s.2.1 s.2.2.1 s.2.2.2.1 s.2.2.2.2.1 s.2.2.2.2.2.1 s.2.2.2.2.2.2.1 s.2.2.2.2.2.2.2.1 s.2.2.2.2.2.2.2.2.1 s.2.2.2.2.2.2.2.2.2.1 s.2.2.2.2.2.2.2.2.2.2.1 s.2.2.2.2.2.2.2.2.2.2.2.1 s.2.2.2.2.2.2.2.2.2.2.2.2.1 s.2.2.2.2.2.2.2.2.2.2.2.2.2.1 s.2.2.2.2.2.2.2.2.2.2.2.2.2.2.1 s.2.2.2.2.2.2.2.2.2.2.2.2.2.2.2.1 s.2.2.2.2.2.2.2.2.2.2.2.2.2.2.2.2.1 s.2.2.2.2.2.2.2.2.2.2.2.2.2.2.2.2.2.1 s.2.2.2.2.2.2.2.2.2.2.2.2.2.2.2.2.2.2.1 s.2.2.2.2.2.2.2.2.2.2.2.2.2.2.2.2.2.2.2.1 s.2.2.2.2.2.2.2.2.2.2.2.2.2.2.2.2.2.2.2.2) (fun o s => rr_E M W s ∧ rr_B T V D s ∧ rr_G T u.2.2.2.2.2.2.2.2.2.2.2.1 s.2.2.2.2.2.2.2.2.2.2.2.1) 6 0 u (by omega) ⟨hE, hB, rr_G_refl⟩ ?_ ?_
  · intro n s h
    exact pk_le 6 6 (fun _ => H s h.1 h.2.1 h.2.2) (fun z => absurd z (by omega))
  · intro n o s ho h hn
    exact pk_le 6 o (fun z => absurd z (by omega)) (fun _ => rr_isWorking (u := s) ho hW h.1.2.1 (fun _ => br_f (by decide) (rr_handOver (u := s) ho hm h.1 h.2.1 (fun u' y1 y2 y3 => nm_r (nI_1 o) (hn u' ⟨y1, y2, rr_G_trans h.2.2 y3⟩)))) (fun nb => br_t rfl (nm_r (nI_1 o) (hn s h))))
theorem rr_up39 {post : Int32 → St1 → Prop} {J : Int32 → Int32 → Int32 → Int32 → Int32 → Int32 → Int32 → Int32 → Int32 → Int32 → (Nat → Int32) → (Nat → Int32) → (Nat → Int32) → (Nat → Int32) → (Nat → Int32) → (Nat → Int32) → (Nat → Int32) → (Nat → Int32) → (Nat → Int32) → (Nat → Int32) → (Nat → Int32) → (Nat → Int32) → Prop} {u : St1} {T : Nat → Nat} {V D : Nat → Int32} {m k : Nat} {x2 : Int32} (hm : m < 6) (hk : k < 16) (hH : rr_H T V D u.2.2.2.2.2.2.2.2.2.2.2.2.2.2.1 u.2.2.2.2.2.2.2.2.2.2.2.2.2.2.2.1 u.2.2.2.2.2.2.2.2.2.2.2.2.2.2.2.2.1) (H : ∀ b6, rr_H T V D b6 u.2.2.2.2.2.2.2.2.2.2.2.2.2.2.2.1 u.2.2.2.2.2.2.2.2.2.2.2.2.2.2.2.2.1 → J (nI (k + 1)) u.1 u.2.1 u.2.2.1 u.2.2.2.1 u.2.2.2.2.1 u.2.2.2.2.2.1 u.2.2.2.2.2.2.1 u.2.2.2.2.2.2.2.1 u.2.2.2.2.2.2.2.2.1 u.2.2.2.2.2.2.2.2.2.1 u.2.2.2.2.2.2.2.2.2.2.1 u.2.2.2.2.2.2.2.2.2.2.2.1 u.2.2.2.2.2.2.2.2.2.2.2.2.1 u.2.2.2.2.2.2.2.2.2.2.2.2.2.1 (b6) u.2.2.2.2.2.2.2.2.2.2.2.2.2.2.2.1 u.2.2.2.2.2.2.2.2.2.2.2.2.2.2.2.2.1 u.2.2.2.2.2.2.2.2.2.2.2.2.2.2.2.2.2.1 u.2.2.2.2.2.2.2.2.2.2.2.2.2.2.2.2.2.2.1 u.2.2.2.2.2.2.2.2.2.2.2.2.2.2.2.2.2.2.2.1 u.2.2.2.2.2.2.2.2.2.2.2.2.2.2.2.2.2.2.2.2) : ∃ n, wX_up_39 post J (nI m) x2 (nI k) u.1 u.2.1 u.2.2.1 u.2.2.2.1 u.2.2.2.2.1 u.2.2.2.2.2.1 u.2.2.2.2.2.2.1 u.2.2.2.2.2.2.2.1 u.2.2.2.2.2.2.2.2.1 n 0 u.2.2.2.2.2.2.2.2.2.1 u.2.2.2.2.2.2.2.2.2.2.1 u.2.2.2.2.2.2.2.2.2.2.2.1 u.2.2.2.2.2.2.2.2.2.2.2.2.1 u.2.2.2.2.2.2.2.2.2.2.2.2.2.1 u.2.2.2.2.2.2.2.2.2.2.2.2.2.2.1 u.2.2.2.2.2.2.2.2.2.2.2.2.2.2.2.1 u.2.2.2.2.2.2.2.2.2.2.2.2.2.2.2.2.1 u.2.2.2.2.2.2.2.2.2.2.2.2.2.2.2.2.2.1 u.2.2.2.2.2.2.2.2.2.2.2.2.2.2.2.2.2.2.1 u.2.2.2.2.2.2.2.2.2.2.2.2.2.2.2.2.2.2.2.1 u.2.2.2.2.2.2.2.2.2.2.2.2.2.2.2.2.2.2.2.2 := by
  refine pk_loop (σ := Nat → Int32) (fun n i s => wX_up_39 post J (nI m) x2 (nI k) u.1 u.2.1 u.2.2.1 u.2.2.2.1 u.2.2.2.2.1 u.2.2.2.2.2.1 u.2.2.2.2.2.2.1 u.2.2.2.2.2.2.2.1 u.2.2.2.2.2.2.2.2.1 n (nI i) u.2.2.2.2.2.2.2.2.2.1 u.2.2.2.2.2.2.2.2.2.2.1 u.2.2.2.2.2.2.2.2.2.2.2.1 u.2.2.2.2.2.2.2.2.2.2.2.2.1 u.2.2.2.2.2.2.2.2.2.2.2.2.2.1 (s) u.2.2.2.2.2.2.2.2.2.2.2.2.2.2.2.1 u.2.2.2.2.2.2.2.2.2.2.2.2.2.2.2.2.1 u.2.2.2.2.2.2.2.2.2.2.2.2.2.2.2.2.2.1 u.2.2.2.2.2.2.2.2.2.2.2.2.2.2.2.2.2.2.1 u.2.2.2.2.2.2.2.2.2.2.2.2.2.2.2.2.2.2.2.1 u.2.2.2.2.2.2.2.2.2.2.2.2.2.2.2.2.2.2.2.2) (fun i s => rr_H T V D s u.2.2.2.2.2.2.2.2.2.2.2.2.2.2.2.1 u.2.2.2.2.2.2.2.2.2.2.2.2.2.2.2.2.1) 6 0 u.2.2.2.2.2.2.2.2.2.2.2.2.2.2.1 (by omega) hH ?_ ?_
  · intro n s h
    exact pk_le 6 6 (fun _ => nm_r (nI_1 k) (H s h)) (fun z => absurd z (by omega))
  · intro n i s hi h hn
    exact pk_le 6 i (fun z => absurd z (by omega)) (fun _ => And.intro (pk_in ((m * 6 + i) * 16 + k) 576 (by omega) (hx := rr_hintE m i k)) (nm_e (nm_r (nI_1 i) (hn _ (rr_H_zero h)))))
theorem rr_up20 {post : Int32 → St1 → Prop} {u : St1} {T : Nat → Nat} {V D : Nat → Int32} {M W m : Nat} {x2 : Int32} (hm : m < 6) (hE : rr_E M W u) (hB : rr_B T V D u) (H : ∀ u' : St1, rr_E M W u' → rr_B T V D u' → rr_Gm m T u.2.2.2.2.2.2.2.2.2.2.2.1 u'.2.2.2.2.2.2.2.2.2.2.2.1 → wX_up_76 post (nI m) u'.1 u'.2.1 u'.2.2.1 u'.2.2.2.1 u'.2.2.2.2.1 u'.2.2.2.2.2.1 u'.2.2.2.2.2.2.1 u'.2.2.2.2.2.2.2.1 u'.2.2.2.2.2.2.2.2.1 u'.2.2.2.2.2.2.2.2.2.1 u'.2.2.2.2.2.2.2.2.2.2.1 u'.2.2.2.2.2.2.2.2.2.2.2.1 u'.2.2.2.2.2.2.2.2.2.2.2.2.1 u'.2.2.2.2.2.2.2.2.2.2.2.2.2.1 u'.2.2.2.2.2.2.2.2.2.2.2.2.2.2.1 u'.2.2.2.2.2.2.2.2.2.2.2.2.2.2.2.1 u'.2.2.2.2.2.2.2.2.2.2.2.2.2.2.2.2.1 u'.2.2.2.2.2.2.2.2.2.2.2.2.2.2.2.2.2.1 u'.2.2.2.2.2.2.2.2.2.2.2.2.2.2.2.2.2.2.1 u'.2.2.2.2.2.2.2.2.2.2.2.2.2.2.2.2.2.2.2.1 u'.2.2.2.2.2.2.2.2.2.2.2.2.2.2.2.2.2.2.2.2) : ∃ n, wX_up_20 post (nI m) x2 n 0 u.1 u.2.1 u.2.2.1 u.2.2.2.1 u.2.2.2.2.1 u.2.2.2.2.2.1 u.2.2.2.2.2.2.1 u.2.2.2.2.2.2.2.1 u.2.2.2.2.2.2.2.2.1 u.2.2.2.2.2.2.2.2.2.1 u.2.2.2.2.2.2.2.2.2.2.1 u.2.2.2.2.2.2.2.2.2.2.2.1 u.2.2.2.2.2.2.2.2.2.2.2.2.1 u.2.2.2.2.2.2.2.2.2.2.2.2.2.1 u.2.2.2.2.2.2.2.2.2.2.2.2.2.2.1 u.2.2.2.2.2.2.2.2.2.2.2.2.2.2.2.1 u.2.2.2.2.2.2.2.2.2.2.2.2.2.2.2.2.1 u.2.2.2.2.2.2.2.2.2.2.2.2.2.2.2.2.2.1 u.2.2.2.2.2.2.2.2.2.2.2.2.2.2.2.2.2.2.1 u.2.2.2.2.2.2.2.2.2.2.2.2.2.2.2.2.2.2.2.1 u.2.2.2.2.2.2.2.2.2.2.2.2.2.2.2.2.2.2.2.2 := by
  refine pk_loop (σ := St1) (fun n k s => wX_up_20 post (nI m) x2 n (nI k) s.1 s.2.1 s.2.2.1 s.2.2.2.1 s.2.2.2.2.1 s.2.2.2.2.2.1 s.2.2.2.2.2.2.1 s.2.2.2.2.2.2.2.1 s.2.2.2.2.2.2.2.2.1 s.2.2.2.2.2.2.2.2.2.1 s.2.2.2.2.2.2.2.2.2.2.1 s.2.2.2.2.2.2.2.2.2.2.2.1 s.2.2.2.2.2.2.2.2.2.2.2.2.1 s.2.2.2.2.2.2.2.2.2.2.2.2.2.1 s.2.2.2.2.2.2.2.2.2.2.2.2.2.2.1 s.2.2.2.2.2.2.2.2.2.2.2.2.2.2.2.1 s.2.2.2.2.2.2.2.2.2.2.2.2.2.2.2.2.1 s.2.2.2.2.2.2.2.2.2.2.2.2.2.2.2.2.2.1 s.2.2.2.2.2.2.2.2.2.2.2.2.2.2.2.2.2.2.1 s.2.2.2.2.2.2.2.2.2.2.2.2.2.2.2.2.2.2.2.1 s.2.2.2.2.2.2.2.2.2.2.2.2.2.2.2.2.2.2.2.2) (fun k s => rr_E M W s ∧ rr_B T V D s ∧ rr_Gm m T u.2.2.2.2.2.2.2.2.2.2.2.1 s.2.2.2.2.2.2.2.2.2.2.2.1) 16 0 u (by omega) ⟨hE, hB, fun _ _ _ _ _ z => z⟩ ?_ ?_
  · intro n s h
    exact pk_le 16 16 (fun _ => H s h.1 h.2.1 h.2.2) (fun z => absurd z (by omega))
  · intro n k s hk h hn
    obtain ⟨h1, ⟨h2, h3, h4⟩, h5⟩ := h
    refine pk_le 16 k (fun z => absurd z (by omega)) (fun _ => br_c (fun _ => H s h1 ⟨h2, h3, h4⟩ h5) (fun _ => rr_erase (u := s) hm hk (rr_up39 (u := (s.1, s.2.1, s.2.2.1, s.2.2.2.1, s.2.2.2.2.1, s.2.2.2.2.2.1, s.2.2.2.2.2.2.1, s.2.2.2.2.2.2.2.1, s.2.2.2.2.2.2.2.2.1, s.2.2.2.2.2.2.2.2.2.1, s.2.2.2.2.2.2.2.2.2.2.1, (upd s.2.2.2.2.2.2.2.2.2.2.2.1 (m * 16 + k) 0), (upd s.2.2.2.2.2.2.2.2.2.2.2.2.1 (m * 16 + k) 0), (upd s.2.2.2.2.2.2.2.2.2.2.2.2.2.1 (m * 16 + k) 0), s.2.2.2.2.2.2.2.2.2.2.2.2.2.2.1, s.2.2.2.2.2.2.2.2.2.2.2.2.2.2.2.1, s.2.2.2.2.2.2.2.2.2.2.2.2.2.2.2.2.1, s.2.2.2.2.2.2.2.2.2.2.2.2.2.2.2.2.2.1, s.2.2.2.2.2.2.2.2.2.2.2.2.2.2.2.2.2.2.1, s.2.2.2.2.2.2.2.2.2.2.2.2.2.2.2.2.2.2.2.1, s.2.2.2.2.2.2.2.2.2.2.2.2.2.2.2.2.2.2.2.2)) hm hk h3 (fun b6 hb => hn (s.1, s.2.1, s.2.2.1, s.2.2.2.1, s.2.2.2.2.1, s.2.2.2.2.2.1, s.2.2.2.2.2.2.1, s.2.2.2.2.2.2.2.1, s.2.2.2.2.2.2.2.2.1, s.2.2.2.2.2.2.2.2.2.1, s.2.2.2.2.2.2.2.2.2.2.1, (upd s.2.2.2.2.2.2.2.2.2.2.2.1 (m * 16 + k) 0), (upd s.2.2.2.2.2.2.2.2.2.2.2.2.1 (m * 16 + k) 0), (upd s.2.2.2.2.2.2.2.2.2.2.2.2.2.1 (m * 16 + k) 0), (b6), s.2.2.2.2.2.2.2.2.2.2.2.2.2.2.2.1, s.2.2.2.2.2.2.2.2.2.2.2.2.2.2.2.2.1, s.2.2.2.2.2.2.2.2.2.2.2.2.2.2.2.2.2.1, s.2.2.2.2.2.2.2.2.2.2.2.2.2.2.2.2.2.2.1, s.2.2.2.2.2.2.2.2.2.2.2.2.2.2.2.2.2.2.2.1, s.2.2.2.2.2.2.2.2.2.2.2.2.2.2.2.2.2.2.2.2) ⟨h1, ⟨rr_C_upd h2 hk (rr_ok0 (h2 m hm k hk).1 (Or.inl rfl)), hb, h4⟩, fun m' hm' ne k' hk' e => ?_⟩))))
    show upd s.2.2.2.2.2.2.2.2.2.2.2.1 (m * 16 + k) 0 (m' * 16 + k') = nI (T k')
    rw [pk_un (by omega)]
    exact h5 m' hm' ne k' hk' e
theorem rr_upM {post : Int32 → St1 → Prop} {u : St1} {T : Nat → Nat} {V D : Nat → Int32} {M W m : Nat} {x2 : Int32} (hm : m < 6) (h : rr_Inv T V D M W u) (H : ∀ r W' u', rr_Inv T V D M W' u' → post r u') : wpX_up post u (nI m) x2 := by
  have h0 := h
  obtain ⟨hw, hE, hB, hQ⟩ := h
  unfold wpX_up
  refine rr_isMember (u := u) hm hw.1 hE.1 (fun b => br_f (by decide) (rr_isWorking (u := u) hm hw.2.1 hE.2.1 (fun _ => br_f (by decide) (H 0 W u h0)) (fun nb => br_t rfl (rr_up20 (u := u) hm hE hB (fun s y1 y2 y3 => ?_))))) (fun _ => br_t rfl (H 0 W u h0))
  obtain ⟨w1, w2⟩ := rr_wf_up hm hw b nb
  refine nm_r (e' := nI (W ||| 2 ^ m)) (by rw [y1.2.1]; exact rr_or W hw.2.1 m hm) (rr_up90 (u := (s.1, (nI (W ||| 2 ^ m)), s.2.2.1, s.2.2.2.1, s.2.2.2.2.1, s.2.2.2.2.2.1, s.2.2.2.2.2.2.1, s.2.2.2.2.2.2.2.1, s.2.2.2.2.2.2.2.2.1, s.2.2.2.2.2.2.2.2.2.1, s.2.2.2.2.2.2.2.2.2.2.1, s.2.2.2.2.2.2.2.2.2.2.2.1, s.2.2.2.2.2.2.2.2.2.2.2.2.1, s.2.2.2.2.2.2.2.2.2.2.2.2.2.1, s.2.2.2.2.2.2.2.2.2.2.2.2.2.2.1, s.2.2.2.2.2.2.2.2.2.2.2.2.2.2.2.1, s.2.2.2.2.2.2.2.2.2.2.2.2.2.2.2.2.1, s.2.2.2.2.2.2.2.2.2.2.2.2.2.2.2.2.2.1, s.2.2.2.2.2.2.2.2.2.2.2.2.2.2.2.2.2.2.1, s.2.2.2.2.2.2.2.2.2.2.2.2.2.2.2.2.2.2.2.1, s.2.2.2.2.2.2.2.2.2.2.2.2.2.2.2.2.2.2.2.2)) hm w1 ⟨y1.1, rfl, y1.2.2⟩ y2 (fun s1 z1 z2 z3 => rr_up118 (u := s1) hm w1 z1 z2 (fun s2 v1 v2 v3 v4 => H 1 _ s2 ⟨w1, v1, v2, fun k hk => ?_⟩)))
  obtain ⟨q0, q1, q2⟩ := rr_kpF hw.1 hw.2.2.1 hk
  obtain ⟨i0, hi0, hold⟩ := hQ k hk
  have hold1 : ∀ j, j < 3 → j ≠ i0 → rr_kp M k j ≠ m → s1.2.2.2.2.2.2.2.2.2.2.2.1 (rr_kp M k j * 16 + k) = nI (T k) := fun j hj ne nm => z3 _ (q1 j hj).1 k hk (y3 _ (q1 j hj).1 nm k hk (hold j hj ne))
  refine ⟨i0, hi0, fun j hj ne => ?_⟩
  by_cases e : rr_kp M k j = m
  · have ex : ∃ j3, j3 < 3 ∧ j3 ≠ i0 ∧ j3 ≠ j := by
      by_cases a : i0 ≠ 0 ∧ j ≠ 0
      · exact ⟨0, by omega, by omega, by omega⟩
      · by_cases b : i0 ≠ 1 ∧ j ≠ 1
        · exact ⟨1, by omega, by omega, by omega⟩
        · exact ⟨2, by omega, by omega, by omega⟩
    obtain ⟨j3, a1, a2, a3⟩ := ex
    have nm : rr_kp M k j3 ≠ m := fun z => a3 (q2 j3 a1 j hj (by rw [z, e]))
    have g := v4 _ (q1 j3 a1).1 nm (w2 _ (q1 j3 a1).1 (q1 j3 a1).2) k hk ⟨⟨j, hj, e⟩, ⟨j3, a1, rfl⟩⟩ (hold1 j3 a1 a2 nm)
    show s2.2.2.2.2.2.2.2.2.2.2.2.1 (rr_kp M k j * 16 + k) = nI (T k)
    rw [e]
    exact g
  · exact v3 _ (q1 j hj).1 k hk (hold1 j hj ne e)
end
section
def rr_num (T : Nat → Nat) (V D : Nat → Int32) (k : Nat) : Int32 := if T k = 0 then -200000 else if D k = 0 then V k else -200000
theorem rr_isKey {post : Int32 → Prop} {k : Nat} (hk : k < 16) (h : post 1) : wpX_isKey post () (nI k) :=
  pk_lt k 0 (fun z => absurd z (by omega)) (fun _ => pk_le 16 k (fun z => absurd z (by omega)) (fun _ => h))
theorem rr_readNumber {post : Int32 → Prop} {u : St1} {T : Nat → Nat} {V D : Nat → Int32} {k : Nat} (e : u.2.2.2.2.1 = nI (T k)) (hn : rr_ok (T k) (V k) (D k) u.2.2.2.2.1 u.2.2.2.2.2.1 u.2.2.2.2.2.2.1) (h : post (rr_num T V D k)) : wpX_readNumber post u := by
  have hT := hn.1
  unfold rr_num at h
  refine pk_eq (T k) 0 (fun z => ?_) (fun z => ?_) (hx := e)
  · rw [if_pos z] at h
    exact h
  · rw [if_neg z] at h
    obtain ⟨q1, q2⟩ := rr_ok_T hn e (by omega)
    refine br_c (fun y => ?_) (fun y => ?_)
    · rw [if_pos (by rw [← q2]; exact y), ← q1] at h
      exact h
    · rw [if_neg (by rw [← q2]; exact y)] at h
      exact h
theorem rr_readInv {post : St1 → Prop} {u : St1} {T : Nat → Nat} {V D : Nat → Int32} {M W k : Nat} {x1 : Int32} (hk : k < 16) (h : rr_Inv T V D M W u) (hp : ∀ u' : St1, rr_Inv T V D M W u' → rr_K M k u'.2.2.2.2.2.2.2.2.2.2.2.2.2.2.2.2.2.1 → u'.2.2.2.2.1 = nI (T k) → rr_ok (T k) (V k) (D k) u'.2.2.2.2.1 u'.2.2.2.2.2.1 u'.2.2.2.2.2.2.1 → post u') : wpX_readNewest post u x1 (nI k) := by
  obtain ⟨hw, hE, hB, hQ⟩ := h
  exact rr_readNewest (u := u) hw hE hB hk (hQ k hk) (fun u' y1 y2 y3 y4 y5 y6 => hp u' ⟨hw, y1, y2, fun k' hk' => rr_Q_G hw.1 hw.2.2.1 hk' (hQ k' hk') y3⟩ y4 y5 y6)
theorem rr_get {post : Int32 → St1 → Prop} {u : St1} {T : Nat → Nat} {V D : Nat → Int32} {M W c k : Nat} (hc : c < 6) (hb : rr_b W c) (hk : k < 16) (h : rr_Inv T V D M W u) (H : ∀ u' : St1, rr_Inv T V D M W u' → post (rr_num T V D k) u') : wpX_get post u (nI c) (nI k) := by
  unfold wpX_get
  exact rr_isMachine hc (br_f (by decide) (rr_isKey hk (br_f (by decide) (rr_isWorking (u := u) hc h.1.2.1 h.2.1.2.1 (fun _ => br_f (by decide) (rr_readInv (u := u) hk h (fun u' y1 _ y3 y4 => rr_readNumber (u := u') y3 y4 (H u' y1)))) (fun nb => absurd hb nb)))))
theorem rr_numberOf {post : Int32 → St1 → Prop} {u : St1} {T : Nat → Nat} {V D : Nat → Int32} {M W k : Nat} (hk : k < 16) (h : rr_Inv T V D M W u) (H : ∀ u' : St1, rr_Inv T V D M W u' → post (rr_num T V D k) u') : wpX_numberOf post u (nI k) := by
  unfold wpX_numberOf
  exact rr_leader (u := u) h.1 h.2.1.2.1 (fun c _ _ => rr_readInv (u := u) hk h (fun u' y1 _ y3 y4 => rr_readNumber (u := u') y3 y4 (H u' y1)))
theorem rr_changes {post : Int32 → St1 → Prop} {u : St1} {T : Nat → Nat} {V D : Nat → Int32} {M W k : Nat} (hk : k < 16) (h : rr_Inv T V D M W u) (H : ∀ u' : St1, rr_Inv T V D M W u' → post (nI (T k / 8)) u') : wpX_changes post u (nI k) := by
  unfold wpX_changes
  refine rr_isKey hk (br_f (by decide) (rr_leader (u := u) h.1 h.2.1.2.1 (fun c _ _ => rr_readInv (u := u) hk h (fun u' y1 _ y3 y4 => And.intro (by decide) ?_))))
  have e : u'.2.2.2.2.1 / 8 = nI (T k / 8) := by
    have := y4.1
    rw [y3]
    exact pk_div (d := 8) (by omega) (by omega) (by omega)
  have t := H u' y1
  rw [← e] at t
  exact t
def rr_sm (f : Nat → Int32) : Nat → Int32
  | 0 => 0
  | n + 1 => rr_sm f n + f n
def rr_f1 (N : Nat → Int32) (k : Nat) : Int32 := if N k = -200000 then 0 else 1
def rr_f2 (N : Nat → Int32) (k : Nat) : Int32 := if N k = -200000 then 0 else N k
def rr_nx (N : Nat → Int32) : Nat → Int32
  | 0 => -200000
  | j + 1 => if N (15 - j) = -200000 then rr_nx N j else nI (15 - j)
theorem rr_size {post : Int32 → St1 → Prop} {u : St1} {T : Nat → Nat} {V D : Nat → Int32} {M W : Nat} (h : rr_Inv T V D M W u) (H : ∀ u' : St1, rr_Inv T V D M W u' → post (rr_sm (rr_f1 (rr_num T V D)) 16) u') : wpX_size post u := by
  have t : ∃ n, wX_size_4 post n 0 0 u.1 u.2.1 u.2.2.1 u.2.2.2.1 u.2.2.2.2.1 u.2.2.2.2.2.1 u.2.2.2.2.2.2.1 u.2.2.2.2.2.2.2.1 u.2.2.2.2.2.2.2.2.1 u.2.2.2.2.2.2.2.2.2.1 u.2.2.2.2.2.2.2.2.2.2.1 u.2.2.2.2.2.2.2.2.2.2.2.1 u.2.2.2.2.2.2.2.2.2.2.2.2.1 u.2.2.2.2.2.2.2.2.2.2.2.2.2.1 u.2.2.2.2.2.2.2.2.2.2.2.2.2.2.1 u.2.2.2.2.2.2.2.2.2.2.2.2.2.2.2.1 u.2.2.2.2.2.2.2.2.2.2.2.2.2.2.2.2.1 u.2.2.2.2.2.2.2.2.2.2.2.2.2.2.2.2.2.1 u.2.2.2.2.2.2.2.2.2.2.2.2.2.2.2.2.2.2.1 u.2.2.2.2.2.2.2.2.2.2.2.2.2.2.2.2.2.2.2.1 u.2.2.2.2.2.2.2.2.2.2.2.2.2.2.2.2.2.2.2.2 := by
    refine pk_loop (σ := St1) (fun n k s => wX_size_4 post n (rr_sm (rr_f1 (rr_num T V D)) k) (nI k) s.1 s.2.1 s.2.2.1 s.2.2.2.1 s.2.2.2.2.1 s.2.2.2.2.2.1 s.2.2.2.2.2.2.1 s.2.2.2.2.2.2.2.1 s.2.2.2.2.2.2.2.2.1 s.2.2.2.2.2.2.2.2.2.1 s.2.2.2.2.2.2.2.2.2.2.1 s.2.2.2.2.2.2.2.2.2.2.2.1 s.2.2.2.2.2.2.2.2.2.2.2.2.1 s.2.2.2.2.2.2.2.2.2.2.2.2.2.1 s.2.2.2.2.2.2.2.2.2.2.2.2.2.2.1 s.2.2.2.2.2.2.2.2.2.2.2.2.2.2.2.1 s.2.2.2.2.2.2.2.2.2.2.2.2.2.2.2.2.1 s.2.2.2.2.2.2.2.2.2.2.2.2.2.2.2.2.2.1 s.2.2.2.2.2.2.2.2.2.2.2.2.2.2.2.2.2.2.1 s.2.2.2.2.2.2.2.2.2.2.2.2.2.2.2.2.2.2.2.1 s.2.2.2.2.2.2.2.2.2.2.2.2.2.2.2.2.2.2.2.2) (fun k s => rr_Inv T V D M W s) 16 0 u (by omega) h ?_ ?_
    · intro n s hs
      exact pk_le 16 16 (fun _ => H s hs) (fun z => absurd z (by omega))
    · intro n k s hk hs hn
      refine pk_le 16 k (fun z => absurd z (by omega)) (fun _ => rr_numberOf (u := s) hk hs (fun u' y => br_c (fun z => nm_r (e' := rr_sm (rr_f1 (rr_num T V D)) (k + 1)) ?_ (nm_r (nI_1 k) (hn u' y))) (fun z => nm_r (e' := rr_sm (rr_f1 (rr_num T V D)) (k + 1)) ?_ (nm_r (nI_1 k) (hn u' y)))))
      · show _ = rr_sm (rr_f1 (rr_num T V D)) k + rr_f1 (rr_num T V D) k
        rw [rr_f1, if_pos z]
      · show _ = rr_sm (rr_f1 (rr_num T V D)) k + rr_f1 (rr_num T V D) k
        rw [rr_f1, if_neg z]
  exact t
theorem rr_sum {post : Int32 → St1 → Prop} {u : St1} {T : Nat → Nat} {V D : Nat → Int32} {M W : Nat} (h : rr_Inv T V D M W u) (H : ∀ u' : St1, rr_Inv T V D M W u' → post (rr_sm (rr_f2 (rr_num T V D)) 16) u') : wpX_sum post u := by
  have t : ∃ n, wX_sum_4 post n 0 0 u.1 u.2.1 u.2.2.1 u.2.2.2.1 u.2.2.2.2.1 u.2.2.2.2.2.1 u.2.2.2.2.2.2.1 u.2.2.2.2.2.2.2.1 u.2.2.2.2.2.2.2.2.1 u.2.2.2.2.2.2.2.2.2.1 u.2.2.2.2.2.2.2.2.2.2.1 u.2.2.2.2.2.2.2.2.2.2.2.1 u.2.2.2.2.2.2.2.2.2.2.2.2.1 u.2.2.2.2.2.2.2.2.2.2.2.2.2.1 u.2.2.2.2.2.2.2.2.2.2.2.2.2.2.1 u.2.2.2.2.2.2.2.2.2.2.2.2.2.2.2.1 u.2.2.2.2.2.2.2.2.2.2.2.2.2.2.2.2.1 u.2.2.2.2.2.2.2.2.2.2.2.2.2.2.2.2.2.1 u.2.2.2.2.2.2.2.2.2.2.2.2.2.2.2.2.2.2.1 u.2.2.2.2.2.2.2.2.2.2.2.2.2.2.2.2.2.2.2.1 u.2.2.2.2.2.2.2.2.2.2.2.2.2.2.2.2.2.2.2.2 := by
    refine pk_loop (σ := St1) (fun n k s => wX_sum_4 post n (rr_sm (rr_f2 (rr_num T V D)) k) (nI k) s.1 s.2.1 s.2.2.1 s.2.2.2.1 s.2.2.2.2.1 s.2.2.2.2.2.1 s.2.2.2.2.2.2.1 s.2.2.2.2.2.2.2.1 s.2.2.2.2.2.2.2.2.1 s.2.2.2.2.2.2.2.2.2.1 s.2.2.2.2.2.2.2.2.2.2.1 s.2.2.2.2.2.2.2.2.2.2.2.1 s.2.2.2.2.2.2.2.2.2.2.2.2.1 s.2.2.2.2.2.2.2.2.2.2.2.2.2.1 s.2.2.2.2.2.2.2.2.2.2.2.2.2.2.1 s.2.2.2.2.2.2.2.2.2.2.2.2.2.2.2.1 s.2.2.2.2.2.2.2.2.2.2.2.2.2.2.2.2.1 s.2.2.2.2.2.2.2.2.2.2.2.2.2.2.2.2.2.1 s.2.2.2.2.2.2.2.2.2.2.2.2.2.2.2.2.2.2.1 s.2.2.2.2.2.2.2.2.2.2.2.2.2.2.2.2.2.2.2.1 s.2.2.2.2.2.2.2.2.2.2.2.2.2.2.2.2.2.2.2.2) (fun k s => rr_Inv T V D M W s) 16 0 u (by omega) h ?_ ?_
    · intro n s hs
      exact pk_le 16 16 (fun _ => H s hs) (fun z => absurd z (by omega))
    · intro n k s hk hs hn
      refine pk_le 16 k (fun z => absurd z (by omega)) (fun _ => rr_numberOf (u := s) hk hs (fun u' y => br_c (fun z => nm_r (e' := rr_sm (rr_f2 (rr_num T V D)) (k + 1)) ?_ (nm_r (nI_1 k) (hn u' y))) (fun z => nm_r (e' := rr_sm (rr_f2 (rr_num T V D)) (k + 1)) ?_ (nm_r (nI_1 k) (hn u' y)))))
      · show _ = rr_sm (rr_f2 (rr_num T V D)) k + rr_f2 (rr_num T V D) k
        rw [rr_f2, if_pos z]
      · show _ = rr_sm (rr_f2 (rr_num T V D)) k + rr_f2 (rr_num T V D) k
        rw [rr_f2, if_neg z]
  exact t
theorem rr_nx_s {N : Nat → Int32} {i : Nat} (hi : i < 16) : rr_nx N (16 - i) = if N i = -200000 then rr_nx N (16 - (i + 1)) else nI i := by
  rw [show 16 - i = (15 - i) + 1 by omega]
  show (if N (15 - (15 - i)) = -200000 then rr_nx N (15 - i) else nI (15 - (15 - i))) = _
  rw [show 15 - (15 - i) = i by omega, show 16 - (i + 1) = 15 - i by omega]
theorem rr_nextKey {post : Int32 → St1 → Prop} {u : St1} {T : Nat → Nat} {V D : Nat → Int32} {M W k : Nat} (hk : k < 16) (h : rr_Inv T V D M W u) (H : ∀ u' : St1, rr_Inv T V D M W u' → post (rr_nx (rr_num T V D) (16 - k)) u') : wpX_nextKey post u (nI k) := by
  have t : ∃ n, wX_nextKey_10 post n (nI k) u.1 u.2.1 u.2.2.1 u.2.2.2.1 u.2.2.2.2.1 u.2.2.2.2.2.1 u.2.2.2.2.2.2.1 u.2.2.2.2.2.2.2.1 u.2.2.2.2.2.2.2.2.1 u.2.2.2.2.2.2.2.2.2.1 u.2.2.2.2.2.2.2.2.2.2.1 u.2.2.2.2.2.2.2.2.2.2.2.1 u.2.2.2.2.2.2.2.2.2.2.2.2.1 u.2.2.2.2.2.2.2.2.2.2.2.2.2.1 u.2.2.2.2.2.2.2.2.2.2.2.2.2.2.1 u.2.2.2.2.2.2.2.2.2.2.2.2.2.2.2.1 u.2.2.2.2.2.2.2.2.2.2.2.2.2.2.2.2.1 u.2.2.2.2.2.2.2.2.2.2.2.2.2.2.2.2.2.1 u.2.2.2.2.2.2.2.2.2.2.2.2.2.2.2.2.2.2.1 u.2.2.2.2.2.2.2.2.2.2.2.2.2.2.2.2.2.2.2.1 u.2.2.2.2.2.2.2.2.2.2.2.2.2.2.2.2.2.2.2.2 := by
    refine pk_loop (σ := St1) (fun n i s => wX_nextKey_10 post n (nI i) s.1 s.2.1 s.2.2.1 s.2.2.2.1 s.2.2.2.2.1 s.2.2.2.2.2.1 s.2.2.2.2.2.2.1 s.2.2.2.2.2.2.2.1 s.2.2.2.2.2.2.2.2.1 s.2.2.2.2.2.2.2.2.2.1 s.2.2.2.2.2.2.2.2.2.2.1 s.2.2.2.2.2.2.2.2.2.2.2.1 s.2.2.2.2.2.2.2.2.2.2.2.2.1 s.2.2.2.2.2.2.2.2.2.2.2.2.2.1 s.2.2.2.2.2.2.2.2.2.2.2.2.2.2.1 s.2.2.2.2.2.2.2.2.2.2.2.2.2.2.2.1 s.2.2.2.2.2.2.2.2.2.2.2.2.2.2.2.2.1 s.2.2.2.2.2.2.2.2.2.2.2.2.2.2.2.2.2.1 s.2.2.2.2.2.2.2.2.2.2.2.2.2.2.2.2.2.2.1 s.2.2.2.2.2.2.2.2.2.2.2.2.2.2.2.2.2.2.2.1 s.2.2.2.2.2.2.2.2.2.2.2.2.2.2.2.2.2.2.2.2) (fun i s => rr_Inv T V D M W s ∧ rr_nx (rr_num T V D) (16 - k) = rr_nx (rr_num T V D) (16 - i)) 16 k u (by omega) ⟨h, rfl⟩ ?_ ?_
    · intro n s hs
      refine pk_le 16 16 (fun _ => ?_) (fun z => absurd z (by omega))
      have g := H s hs.1
      rw [hs.2] at g
      exact g
    · intro n i s hi hs hn
      obtain ⟨h1, h2⟩ := hs
      rw [rr_nx_s hi] at h2
      refine pk_le 16 i (fun z => absurd z (by omega)) (fun _ => rr_numberOf (u := s) hi h1 (fun u' y => br_c (fun z => nm_r (nI_1 i) (hn u' ⟨y, ?_⟩)) (fun z => ?_)))
      · rw [if_pos z] at h2
        exact h2
      · rw [if_neg z] at h2
        have g := H u' y
        rw [h2] at g
        exact g
  exact pk_le 0 k (fun _ => t) (fun z => absurd z (by omega))
theorem rr_worker {post : Int32 → Prop} {u : St1} {M W : Nat} (hw : rr_wf M W) (eW : u.2.1 = nI W) (H : ∀ c, c < 6 → rr_b W c → post (nI c)) : wpL_worker post u := by
  have hW := hw.2.1
  have t : ∃ n, wL_worker_7 post (nI W) u.1 u.2.1 u.2.2.1 u.2.2.2.1 u.2.2.2.2.1 u.2.2.2.2.2.1 u.2.2.2.2.2.2.1 u.2.2.2.2.2.2.2.1 u.2.2.2.2.2.2.2.2.1 u.2.2.2.2.2.2.2.2.2.1 u.2.2.2.2.2.2.2.2.2.2.1 u.2.2.2.2.2.2.2.2.2.2.2.1 u.2.2.2.2.2.2.2.2.2.2.2.2.1 u.2.2.2.2.2.2.2.2.2.2.2.2.2.1 u.2.2.2.2.2.2.2.2.2.2.2.2.2.2.1 u.2.2.2.2.2.2.2.2.2.2.2.2.2.2.2.1 u.2.2.2.2.2.2.2.2.2.2.2.2.2.2.2.2.1 u.2.2.2.2.2.2.2.2.2.2.2.2.2.2.2.2.2.1 u.2.2.2.2.2.2.2.2.2.2.2.2.2.2.2.2.2.2.1 u.2.2.2.2.2.2.2.2.2.2.2.2.2.2.2.2.2.2.2.1 u.2.2.2.2.2.2.2.2.2.2.2.2.2.2.2.2.2.2.2.2 n 0 := by
    refine pk_loop (σ := Unit) (fun n i _ => wL_worker_7 post (nI W) u.1 u.2.1 u.2.2.1 u.2.2.2.1 u.2.2.2.2.1 u.2.2.2.2.2.1 u.2.2.2.2.2.2.1 u.2.2.2.2.2.2.2.1 u.2.2.2.2.2.2.2.2.1 u.2.2.2.2.2.2.2.2.2.1 u.2.2.2.2.2.2.2.2.2.2.1 u.2.2.2.2.2.2.2.2.2.2.2.1 u.2.2.2.2.2.2.2.2.2.2.2.2.1 u.2.2.2.2.2.2.2.2.2.2.2.2.2.1 u.2.2.2.2.2.2.2.2.2.2.2.2.2.2.1 u.2.2.2.2.2.2.2.2.2.2.2.2.2.2.2.1 u.2.2.2.2.2.2.2.2.2.2.2.2.2.2.2.2.1 u.2.2.2.2.2.2.2.2.2.2.2.2.2.2.2.2.2.1 u.2.2.2.2.2.2.2.2.2.2.2.2.2.2.2.2.2.2.1 u.2.2.2.2.2.2.2.2.2.2.2.2.2.2.2.2.2.2.2.1 u.2.2.2.2.2.2.2.2.2.2.2.2.2.2.2.2.2.2.2.2 n (nI i)) (fun i _ => ∀ j, j < i → ¬ rr_b W j) 5 0 () (by omega) (fun j hj => absurd hj (by omega)) ?_ ?_
    · intro n _ h
      refine pk_le 5 5 (fun _ => H 5 (by omega) ?_) (fun z => absurd z (by omega))
      obtain ⟨m, hm, hb⟩ := rr_someWork hw
      by_cases e : m = 5
      · rw [e] at hb
        exact hb
      · exact absurd hb (h m (by omega))
    · intro n i _ hi h hn
      refine pk_le 5 i (fun z => absurd z (by omega)) (fun _ => ek_if (rr_bit0 hW (by omega)) (fun hb => nm_r (nI_1 i) (hn () (fun j hj => ?_))) (fun hb => H i (by omega) (Decidable.of_not_not hb)))
      by_cases e : j = i
      · rw [e]
        exact hb
      · exact h j (by omega)
  have t2 : ∃ n, wL_worker_7 post u.2.1 u.1 u.2.1 u.2.2.1 u.2.2.2.1 u.2.2.2.2.1 u.2.2.2.2.2.1 u.2.2.2.2.2.2.1 u.2.2.2.2.2.2.2.1 u.2.2.2.2.2.2.2.2.1 u.2.2.2.2.2.2.2.2.2.1 u.2.2.2.2.2.2.2.2.2.2.1 u.2.2.2.2.2.2.2.2.2.2.2.1 u.2.2.2.2.2.2.2.2.2.2.2.2.1 u.2.2.2.2.2.2.2.2.2.2.2.2.2.1 u.2.2.2.2.2.2.2.2.2.2.2.2.2.2.1 u.2.2.2.2.2.2.2.2.2.2.2.2.2.2.2.1 u.2.2.2.2.2.2.2.2.2.2.2.2.2.2.2.2.1 u.2.2.2.2.2.2.2.2.2.2.2.2.2.2.2.2.2.1 u.2.2.2.2.2.2.2.2.2.2.2.2.2.2.2.2.2.2.1 u.2.2.2.2.2.2.2.2.2.2.2.2.2.2.2.2.2.2.2.1 u.2.2.2.2.2.2.2.2.2.2.2.2.2.2.2.2.2.2.2.2 n 0 := by
    rw [← eW] at t
    exact t
  exact t2
def rr_vw (N : Nat → Int32) (T : Nat → Nat) (x : Int64) : Nat → Int64
  | 0 => x
  | k + 1 => ((((rr_vw N T x k * 31) + (N k).toInt64) * 31) + (rr_nx N (16 - k)).toInt64) + ((7 * nI (T k / 8)).toInt64)
def rr_vwA (N : Nat → Int32) (T : Nat → Nat) : Int64 := rr_vw N T ((rr_sm (rr_f1 N) 16).toInt64 + (31 * (rr_sm (rr_f2 N) 16).toInt64)) 16
theorem rr_view {post : Int64 → St1 → Prop} {u : St1} {T : Nat → Nat} {V D : Nat → Int32} {M W : Nat} (h : rr_Inv T V D M W u) (H : ∀ u' : St1, rr_Inv T V D M W u' → post (rr_vwA (rr_num T V D) T) u') : wpL_view post u := by
  unfold wpL_view
  refine rr_size (u := u) h (fun u1 h1 => rr_sum (u := u1) h1 (fun u2 h2 => nm_e (rr_worker (u := u2) h2.1 h2.2.1.2.1 (fun c hc hb => ?_))))
  refine pk_loop (σ := St1) (fun n k s => wL_view_24 post (nI c) n (rr_vw (rr_num T V D) T ((rr_sm (rr_f1 (rr_num T V D)) 16).toInt64 + (31 * (rr_sm (rr_f2 (rr_num T V D)) 16).toInt64)) k) (nI k) s.1 s.2.1 s.2.2.1 s.2.2.2.1 s.2.2.2.2.1 s.2.2.2.2.2.1 s.2.2.2.2.2.2.1 s.2.2.2.2.2.2.2.1 s.2.2.2.2.2.2.2.2.1 s.2.2.2.2.2.2.2.2.2.1 s.2.2.2.2.2.2.2.2.2.2.1 s.2.2.2.2.2.2.2.2.2.2.2.1 s.2.2.2.2.2.2.2.2.2.2.2.2.1 s.2.2.2.2.2.2.2.2.2.2.2.2.2.1 s.2.2.2.2.2.2.2.2.2.2.2.2.2.2.1 s.2.2.2.2.2.2.2.2.2.2.2.2.2.2.2.1 s.2.2.2.2.2.2.2.2.2.2.2.2.2.2.2.2.1 s.2.2.2.2.2.2.2.2.2.2.2.2.2.2.2.2.2.1 s.2.2.2.2.2.2.2.2.2.2.2.2.2.2.2.2.2.2.1 s.2.2.2.2.2.2.2.2.2.2.2.2.2.2.2.2.2.2.2.1 s.2.2.2.2.2.2.2.2.2.2.2.2.2.2.2.2.2.2.2.2) (fun k s => rr_Inv T V D M W s) 16 0 u2 (by omega) h2 ?_ ?_
  · intro n s hs
    exact pk_le 16 16 (fun _ => H s hs) (fun z => absurd z (by omega))
  · intro n k s hk hs hn
    exact pk_le 16 k (fun z => absurd z (by omega)) (fun _ => rr_get (u := s) hc hb hk hs (fun s1 g1 => rr_nextKey (u := s1) hk g1 (fun s2 g2 => rr_changes (u := s2) hk g2 (fun s3 g3 => nm_r rfl (nm_r (nI_1 k) (hn s3 g3))))))
theorem rr_tidy {post : Int32 → St1 → Prop} {u : St1} {T : Nat → Nat} {V D : Nat → Int32} {M W : Nat} (h : rr_Inv T V D M W u) (H : ∀ u' : St1, rr_Inv T V D M W u' → post (rr_sm (rr_f1 (rr_num T V D)) 16) u') : wpX_tidy post u := by
  obtain ⟨hw, hE, hB, hQ⟩ := h
  unfold wpX_tidy
  exact rr_compareAll (u := u) hw hE hB (fun u1 y1 y2 y3 => rr_size (u := u1) ⟨hw, y1, y2, fun k hk => rr_Q_G hw.1 hw.2.2.1 hk (hQ k hk) y3⟩ (fun u2 h2 => H u2 h2))
end
section
def rr_wfb (M W : Nat) : Bool := decide (∀ m : Nat, m < 6 → (¬ rr_b W m ∨ rr_b M m)) && decide (∀ m : Nat, m < 6 → ∀ m' : Nat, m' < 6 → (¬ rr_b M m ∨ rr_b W m ∨ ¬ rr_b M m' ∨ rr_b W m' ∨ m = m'))
theorem rr_wfI0 : ∀ M, M < 64 → ∀ W, W < 64 → rr_wfb M W = true → (nI W &&& (nI M ^^^ (-1))) = 0 ∧ ((nI M &&& (nI W ^^^ (-1))) &&& ((nI M &&& (nI W ^^^ (-1))) - 1)) = 0 := by decide +kernel
theorem rr_wfI (M : Nat) (hM : M < 64) (W : Nat) (hW : W < 64) (h1 : ∀ m, m < 6 → rr_b W m → rr_b M m) (h2 : ∀ m, m < 6 → ∀ m', m' < 6 → rr_b M m → ¬ rr_b W m → rr_b M m' → ¬ rr_b W m' → m = m') : (nI W &&& (nI M ^^^ (-1))) = 0 ∧ ((nI M &&& (nI W ^^^ (-1))) &&& ((nI M &&& (nI W ^^^ (-1))) - 1)) = 0 := by
  refine rr_wfI0 M hM W hW ?_
  unfold rr_wfb
  rw [Bool.and_eq_true]
  refine ⟨decide_eq_true (fun m hm => ?_), decide_eq_true (fun m hm m' hm' => ?_)⟩
  · by_cases b : rr_b W m
    · exact Or.inr (h1 m hm b)
    · exact Or.inl b
  · by_cases b1 : rr_b M m
    · by_cases b2 : rr_b W m
      · exact Or.inr (Or.inl b2)
      · by_cases b3 : rr_b M m'
        · by_cases b4 : rr_b W m'
          · exact Or.inr (Or.inr (Or.inr (Or.inl b4)))
          · exact Or.inr (Or.inr (Or.inr (Or.inr (h2 m hm m' hm' b1 b2 b3 b4))))
        · exact Or.inr (Or.inr (Or.inl b3))
    · exact Or.inl b1
theorem rr_members {post : Int32 → Prop} {u : St1} {M W : Nat} (hw : rr_wf M W) (hE : rr_E M W u) (H : post 1) : wpL_members post u := by
  obtain ⟨h1, h2, h3, h4, h5⟩ := hw
  obtain ⟨q1, q2⟩ := rr_wfI M h1 W h2 h4 h5
  have hp6 := rr_pop_le M
  have t : ∃ n, wL_members_19 post (nI M) (nI M &&& (nI W ^^^ (-1))) u.1 u.2.1 u.2.2.1 u.2.2.2.1 u.2.2.2.2.1 u.2.2.2.2.2.1 u.2.2.2.2.2.2.1 u.2.2.2.2.2.2.2.1 u.2.2.2.2.2.2.2.2.1 u.2.2.2.2.2.2.2.2.2.1 u.2.2.2.2.2.2.2.2.2.2.1 u.2.2.2.2.2.2.2.2.2.2.2.1 u.2.2.2.2.2.2.2.2.2.2.2.2.1 u.2.2.2.2.2.2.2.2.2.2.2.2.2.1 u.2.2.2.2.2.2.2.2.2.2.2.2.2.2.1 u.2.2.2.2.2.2.2.2.2.2.2.2.2.2.2.1 u.2.2.2.2.2.2.2.2.2.2.2.2.2.2.2.2.1 u.2.2.2.2.2.2.2.2.2.2.2.2.2.2.2.2.2.1 u.2.2.2.2.2.2.2.2.2.2.2.2.2.2.2.2.2.2.1 u.2.2.2.2.2.2.2.2.2.2.2.2.2.2.2.2.2.2.2.1 u.2.2.2.2.2.2.2.2.2.2.2.2.2.2.2.2.2.2.2.2 n 0 0 := by
    refine pk_loop (σ := Unit) (fun n i _ => wL_members_19 post (nI M) (nI M &&& (nI W ^^^ (-1))) u.1 u.2.1 u.2.2.1 u.2.2.2.1 u.2.2.2.2.1 u.2.2.2.2.2.1 u.2.2.2.2.2.2.1 u.2.2.2.2.2.2.2.1 u.2.2.2.2.2.2.2.2.1 u.2.2.2.2.2.2.2.2.2.1 u.2.2.2.2.2.2.2.2.2.2.1 u.2.2.2.2.2.2.2.2.2.2.2.1 u.2.2.2.2.2.2.2.2.2.2.2.2.1 u.2.2.2.2.2.2.2.2.2.2.2.2.2.1 u.2.2.2.2.2.2.2.2.2.2.2.2.2.2.1 u.2.2.2.2.2.2.2.2.2.2.2.2.2.2.2.1 u.2.2.2.2.2.2.2.2.2.2.2.2.2.2.2.2.1 u.2.2.2.2.2.2.2.2.2.2.2.2.2.2.2.2.2.1 u.2.2.2.2.2.2.2.2.2.2.2.2.2.2.2.2.2.2.1 u.2.2.2.2.2.2.2.2.2.2.2.2.2.2.2.2.2.2.2.1 u.2.2.2.2.2.2.2.2.2.2.2.2.2.2.2.2.2.2.2.2 n (nI (rr_pp M i)) (nI i)) (fun _ _ => True) 6 0 () (by omega) trivial ?_ ?_
    · intro n _ _
      refine pk_le 6 6 (fun _ => pk_lt (rr_pop M) 3 (fun z => absurd z (by omega)) (fun _ => br_t ?_ (br_t q2 H)) (hx := by rw [rr_pp6 M h1])) (fun z => absurd z (by omega))
      show u.2.1 &&& (nI M ^^^ (-1)) = 0
      rw [hE.2.1]
      exact q1
    · intro n i _ hi _ hn
      exact pk_le 6 i (fun z => absurd z (by omega)) (fun _ => nm_r (e' := nI (rr_pp M (i + 1))) (by rw [rr_bit M h1 i hi, nI_add]; rfl) (nm_r (nI_1 i) (hn () trivial)))
  refine nm_r (e' := nI M &&& (nI W ^^^ (-1))) (by rw [hE.1, hE.2.1]) ?_
  show ∃ n, wL_members_19 post u.1 (nI M &&& (nI W ^^^ (-1))) u.1 u.2.1 u.2.2.1 u.2.2.2.1 u.2.2.2.2.1 u.2.2.2.2.2.1 u.2.2.2.2.2.2.1 u.2.2.2.2.2.2.2.1 u.2.2.2.2.2.2.2.2.1 u.2.2.2.2.2.2.2.2.2.1 u.2.2.2.2.2.2.2.2.2.2.1 u.2.2.2.2.2.2.2.2.2.2.2.1 u.2.2.2.2.2.2.2.2.2.2.2.2.1 u.2.2.2.2.2.2.2.2.2.2.2.2.2.1 u.2.2.2.2.2.2.2.2.2.2.2.2.2.2.1 u.2.2.2.2.2.2.2.2.2.2.2.2.2.2.2.1 u.2.2.2.2.2.2.2.2.2.2.2.2.2.2.2.2.1 u.2.2.2.2.2.2.2.2.2.2.2.2.2.2.2.2.2.1 u.2.2.2.2.2.2.2.2.2.2.2.2.2.2.2.2.2.2.1 u.2.2.2.2.2.2.2.2.2.2.2.2.2.2.2.2.2.2.2.1 u.2.2.2.2.2.2.2.2.2.2.2.2.2.2.2.2.2.2.2.2 n 0 0
  have t2 := hE.1
  rw [← t2] at t ⊢
  exact t
theorem rr_k98 {post : Int32 → St1 → Prop} {J : Int32 → Int32 → Int32 → Int32 → Int32 → Int32 → Int32 → Int32 → Int32 → Int32 → Int32 → Int32 → Int32 → (Nat → Int32) → (Nat → Int32) → (Nat → Int32) → (Nat → Int32) → (Nat → Int32) → (Nat → Int32) → (Nat → Int32) → (Nat → Int32) → (Nat → Int32) → (Nat → Int32) → (Nat → Int32) → (Nat → Int32) → Prop} {u : St1} {T : Nat → Nat} {V D : Nat → Int32} {M W i : Nat} {x1 x3 x4 x5 : Int32} (hi : i < 16) (e5 : rr_nx (rr_num T V D) (16 - i) = x5) (h : rr_Inv T V D M W u) (H : ∀ u' : St1, rr_Inv T V D M W u' → J x3 x4 x5 (nI i + (-1)) u'.1 u'.2.1 u'.2.2.1 u'.2.2.2.1 u'.2.2.2.2.1 u'.2.2.2.2.2.1 u'.2.2.2.2.2.2.1 u'.2.2.2.2.2.2.2.1 u'.2.2.2.2.2.2.2.2.1 u'.2.2.2.2.2.2.2.2.2.1 u'.2.2.2.2.2.2.2.2.2.2.1 u'.2.2.2.2.2.2.2.2.2.2.2.1 u'.2.2.2.2.2.2.2.2.2.2.2.2.1 u'.2.2.2.2.2.2.2.2.2.2.2.2.2.1 u'.2.2.2.2.2.2.2.2.2.2.2.2.2.2.1 u'.2.2.2.2.2.2.2.2.2.2.2.2.2.2.2.1 u'.2.2.2.2.2.2.2.2.2.2.2.2.2.2.2.2.1 u'.2.2.2.2.2.2.2.2.2.2.2.2.2.2.2.2.2.1 u'.2.2.2.2.2.2.2.2.2.2.2.2.2.2.2.2.2.2.1 u'.2.2.2.2.2.2.2.2.2.2.2.2.2.2.2.2.2.2.2.1 u'.2.2.2.2.2.2.2.2.2.2.2.2.2.2.2.2.2.2.2.2) : ∃ n, wL_keys_98 post J x1 (nI W) x3 x4 x5 (nI i) (rr_num T V D i) n 0 u.1 u.2.1 u.2.2.1 u.2.2.2.1 u.2.2.2.2.1 u.2.2.2.2.2.1 u.2.2.2.2.2.2.1 u.2.2.2.2.2.2.2.1 u.2.2.2.2.2.2.2.2.1 u.2.2.2.2.2.2.2.2.2.1 u.2.2.2.2.2.2.2.2.2.2.1 u.2.2.2.2.2.2.2.2.2.2.2.1 u.2.2.2.2.2.2.2.2.2.2.2.2.1 u.2.2.2.2.2.2.2.2.2.2.2.2.2.1 u.2.2.2.2.2.2.2.2.2.2.2.2.2.2.1 u.2.2.2.2.2.2.2.2.2.2.2.2.2.2.2.1 u.2.2.2.2.2.2.2.2.2.2.2.2.2.2.2.2.1 u.2.2.2.2.2.2.2.2.2.2.2.2.2.2.2.2.2.1 u.2.2.2.2.2.2.2.2.2.2.2.2.2.2.2.2.2.2.1 u.2.2.2.2.2.2.2.2.2.2.2.2.2.2.2.2.2.2.2.1 u.2.2.2.2.2.2.2.2.2.2.2.2.2.2.2.2.2.2.2.2 := by
  have hW := h.1.2.1
  refine pk_loop (σ := St1) (fun n m s => wL_keys_98 post J x1 (nI W) x3 x4 x5 (nI i) (rr_num T V D i) n (nI m) s.1 s.2.1 s.2.2.1 s.2.2.2.1 s.2.2.2.2.1 s.2.2.2.2.2.1 s.2.2.2.2.2.2.1 s.2.2.2.2.2.2.2.1 s.2.2.2.2.2.2.2.2.1 s.2.2.2.2.2.2.2.2.2.1 s.2.2.2.2.2.2.2.2.2.2.1 s.2.2.2.2.2.2.2.2.2.2.2.1 s.2.2.2.2.2.2.2.2.2.2.2.2.1 s.2.2.2.2.2.2.2.2.2.2.2.2.2.1 s.2.2.2.2.2.2.2.2.2.2.2.2.2.2.1 s.2.2.2.2.2.2.2.2.2.2.2.2.2.2.2.1 s.2.2.2.2.2.2.2.2.2.2.2.2.2.2.2.2.1 s.2.2.2.2.2.2.2.2.2.2.2.2.2.2.2.2.2.1 s.2.2.2.2.2.2.2.2.2.2.2.2.2.2.2.2.2.2.1 s.2.2.2.2.2.2.2.2.2.2.2.2.2.2.2.2.2.2.2.1 s.2.2.2.2.2.2.2.2.2.2.2.2.2.2.2.2.2.2.2.2) (fun m s => rr_Inv T V D M W s) 6 0 u (by omega) h ?_ ?_
  · intro n s hs
    exact pk_le 6 6 (fun _ => rr_nextKey (u := s) hi hs (fun u' y => br_t e5 (nm_e (H u' y)))) (fun z => absurd z (by omega))
  · intro n m s hm hs hn
    exact pk_le 6 m (fun z => absurd z (by omega)) (fun _ => ek_if (rr_bit1 hW hm) (fun hb => rr_get (u := s) hm hb hi hs (fun u' y => br_t rfl (nm_r (nI_1 m) (hn u' y)))) (fun _ => nm_r (nI_1 m) (hn s hs)))
theorem rr_keys {post : Int32 → St1 → Prop} {u : St1} {T : Nat → Nat} {V D : Nat → Int32} {M W : Nat} (h : rr_Inv T V D M W u) (H : ∀ u' : St1, rr_Inv T V D M W u' → post 1 u') : wpL_keys post u := by
  have fin : ∀ c, c < 6 → rr_b W c → wL_keys_23 post (nI c) (nI W) (16 + 1) (rr_sm (rr_f1 (rr_num T V D)) 16 - rr_sm (rr_f1 (rr_num T V D)) 16) (rr_sm (rr_f2 (rr_num T V D)) 16 - rr_sm (rr_f2 (rr_num T V D)) 16) (rr_nx (rr_num T V D) (16 - 16)) (nI 16 - 1) u.1 u.2.1 u.2.2.1 u.2.2.2.1 u.2.2.2.2.1 u.2.2.2.2.2.1 u.2.2.2.2.2.2.1 u.2.2.2.2.2.2.2.1 u.2.2.2.2.2.2.2.2.1 u.2.2.2.2.2.2.2.2.2.1 u.2.2.2.2.2.2.2.2.2.2.1 u.2.2.2.2.2.2.2.2.2.2.2.1 u.2.2.2.2.2.2.2.2.2.2.2.2.1 u.2.2.2.2.2.2.2.2.2.2.2.2.2.1 u.2.2.2.2.2.2.2.2.2.2.2.2.2.2.1 u.2.2.2.2.2.2.2.2.2.2.2.2.2.2.2.1 u.2.2.2.2.2.2.2.2.2.2.2.2.2.2.2.2.1 u.2.2.2.2.2.2.2.2.2.2.2.2.2.2.2.2.2.1 u.2.2.2.2.2.2.2.2.2.2.2.2.2.2.2.2.2.2.1 u.2.2.2.2.2.2.2.2.2.2.2.2.2.2.2.2.2.2.2.1 u.2.2.2.2.2.2.2.2.2.2.2.2.2.2.2.2.2.2.2.2 := by
    intro c hc hb
    refine pk_loopD (σ := St1) (fun n i s => wL_keys_23 post (nI c) (nI W) n (rr_sm (rr_f1 (rr_num T V D)) 16 - rr_sm (rr_f1 (rr_num T V D)) i) (rr_sm (rr_f2 (rr_num T V D)) 16 - rr_sm (rr_f2 (rr_num T V D)) i) (rr_nx (rr_num T V D) (16 - i)) (nI i - 1) s.1 s.2.1 s.2.2.1 s.2.2.2.1 s.2.2.2.2.1 s.2.2.2.2.2.1 s.2.2.2.2.2.2.1 s.2.2.2.2.2.2.2.1 s.2.2.2.2.2.2.2.2.1 s.2.2.2.2.2.2.2.2.2.1 s.2.2.2.2.2.2.2.2.2.2.1 s.2.2.2.2.2.2.2.2.2.2.2.1 s.2.2.2.2.2.2.2.2.2.2.2.2.1 s.2.2.2.2.2.2.2.2.2.2.2.2.2.1 s.2.2.2.2.2.2.2.2.2.2.2.2.2.2.1 s.2.2.2.2.2.2.2.2.2.2.2.2.2.2.2.1 s.2.2.2.2.2.2.2.2.2.2.2.2.2.2.2.2.1 s.2.2.2.2.2.2.2.2.2.2.2.2.2.2.2.2.2.1 s.2.2.2.2.2.2.2.2.2.2.2.2.2.2.2.2.2.2.1 s.2.2.2.2.2.2.2.2.2.2.2.2.2.2.2.2.2.2.2.1 s.2.2.2.2.2.2.2.2.2.2.2.2.2.2.2.2.2.2.2.2) (fun i s => i ≤ 16 ∧ rr_Inv T V D M W s) ?_ ?_ 16 u ⟨by omega, h⟩
    · intro n s hs
      refine br_t (by decide) (rr_size (u := s) hs.2 (fun u1 h1 => br_t ?_ (rr_sum (u := u1) h1 (fun u2 h2 => br_t ?_ (H u2 h2)))))
      · show _ = _ - (0 : Int32)
        grind
      · show _ = _ - (0 : Int32)
        grind
    · intro n i s hs hn
      obtain ⟨hi, hI⟩ := hs
      show wL_keys_23 post (nI c) (nI W) (n + 1) (rr_sm (rr_f1 (rr_num T V D)) 16 - rr_sm (rr_f1 (rr_num T V D)) (i + 1)) (rr_sm (rr_f2 (rr_num T V D)) 16 - rr_sm (rr_f2 (rr_num T V D)) (i + 1)) (rr_nx (rr_num T V D) (16 - (i + 1))) (nI (i + 1) - 1) s.1 s.2.1 s.2.2.1 s.2.2.2.1 s.2.2.2.2.1 s.2.2.2.2.2.1 s.2.2.2.2.2.2.1 s.2.2.2.2.2.2.2.1 s.2.2.2.2.2.2.2.2.1 s.2.2.2.2.2.2.2.2.2.1 s.2.2.2.2.2.2.2.2.2.2.1 s.2.2.2.2.2.2.2.2.2.2.2.1 s.2.2.2.2.2.2.2.2.2.2.2.2.1 s.2.2.2.2.2.2.2.2.2.2.2.2.2.1 s.2.2.2.2.2.2.2.2.2.2.2.2.2.2.1 s.2.2.2.2.2.2.2.2.2.2.2.2.2.2.2.1 s.2.2.2.2.2.2.2.2.2.2.2.2.2.2.2.2.1 s.2.2.2.2.2.2.2.2.2.2.2.2.2.2.2.2.2.1 s.2.2.2.2.2.2.2.2.2.2.2.2.2.2.2.2.2.2.1 s.2.2.2.2.2.2.2.2.2.2.2.2.2.2.2.2.2.2.2.1 s.2.2.2.2.2.2.2.2.2.2.2.2.2.2.2.2.2.2.2.2
      rw [nI_pred]
      have hi2 : i < 16 := by omega
      have nx := rr_nx_s (N := rr_num T V D) hi2
      have s1 : rr_sm (rr_f1 (rr_num T V D)) (i + 1) = rr_sm (rr_f1 (rr_num T V D)) i + rr_f1 (rr_num T V D) i := rfl
      have s2 : rr_sm (rr_f2 (rr_num T V D)) (i + 1) = rr_sm (rr_f2 (rr_num T V D)) i + rr_f2 (rr_num T V D) i := rfl
      have e6 : nI i + (-1) = nI i - 1 := by grind
      unfold rr_f1 at s1
      unfold rr_f2 at s2
      refine pk_lt i 0 (fun z => absurd z (by omega)) (fun _ => rr_get (u := s) hc hb hi2 hI (fun u1 h1 => br_c (fun z => br_t rfl (br_t rfl (br_t rfl (rr_k98 (u := u1) hi2 ?_ h1 (fun u' y => ?_))))) (fun z => br_f (by decide) (br_f (by decide) (br_f (by decide) (rr_k98 (u := u1) hi2 ?_ h1 (fun u' y => ?_)))))))
      · rw [if_pos z] at nx
        exact nx
      · rw [if_pos z] at s1 s2 nx
        have t := hn u' ⟨by omega, y⟩
        have a1 : rr_sm (rr_f1 (rr_num T V D)) 16 - rr_sm (rr_f1 (rr_num T V D)) (i + 1) = rr_sm (rr_f1 (rr_num T V D)) 16 - rr_sm (rr_f1 (rr_num T V D)) i := by
          unfold rr_f1
          rw [s1]
          grind
        have a2 : rr_sm (rr_f2 (rr_num T V D)) 16 - rr_sm (rr_f2 (rr_num T V D)) (i + 1) = rr_sm (rr_f2 (rr_num T V D)) 16 - rr_sm (rr_f2 (rr_num T V D)) i := by
          unfold rr_f2
          rw [s2]
          grind
        rw [a1, a2, e6, ← nx]
        exact t
      · rw [if_neg z] at nx
        exact nx
      · rw [if_neg z] at s1 s2 nx
        have t := hn u' ⟨by omega, y⟩
        have a1 : rr_sm (rr_f1 (rr_num T V D)) 16 - rr_sm (rr_f1 (rr_num T V D)) (i + 1) + 1 = rr_sm (rr_f1 (rr_num T V D)) 16 - rr_sm (rr_f1 (rr_num T V D)) i := by
          unfold rr_f1
          rw [s1]
          grind
        have a2 : rr_sm (rr_f2 (rr_num T V D)) 16 - rr_sm (rr_f2 (rr_num T V D)) (i + 1) + rr_num T V D i = rr_sm (rr_f2 (rr_num T V D)) 16 - rr_sm (rr_f2 (rr_num T V D)) i := by
          unfold rr_f2
          rw [s2]
          grind
        rw [a1, a2, e6]
        rw [nx] at t
        exact t
  unfold wpL_keys
  refine rr_worker (u := u) h.1 h.2.1.2.1 (fun c hc hb => Exists.intro (16 + 1) ?_)
  have t := fin c hc hb
  rw [Int32.sub_self, Int32.sub_self] at t
  have t2 : wL_keys_23 post (nI c) u.2.1 (16 + 1) 0 0 (-200000) 15 u.1 u.2.1 u.2.2.1 u.2.2.2.1 u.2.2.2.2.1 u.2.2.2.2.2.1 u.2.2.2.2.2.2.1 u.2.2.2.2.2.2.2.1 u.2.2.2.2.2.2.2.2.1 u.2.2.2.2.2.2.2.2.2.1 u.2.2.2.2.2.2.2.2.2.2.1 u.2.2.2.2.2.2.2.2.2.2.2.1 u.2.2.2.2.2.2.2.2.2.2.2.2.1 u.2.2.2.2.2.2.2.2.2.2.2.2.2.1 u.2.2.2.2.2.2.2.2.2.2.2.2.2.2.1 u.2.2.2.2.2.2.2.2.2.2.2.2.2.2.2.1 u.2.2.2.2.2.2.2.2.2.2.2.2.2.2.2.2.1 u.2.2.2.2.2.2.2.2.2.2.2.2.2.2.2.2.2.1 u.2.2.2.2.2.2.2.2.2.2.2.2.2.2.2.2.2.2.1 u.2.2.2.2.2.2.2.2.2.2.2.2.2.2.2.2.2.2.2.1 u.2.2.2.2.2.2.2.2.2.2.2.2.2.2.2.2.2.2.2.2 := by
    rw [h.2.1.2.1] 
    have t3 := h.2.1.2.1
    rw [t3] at t
    exact t
  exact t2
end
section
def rr_isn (x : Int32) : Prop := ¬ x < -9999 ∧ ¬ 9999 < x
def rr_Pic (n : Nat) (T : Nat → Nat) (V D : Nat → Int32) : Prop := ∀ k, k < 16 → T k / 8 ≤ n ∧ (rr_num T V D k = -200000 ∨ rr_isn (rr_num T V D k))
theorem rr_isn_ne {x : Int32} (h : rr_isn x) : x ≠ -300000 ∧ x ≠ -200000 := by
  refine ⟨fun e => ?_, fun e => ?_⟩
  · subst e
    exact h.1 (by decide)
  · subst e
    exact h.1 (by decide)
theorem rr_isNumber {post : Int32 → Prop} {x : Int32} (h1 : rr_isn x → post 1) (h0 : post 0) : wpX_isNumber post () x :=
  br_c (fun _ => h0) (fun a => br_c (fun _ => h0) (fun b => h1 ⟨a, b⟩))
theorem rr_isNumber1 {post : Int32 → Prop} {x : Int32} (h : rr_isn x) (h1 : post 1) : wpX_isNumber post () x :=
  br_f h.1 (br_f h.2 h1)
theorem rr_num_s {T : Nat → Nat} {V D : Nat → Int32} {k x : Nat} {v t : Int32} (hx : 0 < x) : rr_num (rr_up T k x) (rr_up V k v) (rr_up D k t) k = if t = 0 then v else -200000 := by
  unfold rr_num
  rw [rr_up_s, rr_up_s, rr_up_s, if_neg (by omega)]
theorem rr_num_n {T : Nat → Nat} {V D : Nat → Int32} {k x k' : Nat} {v t : Int32} (h : k' ≠ k) : rr_num (rr_up T k x) (rr_up V k v) (rr_up D k t) k' = rr_num T V D k' := by
  unfold rr_num
  rw [rr_up_n h, rr_up_n h, rr_up_n h]
theorem rr_Pic_up {n : Nat} {T : Nat → Nat} {V D : Nat → Int32} {k c : Nat} {v t : Int32} (hc : c < 6) (h : rr_Pic n T V D) (hk : k < 16) (hv : t = 0 → rr_isn v) : rr_Pic (n + 1) (rr_up T k ((T k / 8 + 1) * 8 + c)) (rr_up V k v) (rr_up D k t) := by
  intro k' hk'
  by_cases e : k' = k
  · subst e
    have := (h k' hk').1
    rw [rr_up_s, rr_num_s (by omega)]
    refine ⟨by omega, ?_⟩
    by_cases z : t = 0
    · rw [if_pos z]
      exact Or.inr (hv z)
    · rw [if_neg z]
      exact Or.inl rfl
  · have := h k' hk'
    rw [rr_up_n e, rr_num_n e]
    exact ⟨by omega, this.2⟩
theorem rr_changeI {post : St1 → Prop} {u : St1} {T : Nat → Nat} {V D : Nat → Int32} {M W k c : Nat} {v t : Int32} (h : rr_Inv T V D M W u) (hk : k < 16) (hc : c < 6) (hK : rr_K M k u.2.2.2.2.2.2.2.2.2.2.2.2.2.2.2.2.2.1) (eN : u.2.2.2.2.1 = nI (T k)) (hT : T k < 2 ^ 20) (ht : t = 0 ∨ t = 1) (hp : ∀ u' : St1, rr_Inv (rr_up T k ((T k / 8 + 1) * 8 + c)) (rr_up V k v) (rr_up D k t) M W u' → post u') : wpX_change post u (nI c) (nI k) v t :=
  rr_change (u := u) h.1 h.2.1 h.2.2.1 hk hc h.2.2.2 hK eN hT ht (fun u' y1 y2 y3 => hp u' ⟨h.1, y1, y2, y3⟩)
theorem rr_put {post : Int32 → St1 → Prop} {u : St1} {T : Nat → Nat} {V D : Nat → Int32} {M W c k : Nat} {v : Int32} (hc : c < 6) (hk : k < 16) (hv : rr_isn v) (h : rr_Inv T V D M W u) (hT : T k < 2 ^ 20) (H0 : ¬ rr_b W c → post (-300000) u) (H1 : rr_b W c → ∀ u' : St1, rr_Inv (rr_up T k ((T k / 8 + 1) * 8 + c)) (rr_up V k v) (rr_up D k 0) M W u' → post (rr_num T V D k) u') : wpX_put post u (nI c) (nI k) v := by
  unfold wpX_put
  exact rr_isMachine hc (br_f (by decide) (rr_isKey hk (br_f (by decide) (rr_isNumber1 hv (br_f (by decide) (rr_isWorking (u := u) hc h.1.2.1 h.2.1.2.1 (fun b => br_f (by decide) (rr_readInv (u := u) hk h (fun u1 y1 y2 y3 y4 => rr_readNumber (u := u1) y3 y4 (rr_changeI (u := u1) y1 hk hc y2 y3 hT (Or.inl rfl) (fun u2 g => H1 b u2 g))))) (fun nb => br_t rfl (H0 nb))))))))
theorem rr_remove {post : Int32 → St1 → Prop} {u : St1} {T : Nat → Nat} {V D : Nat → Int32} {M W c k : Nat} (hc : c < 6) (hk : k < 16) (h : rr_Inv T V D M W u) (hT : T k < 2 ^ 20) (H0 : ¬ rr_b W c → post (-300000) u) (H1 : rr_b W c → ∀ u' : St1, rr_Inv (rr_up T k ((T k / 8 + 1) * 8 + c)) (rr_up V k 0) (rr_up D k 1) M W u' → post (rr_num T V D k) u') : wpX_remove post u (nI c) (nI k) := by
  unfold wpX_remove
  exact rr_isMachine hc (br_f (by decide) (rr_isKey hk (br_f (by decide) (rr_isWorking (u := u) hc h.1.2.1 h.2.1.2.1 (fun b => br_f (by decide) (rr_readInv (u := u) hk h (fun u1 y1 y2 y3 y4 => rr_readNumber (u := u1) y3 y4 (rr_changeI (u := u1) y1 hk hc y2 y3 hT (Or.inr rfl) (fun u2 g => H1 b u2 g))))) (fun nb => br_t rfl (H0 nb))))))
def rr_ad (N v : Int32) : Int32 := if N = -200000 then v else N + v
theorem rr_add62 {post : Int32 → St1 → Prop} {u : St1} {T : Nat → Nat} {V D : Nat → Int32} {M W c k : Nat} {z : Int32} (hc : c < 6) (hk : k < 16) (h : rr_Inv T V D M W u) (hK : rr_K M k u.2.2.2.2.2.2.2.2.2.2.2.2.2.2.2.2.2.1) (eN : u.2.2.2.2.1 = nI (T k)) (hT : T k < 2 ^ 20) (H0 : ∀ u' : St1, rr_Inv T V D M W u' → post (-300000) u') (H1 : rr_isn z → ∀ u' : St1, rr_Inv (rr_up T k ((T k / 8 + 1) * 8 + c)) (rr_up V k z) (rr_up D k 0) M W u' → post z u') : wX_add_62 post (nI c) (nI k) z u.1 u.2.1 u.2.2.1 u.2.2.2.1 u.2.2.2.2.1 u.2.2.2.2.2.1 u.2.2.2.2.2.2.1 u.2.2.2.2.2.2.2.1 u.2.2.2.2.2.2.2.2.1 u.2.2.2.2.2.2.2.2.2.1 u.2.2.2.2.2.2.2.2.2.2.1 u.2.2.2.2.2.2.2.2.2.2.2.1 u.2.2.2.2.2.2.2.2.2.2.2.2.1 u.2.2.2.2.2.2.2.2.2.2.2.2.2.1 u.2.2.2.2.2.2.2.2.2.2.2.2.2.2.1 u.2.2.2.2.2.2.2.2.2.2.2.2.2.2.2.1 u.2.2.2.2.2.2.2.2.2.2.2.2.2.2.2.2.1 u.2.2.2.2.2.2.2.2.2.2.2.2.2.2.2.2.2.1 u.2.2.2.2.2.2.2.2.2.2.2.2.2.2.2.2.2.2.1 u.2.2.2.2.2.2.2.2.2.2.2.2.2.2.2.2.2.2.2.1 u.2.2.2.2.2.2.2.2.2.2.2.2.2.2.2.2.2.2.2.2 :=
  rr_isNumber (fun hz => br_f (by decide) (rr_changeI (u := u) h hk hc hK eN hT (Or.inl rfl) (fun u2 g => H1 hz u2 g))) (br_t rfl (H0 u h))
theorem rr_add {post : Int32 → St1 → Prop} {u : St1} {T : Nat → Nat} {V D : Nat → Int32} {M W c k : Nat} {v : Int32} (hc : c < 6) (hk : k < 16) (hv : rr_isn v) (h : rr_Inv T V D M W u) (hT : T k < 2 ^ 20) (H0 : ∀ u' : St1, rr_Inv T V D M W u' → post (-300000) u') (H1 : rr_b W c → rr_isn (rr_ad (rr_num T V D k) v) → ∀ u' : St1, rr_Inv (rr_up T k ((T k / 8 + 1) * 8 + c)) (rr_up V k (rr_ad (rr_num T V D k) v)) (rr_up D k 0) M W u' → post (rr_ad (rr_num T V D k) v) u') : wpX_add post u (nI c) (nI k) v := by
  unfold wpX_add
  refine rr_isMachine hc (br_f (by decide) (rr_isKey hk (br_f (by decide) (rr_isNumber1 hv (br_f (by decide) (rr_isWorking (u := u) hc h.1.2.1 h.2.1.2.1 (fun b => br_f (by decide) (rr_readInv (u := u) hk h (fun u1 y1 y2 y3 y4 => rr_readNumber (u := u1) y3 y4 (br_c (fun z => ?_) (fun z => ?_))))) (fun nb => br_t rfl (H0 u h))))))))
  · have t := H1 b
    unfold rr_ad at t
    rw [if_pos z] at t
    exact rr_add62 (u := u1) hc hk y1 y2 y3 hT H0 t
  · have t := H1 b
    unfold rr_ad at t
    rw [if_neg z] at t
    exact rr_add62 (u := u1) hc hk y1 y2 y3 hT H0 t
/-! what the law says of a write -/
theorem rr_w212 {post : Int32 → St1 → Prop} {u : St1} {T : Nat → Nat} {V D : Nat → Int32} {M W k : Nat} {x7 : Int32} (hk : k < 16) (h : rr_Inv T V D M W u) (H : ∀ u' : St1, rr_Inv T V D M W u' → post 1 u') : wL_writes_212 post (nI k) x7 (nI (T k / 8)) x7 u.1 u.2.1 u.2.2.1 u.2.2.2.1 u.2.2.2.2.1 u.2.2.2.2.2.1 u.2.2.2.2.2.2.1 u.2.2.2.2.2.2.2.1 u.2.2.2.2.2.2.2.2.1 u.2.2.2.2.2.2.2.2.2.1 u.2.2.2.2.2.2.2.2.2.2.1 u.2.2.2.2.2.2.2.2.2.2.2.1 u.2.2.2.2.2.2.2.2.2.2.2.2.1 u.2.2.2.2.2.2.2.2.2.2.2.2.2.1 u.2.2.2.2.2.2.2.2.2.2.2.2.2.2.1 u.2.2.2.2.2.2.2.2.2.2.2.2.2.2.2.1 u.2.2.2.2.2.2.2.2.2.2.2.2.2.2.2.2.1 u.2.2.2.2.2.2.2.2.2.2.2.2.2.2.2.2.2.1 u.2.2.2.2.2.2.2.2.2.2.2.2.2.2.2.2.2.2.1 u.2.2.2.2.2.2.2.2.2.2.2.2.2.2.2.2.2.2.2.1 u.2.2.2.2.2.2.2.2.2.2.2.2.2.2.2.2.2.2.2.2 :=
  br_t rfl (rr_changes (u := u) hk h (fun u' y => br_t rfl (H u' y)))
theorem rr_w194r {post : Int32 → St1 → Prop} {u : St1} {T : Nat → Nat} {V D : Nat → Int32} {M W w k : Nat} {x5 x7 z0 : Int32} (hw : w < 8) (hk : k < 16) (h : rr_Inv T V D M W u) (hx : x5 = 0 ∨ 7 ≤ w) (H : ∀ u' : St1, rr_Inv T V D M W u' → post 1 u') : wL_writes_194 post (nI w) (nI k) x5 x7 (nI (T k / 8)) x7 1 z0 u.1 u.2.1 u.2.2.1 u.2.2.2.1 u.2.2.2.2.1 u.2.2.2.2.2.1 u.2.2.2.2.2.2.1 u.2.2.2.2.2.2.2.1 u.2.2.2.2.2.2.2.2.1 u.2.2.2.2.2.2.2.2.2.1 u.2.2.2.2.2.2.2.2.2.2.1 u.2.2.2.2.2.2.2.2.2.2.2.1 u.2.2.2.2.2.2.2.2.2.2.2.2.1 u.2.2.2.2.2.2.2.2.2.2.2.2.2.1 u.2.2.2.2.2.2.2.2.2.2.2.2.2.2.1 u.2.2.2.2.2.2.2.2.2.2.2.2.2.2.2.1 u.2.2.2.2.2.2.2.2.2.2.2.2.2.2.2.2.1 u.2.2.2.2.2.2.2.2.2.2.2.2.2.2.2.2.2.1 u.2.2.2.2.2.2.2.2.2.2.2.2.2.2.2.2.2.2.1 u.2.2.2.2.2.2.2.2.2.2.2.2.2.2.2.2.2.2.2.1 u.2.2.2.2.2.2.2.2.2.2.2.2.2.2.2.2.2.2.2.2 := by
  refine br_f (by decide) (br_c (fun _ => rr_w212 (u := u) hk h H) (fun z => pk_lt w 7 (fun y => ?_) (fun _ => rr_w212 (u := u) hk h H)))
  rcases hx with hx | hx
  · exact absurd hx z
  · omega
theorem rr_w80r {post : Int32 → St1 → Prop} {u : St1} {T : Nat → Nat} {V D : Nat → Int32} {M W w k c0 : Nat} {x4 x5 : Int32} (hw : w < 8) (hk : k < 16) (hc : c0 < 6) (hb : rr_b W c0) (h : rr_Inv T V D M W u) (hx : x5 = 0 ∨ 7 ≤ w) (H : ∀ u' : St1, rr_Inv T V D M W u' → post 1 u') : wL_writes_80 post (nI w) (nI k) x4 x5 (nI c0) (rr_num T V D k) (nI (T k / 8)) (-300000) u.1 u.2.1 u.2.2.1 u.2.2.2.1 u.2.2.2.2.1 u.2.2.2.2.2.1 u.2.2.2.2.2.2.1 u.2.2.2.2.2.2.2.1 u.2.2.2.2.2.2.2.2.1 u.2.2.2.2.2.2.2.2.2.1 u.2.2.2.2.2.2.2.2.2.2.1 u.2.2.2.2.2.2.2.2.2.2.2.1 u.2.2.2.2.2.2.2.2.2.2.2.2.1 u.2.2.2.2.2.2.2.2.2.2.2.2.2.1 u.2.2.2.2.2.2.2.2.2.2.2.2.2.2.1 u.2.2.2.2.2.2.2.2.2.2.2.2.2.2.2.1 u.2.2.2.2.2.2.2.2.2.2.2.2.2.2.2.2.1 u.2.2.2.2.2.2.2.2.2.2.2.2.2.2.2.2.2.1 u.2.2.2.2.2.2.2.2.2.2.2.2.2.2.2.2.2.2.1 u.2.2.2.2.2.2.2.2.2.2.2.2.2.2.2.2.2.2.2.1 u.2.2.2.2.2.2.2.2.2.2.2.2.2.2.2.2.2.2.2.2 := by
  refine rr_get (u := u) hc hb hk h (fun u1 h1 => br_t rfl ?_)
  have t : ∀ z0, wL_writes_194 post (nI w) (nI k) x5 (rr_num T V D k) (nI (T k / 8)) (rr_num T V D k) 1 z0 u1.1 u1.2.1 u1.2.2.1 u1.2.2.2.1 u1.2.2.2.2.1 u1.2.2.2.2.2.1 u1.2.2.2.2.2.2.1 u1.2.2.2.2.2.2.2.1 u1.2.2.2.2.2.2.2.2.1 u1.2.2.2.2.2.2.2.2.2.1 u1.2.2.2.2.2.2.2.2.2.2.1 u1.2.2.2.2.2.2.2.2.2.2.2.1 u1.2.2.2.2.2.2.2.2.2.2.2.2.1 u1.2.2.2.2.2.2.2.2.2.2.2.2.2.1 u1.2.2.2.2.2.2.2.2.2.2.2.2.2.2.1 u1.2.2.2.2.2.2.2.2.2.2.2.2.2.2.2.1 u1.2.2.2.2.2.2.2.2.2.2.2.2.2.2.2.2.1 u1.2.2.2.2.2.2.2.2.2.2.2.2.2.2.2.2.2.1 u1.2.2.2.2.2.2.2.2.2.2.2.2.2.2.2.2.2.2.1 u1.2.2.2.2.2.2.2.2.2.2.2.2.2.2.2.2.2.2.2.1 u1.2.2.2.2.2.2.2.2.2.2.2.2.2.2.2.2.2.2.2.2 := fun z0 => rr_w194r (u := u1) hw hk h1 hx H
  exact br_c (fun _ => br_c (fun _ => br_c (fun _ => br_c (fun _ => br_c (fun _ => t 1) (fun _ => t 0)) (fun _ => br_c (fun _ => t 1) (fun _ => t 0))) (fun _ => t 0)) (fun _ => br_c (fun _ => br_c (fun _ => t 1) (fun _ => t 0)) (fun _ => t 0))) (fun _ => br_c (fun _ => br_c (fun _ => t 1) (fun _ => t 0)) (fun _ => t 0))
theorem rr_w194d {post : Int32 → St1 → Prop} {u : St1} {T T' : Nat → Nat} {V D : Nat → Int32} {M W k : Nat} {x1 x7 x10 : Int32} (hk : k < 16) (h : rr_Inv T' V D M W u) (e : T' k / 8 = T k / 8 + 1) (H : ∀ u' : St1, rr_Inv T' V D M W u' → post 1 u') : wL_writes_194 post x1 (nI k) 1 x7 (nI (T k / 8)) x10 0 1 u.1 u.2.1 u.2.2.1 u.2.2.2.1 u.2.2.2.2.1 u.2.2.2.2.2.1 u.2.2.2.2.2.2.1 u.2.2.2.2.2.2.2.1 u.2.2.2.2.2.2.2.2.1 u.2.2.2.2.2.2.2.2.2.1 u.2.2.2.2.2.2.2.2.2.2.1 u.2.2.2.2.2.2.2.2.2.2.2.1 u.2.2.2.2.2.2.2.2.2.2.2.2.1 u.2.2.2.2.2.2.2.2.2.2.2.2.2.1 u.2.2.2.2.2.2.2.2.2.2.2.2.2.2.1 u.2.2.2.2.2.2.2.2.2.2.2.2.2.2.2.1 u.2.2.2.2.2.2.2.2.2.2.2.2.2.2.2.2.1 u.2.2.2.2.2.2.2.2.2.2.2.2.2.2.2.2.2.1 u.2.2.2.2.2.2.2.2.2.2.2.2.2.2.2.2.2.2.1 u.2.2.2.2.2.2.2.2.2.2.2.2.2.2.2.2.2.2.2.1 u.2.2.2.2.2.2.2.2.2.2.2.2.2.2.2.2.2.2.2.2 := by
  refine br_t rfl (br_f (by decide) (br_f (by decide) (rr_changes (u := u) hk h (fun u' y => br_t ?_ (H u' y)))))
  rw [e, nI_1]
theorem rr_writes {post : Int32 → St1 → Prop} {u : St1} {T : Nat → Nat} {V D : Nat → Int32} {M W w c k n : Nat} {v : Int32} (hw : w < 8) (hc : c < 6) (hk : k < 16) (hv : rr_isn v) (hn : n ≤ 300) (hP : rr_Pic n T V D) (h : rr_Inv T V D M W u) (H : ∀ T' V' D' u', rr_Inv T' V' D' M W u' → rr_Pic (n + 1) T' V' D' → post 1 u') : wpL_writes post u (nI w) (nI c) (nI k) v := by
  have hW := h.1.2.1
  have hT : T k < 2 ^ 20 := by
    have := (hP k hk).1
    omega
  have hP1 : rr_Pic (n + 1) T V D := fun k' hk' => ⟨by have := (hP k' hk').1; omega, (hP k' hk').2⟩
  have hN : rr_num T V D k ≠ -300000 := by
    rcases (hP k hk).2 with e | e
    · rw [e]
      decide
    · exact (rr_isn_ne e).1
  have e8 : (rr_up T k ((T k / 8 + 1) * 8 + c)) k / 8 = T k / 8 + 1 := by
    rw [rr_up_s]
    omega
  have c7 : ∀ x5 : Int32, (rr_b W c → x5 = 1) → (¬ rr_b W c → x5 = 0) → wL_writes_17 post (nI w) (nI c) (nI k) v x5 u.1 u.2.1 u.2.2.1 u.2.2.2.1 u.2.2.2.2.1 u.2.2.2.2.2.1 u.2.2.2.2.2.2.1 u.2.2.2.2.2.2.2.1 u.2.2.2.2.2.2.2.2.1 u.2.2.2.2.2.2.2.2.2.1 u.2.2.2.2.2.2.2.2.2.2.1 u.2.2.2.2.2.2.2.2.2.2.2.1 u.2.2.2.2.2.2.2.2.2.2.2.2.1 u.2.2.2.2.2.2.2.2.2.2.2.2.2.1 u.2.2.2.2.2.2.2.2.2.2.2.2.2.2.1 u.2.2.2.2.2.2.2.2.2.2.2.2.2.2.2.1 u.2.2.2.2.2.2.2.2.2.2.2.2.2.2.2.2.1 u.2.2.2.2.2.2.2.2.2.2.2.2.2.2.2.2.2.1 u.2.2.2.2.2.2.2.2.2.2.2.2.2.2.2.2.2.2.1 u.2.2.2.2.2.2.2.2.2.2.2.2.2.2.2.2.2.2.2.1 u.2.2.2.2.2.2.2.2.2.2.2.2.2.2.2.2.2.2.2.2 := by
    intro x5 f1 f0
    refine rr_worker (u := u) h.1 h.2.1.2.1 (fun c0 hc0 hb0 => rr_get (u := u) hc0 hb0 hk h (fun u1 h1 => rr_changes (u := u1) hk h1 (fun u2 h2 => pk_le 5 w (fun w5 => pk_le 7 w (fun w7 => rr_add (u := u2) hc hk hv h2 hT (fun u3 h3 => rr_w80r (u := u3) hw hk hc0 hb0 h3 (Or.inr w7) (fun u' y => H T V D u' y hP1)) (fun b hz u3 h3 => ?_)) (fun w7 => rr_remove (u := u2) hc hk h2 hT (fun nb => rr_w80r (u := u2) hw hk hc0 hb0 h2 (Or.inl (f0 nb)) (fun u' y => H T V D u' y hP1)) (fun b u3 h3 => ?_))) (fun w5 => rr_put (u := u2) hc hk hv h2 hT (fun nb => rr_w80r (u := u2) hw hk hc0 hb0 h2 (Or.inl (f0 nb)) (fun u' y => H T V D u' y hP1)) (fun b u3 h3 => ?_)))))
    · rw [f1 b]
      refine rr_get (u := u3) hc0 hb0 hk h3 (fun u4 h4 => br_f (rr_isn_ne hz).1 ?_)
      rw [rr_num_s (by omega), if_pos rfl]
      have fin : wL_writes_194 post (nI w) (nI k) 1 (rr_num T V D k) (nI (T k / 8)) (rr_ad (rr_num T V D k) v) 0 1 u4.1 u4.2.1 u4.2.2.1 u4.2.2.2.1 u4.2.2.2.2.1 u4.2.2.2.2.2.1 u4.2.2.2.2.2.2.1 u4.2.2.2.2.2.2.2.1 u4.2.2.2.2.2.2.2.2.1 u4.2.2.2.2.2.2.2.2.2.1 u4.2.2.2.2.2.2.2.2.2.2.1 u4.2.2.2.2.2.2.2.2.2.2.2.1 u4.2.2.2.2.2.2.2.2.2.2.2.2.1 u4.2.2.2.2.2.2.2.2.2.2.2.2.2.1 u4.2.2.2.2.2.2.2.2.2.2.2.2.2.2.1 u4.2.2.2.2.2.2.2.2.2.2.2.2.2.2.2.1 u4.2.2.2.2.2.2.2.2.2.2.2.2.2.2.2.2.1 u4.2.2.2.2.2.2.2.2.2.2.2.2.2.2.2.2.2.1 u4.2.2.2.2.2.2.2.2.2.2.2.2.2.2.2.2.2.2.1 u4.2.2.2.2.2.2.2.2.2.2.2.2.2.2.2.2.2.2.2.1 u4.2.2.2.2.2.2.2.2.2.2.2.2.2.2.2.2.2.2.2.2 := rr_w194d (u := u4) hk h4 e8 (fun u' y => H _ _ _ u' y (rr_Pic_up hc hP hk (fun _ => hz)))
      refine br_t (nI_le w5 (by omega)) (br_t (nI_le w7 (by omega)) (br_t rfl (br_c (fun z => br_t ?_ fin) (fun z => br_t ?_ fin))))
      · unfold rr_ad
        rw [if_pos z]
      · unfold rr_ad
        rw [if_neg z]
    · rw [f1 b]
      refine rr_get (u := u3) hc0 hb0 hk h3 (fun u4 h4 => br_f hN ?_)
      rw [rr_num_s (by omega), if_neg (by decide)]
      exact br_t (nI_le w5 (by omega)) (br_f (nI_ge (b := 7) w7 (by decide)) (br_t rfl (br_t rfl (rr_w194d (u := u4) hk h4 e8 (fun u' y => H _ _ _ u' y (rr_Pic_up hc hP hk (fun z => absurd z (by decide))))))))
    · rw [f1 b]
      refine rr_get (u := u3) hc0 hb0 hk h3 (fun u4 h4 => br_f hN ?_)
      rw [rr_num_s (by omega), if_pos rfl]
      exact br_f (nI_ge (b := 5) w5 (by decide)) (br_t rfl (br_t rfl (rr_w194d (u := u4) hk h4 e8 (fun u' y => H _ _ _ u' y (rr_Pic_up hc hP hk (fun _ => hv))))))
  have hbit : ((u.2.1 >>> (nI c &&& 31)) &&& 1) = 1 ↔ rr_b W c := by
    rw [h.2.1.2.1]
    exact rr_bit1 hW hc
  exact ek_if hbit (fun b => c7 1 (fun _ => rfl) (fun nb => absurd b nb)) (fun nb => c7 0 (fun b => absurd b nb) (fun _ => rfl))
end
section
theorem rr_Pic_s {n : Nat} {T : Nat → Nat} {V D : Nat → Int32} (h : rr_Pic n T V D) : rr_Pic (n + 1) T V D := fun k hk => ⟨by have := (h k hk).1; omega, (h k hk).2⟩
theorem rr_isn_v {j : Nat} (h : j < 16384) : rr_isn (nI j - 8000) := by
  have e : (nI j - nI 8000).toInt = (j : Int) - (8000 : Nat) := pk_sub_toInt (by omega) (by omega)
  have e2 : (nI j - 8000).toInt = (j : Int) - (8000 : Nat) := e
  refine ⟨fun z => ?_, fun z => ?_⟩
  · rw [Int32.lt_iff_toInt_lt, e2, show (-9999 : Int32).toInt = -9999 from rfl] at z
    omega
  · rw [Int32.lt_iff_toInt_lt, e2, show (9999 : Int32).toInt = 9999 from rfl] at z
    omega
theorem rr_loseE {post : Int32 → St1 → Prop} {u : St1} {T : Nat → Nat} {V D : Nat → Int32} {M W n : Nat} {x : Int32} (e : x = nI n) (hn : n ≤ 15) (h : rr_Inv T V D M W u) (H : ∀ r u', rr_Inv T V D M W u' → post r u') : wpX_lose post u x := by
  subst e
  exact rr_lose hn h H
theorem rr_l241 {post : Int32 → Prop} {L : Nat} {xs : Nat → Int32} {J : Int32 → Int32 → Int32 → Int32 → Int32 → Int32 → Int32 → Int32 → Int32 → Int32 → (Nat → Int32) → (Nat → Int32) → (Nat → Int32) → (Nat → Int32) → (Nat → Int32) → (Nat → Int32) → (Nat → Int32) → (Nat → Int32) → (Nat → Int32) → (Nat → Int32) → (Nat → Int32) → (Nat → Int32) → Prop} {u : St1} {T : Nat → Nat} {V D : Nat → Int32} {M W i kc ks : Nat} (h : rr_Inv T V D M W u) (H : ∀ u' : St1, rr_Inv T V D M W u' → J (nI (i + 1)) u'.1 u'.2.1 u'.2.2.1 u'.2.2.2.1 u'.2.2.2.2.1 u'.2.2.2.2.2.1 u'.2.2.2.2.2.2.1 u'.2.2.2.2.2.2.2.1 u'.2.2.2.2.2.2.2.2.1 u'.2.2.2.2.2.2.2.2.2.1 u'.2.2.2.2.2.2.2.2.2.2.1 u'.2.2.2.2.2.2.2.2.2.2.2.1 u'.2.2.2.2.2.2.2.2.2.2.2.2.1 u'.2.2.2.2.2.2.2.2.2.2.2.2.2.1 u'.2.2.2.2.2.2.2.2.2.2.2.2.2.2.1 u'.2.2.2.2.2.2.2.2.2.2.2.2.2.2.2.1 u'.2.2.2.2.2.2.2.2.2.2.2.2.2.2.2.2.1 u'.2.2.2.2.2.2.2.2.2.2.2.2.2.2.2.2.2.1 u'.2.2.2.2.2.2.2.2.2.2.2.2.2.2.2.2.2.2.1 u'.2.2.2.2.2.2.2.2.2.2.2.2.2.2.2.2.2.2.2.1 u'.2.2.2.2.2.2.2.2.2.2.2.2.2.2.2.2.2.2.2.2) : wL_law_241 post L xs J (nI i) 1 kc ks u.1 u.2.1 u.2.2.1 u.2.2.2.1 u.2.2.2.2.1 u.2.2.2.2.2.1 u.2.2.2.2.2.2.1 u.2.2.2.2.2.2.2.1 u.2.2.2.2.2.2.2.2.1 u.2.2.2.2.2.2.2.2.2.1 u.2.2.2.2.2.2.2.2.2.2.1 u.2.2.2.2.2.2.2.2.2.2.2.1 u.2.2.2.2.2.2.2.2.2.2.2.2.1 u.2.2.2.2.2.2.2.2.2.2.2.2.2.1 u.2.2.2.2.2.2.2.2.2.2.2.2.2.2.1 u.2.2.2.2.2.2.2.2.2.2.2.2.2.2.2.1 u.2.2.2.2.2.2.2.2.2.2.2.2.2.2.2.2.1 u.2.2.2.2.2.2.2.2.2.2.2.2.2.2.2.2.2.1 u.2.2.2.2.2.2.2.2.2.2.2.2.2.2.2.2.2.2.1 u.2.2.2.2.2.2.2.2.2.2.2.2.2.2.2.2.2.2.2.1 u.2.2.2.2.2.2.2.2.2.2.2.2.2.2.2.2.2.2.2.2 :=
  br_f (by decide) (rr_members (u := u) h.1 h.2.1 (br_f (by decide) (rr_keys (u := u) h (fun u' y => br_f (by decide) (nm_r (nI_1 i) (H u' y))))))
theorem rr_l219 {post : Int32 → Prop} {L : Nat} {xs : Nat → Int32} {J : Int32 → Int32 → Int32 → Int32 → Int32 → Int32 → Int32 → Int32 → Int32 → Int32 → (Nat → Int32) → (Nat → Int32) → (Nat → Int32) → (Nat → Int32) → (Nat → Int32) → (Nat → Int32) → (Nat → Int32) → (Nat → Int32) → (Nat → Int32) → (Nat → Int32) → (Nat → Int32) → (Nat → Int32) → Prop} {u : St1} {T : Nat → Nat} {V D : Nat → Int32} {M W i kc ks : Nat} (h : rr_Inv T V D M W u) (H : ∀ u' : St1, rr_Inv T V D M W u' → J (nI (i + 1)) u'.1 u'.2.1 u'.2.2.1 u'.2.2.2.1 u'.2.2.2.2.1 u'.2.2.2.2.2.1 u'.2.2.2.2.2.2.1 u'.2.2.2.2.2.2.2.1 u'.2.2.2.2.2.2.2.2.1 u'.2.2.2.2.2.2.2.2.2.1 u'.2.2.2.2.2.2.2.2.2.2.1 u'.2.2.2.2.2.2.2.2.2.2.2.1 u'.2.2.2.2.2.2.2.2.2.2.2.2.1 u'.2.2.2.2.2.2.2.2.2.2.2.2.2.1 u'.2.2.2.2.2.2.2.2.2.2.2.2.2.2.1 u'.2.2.2.2.2.2.2.2.2.2.2.2.2.2.2.1 u'.2.2.2.2.2.2.2.2.2.2.2.2.2.2.2.2.1 u'.2.2.2.2.2.2.2.2.2.2.2.2.2.2.2.2.2.1 u'.2.2.2.2.2.2.2.2.2.2.2.2.2.2.2.2.2.2.1 u'.2.2.2.2.2.2.2.2.2.2.2.2.2.2.2.2.2.2.2.1 u'.2.2.2.2.2.2.2.2.2.2.2.2.2.2.2.2.2.2.2.2) : wL_law_219 post L xs J (nI i) 1 (rr_vwA (rr_num T V D) T) kc ks u.1 u.2.1 u.2.2.1 u.2.2.2.1 u.2.2.2.2.1 u.2.2.2.2.2.1 u.2.2.2.2.2.2.1 u.2.2.2.2.2.2.2.1 u.2.2.2.2.2.2.2.2.1 u.2.2.2.2.2.2.2.2.2.1 u.2.2.2.2.2.2.2.2.2.2.1 u.2.2.2.2.2.2.2.2.2.2.2.1 u.2.2.2.2.2.2.2.2.2.2.2.2.1 u.2.2.2.2.2.2.2.2.2.2.2.2.2.1 u.2.2.2.2.2.2.2.2.2.2.2.2.2.2.1 u.2.2.2.2.2.2.2.2.2.2.2.2.2.2.2.1 u.2.2.2.2.2.2.2.2.2.2.2.2.2.2.2.2.1 u.2.2.2.2.2.2.2.2.2.2.2.2.2.2.2.2.2.1 u.2.2.2.2.2.2.2.2.2.2.2.2.2.2.2.2.2.2.1 u.2.2.2.2.2.2.2.2.2.2.2.2.2.2.2.2.2.2.2.1 u.2.2.2.2.2.2.2.2.2.2.2.2.2.2.2.2.2.2.2.2 :=
  br_f (by decide) (rr_view (u := u) h (fun u' y => br_t rfl (rr_l241 (u := u') y H)))
theorem rr_law10 {L : Nat} {xs : Nat → Int32} {u : St1} {T : Nat → Nat} {V D : Nat → Int32} {M W kc ks : Nat} (hL : L ≤ 260) (h : rr_Inv T V D M W u) (hP : rr_Pic 0 T V D) : ∃ n, wL_law_10 (fun r => r = 1) L xs kc ks n 0 u.1 u.2.1 u.2.2.1 u.2.2.2.1 u.2.2.2.2.1 u.2.2.2.2.2.1 u.2.2.2.2.2.2.1 u.2.2.2.2.2.2.2.1 u.2.2.2.2.2.2.2.2.1 u.2.2.2.2.2.2.2.2.2.1 u.2.2.2.2.2.2.2.2.2.2.1 u.2.2.2.2.2.2.2.2.2.2.2.1 u.2.2.2.2.2.2.2.2.2.2.2.2.1 u.2.2.2.2.2.2.2.2.2.2.2.2.2.1 u.2.2.2.2.2.2.2.2.2.2.2.2.2.2.1 u.2.2.2.2.2.2.2.2.2.2.2.2.2.2.2.1 u.2.2.2.2.2.2.2.2.2.2.2.2.2.2.2.2.1 u.2.2.2.2.2.2.2.2.2.2.2.2.2.2.2.2.2.1 u.2.2.2.2.2.2.2.2.2.2.2.2.2.2.2.2.2.2.1 u.2.2.2.2.2.2.2.2.2.2.2.2.2.2.2.2.2.2.2.1 u.2.2.2.2.2.2.2.2.2.2.2.2.2.2.2.2.2.2.2.2 := by
  refine pk_loop (σ := St1) (fun n i s => wL_law_10 (fun r => r = 1) L xs kc ks n (nI i) s.1 s.2.1 s.2.2.1 s.2.2.2.1 s.2.2.2.2.1 s.2.2.2.2.2.1 s.2.2.2.2.2.2.1 s.2.2.2.2.2.2.2.1 s.2.2.2.2.2.2.2.2.1 s.2.2.2.2.2.2.2.2.2.1 s.2.2.2.2.2.2.2.2.2.2.1 s.2.2.2.2.2.2.2.2.2.2.2.1 s.2.2.2.2.2.2.2.2.2.2.2.2.1 s.2.2.2.2.2.2.2.2.2.2.2.2.2.1 s.2.2.2.2.2.2.2.2.2.2.2.2.2.2.1 s.2.2.2.2.2.2.2.2.2.2.2.2.2.2.2.1 s.2.2.2.2.2.2.2.2.2.2.2.2.2.2.2.2.1 s.2.2.2.2.2.2.2.2.2.2.2.2.2.2.2.2.2.1 s.2.2.2.2.2.2.2.2.2.2.2.2.2.2.2.2.2.2.1 s.2.2.2.2.2.2.2.2.2.2.2.2.2.2.2.2.2.2.2.1 s.2.2.2.2.2.2.2.2.2.2.2.2.2.2.2.2.2.2.2.2) (fun i s => ∃ T V D M W, rr_Inv T V D M W s ∧ rr_Pic i T V D) L 0 u (by omega) ⟨T, V, D, M, W, h, hP⟩ ?_ ?_
  · intro n s _
    exact pk_le L L (fun _ => rfl) (fun z => absurd z (by omega))
  · clear h hP
    intro n i s hi hs hn
    obtain ⟨T, V, D, M, W, h, hP⟩ := hs
    have hP1 := rr_Pic_s hP
    have go : ∀ (M' W' : Nat) (u' : St1), rr_Inv T V D M' W' u' → wL_law_219 (fun r => r = 1) L xs (wL_law_10 (fun r => r = 1) L xs kc ks n) (nI i) 1 (rr_vwA (rr_num T V D) T) kc ks u'.1 u'.2.1 u'.2.2.1 u'.2.2.2.1 u'.2.2.2.2.1 u'.2.2.2.2.2.1 u'.2.2.2.2.2.2.1 u'.2.2.2.2.2.2.2.1 u'.2.2.2.2.2.2.2.2.1 u'.2.2.2.2.2.2.2.2.2.1 u'.2.2.2.2.2.2.2.2.2.2.1 u'.2.2.2.2.2.2.2.2.2.2.2.1 u'.2.2.2.2.2.2.2.2.2.2.2.2.1 u'.2.2.2.2.2.2.2.2.2.2.2.2.2.1 u'.2.2.2.2.2.2.2.2.2.2.2.2.2.2.1 u'.2.2.2.2.2.2.2.2.2.2.2.2.2.2.2.1 u'.2.2.2.2.2.2.2.2.2.2.2.2.2.2.2.2.1 u'.2.2.2.2.2.2.2.2.2.2.2.2.2.2.2.2.2.1 u'.2.2.2.2.2.2.2.2.2.2.2.2.2.2.2.2.2.2.1 u'.2.2.2.2.2.2.2.2.2.2.2.2.2.2.2.2.2.2.2.1 u'.2.2.2.2.2.2.2.2.2.2.2.2.2.2.2.2.2.2.2.2 := fun M' W' u' y => rr_l219 (u := u') y (fun u2 y2 => hn u2 ⟨T, V, D, M', W', y2, hP1⟩)
    obtain ⟨w, hw, ew⟩ := pk_andE (xs (nI i).toNatClampNeg) (m := 15) 4 (by decide)
    obtain ⟨j5, hj5, e5⟩ := pk_andE (xs (nI i).toNatClampNeg >>> ((4 : Int32) &&& 31)) (m := 7) 3 (by decide)
    obtain ⟨k, hk, ek⟩ := pk_andE ((xs (nI i).toNatClampNeg >>> ((4 : Int32) &&& 31)) >>> ((3 : Int32) &&& 31)) (m := 15) 4 (by decide)
    obtain ⟨jv, hjv, ev⟩ := pk_andE ((xs (nI i).toNatClampNeg >>> ((4 : Int32) &&& 31)) >>> ((7 : Int32) &&& 31)) (m := 16383) 14 (by decide)
    obtain ⟨jn, hjn, en⟩ := pk_andE ((xs (nI i).toNatClampNeg >>> ((4 : Int32) &&& 31)) >>> ((7 : Int32) &&& 31)) (m := 15) 4 (by decide)
    have hm : j5 % 6 < 6 := Nat.mod_lt _ (by omega)
    have hv : rr_isn ((((xs (nI i).toNatClampNeg >>> ((4 : Int32) &&& 31)) >>> ((7 : Int32) &&& 31)) &&& 16383) - 8000) := by
      rw [ev]
      exact rr_isn_v hjv
    refine pk_le L i (fun z => absurd z (by omega)) (fun _ => And.intro (pk_in i L hi) (nm_r ew (And.intro (pk_in i L hi) (nm_e (And.intro (by decide) (nm_r (e' := nI (j5 % 6)) ?_ (nm_r ek (pk_le 8 w (fun w8 => rr_view (u := s) h (fun u1 h1 => pk_le 10 w (fun _ => pk_le 12 w (fun _ => pk_le 13 w (fun _ => pk_le 14 w (fun _ => pk_le 15 w (fun _ => rr_size (u := u1) h1 (fun u2 h2 => rr_tidy (u := u2) h2 (fun u3 h3 => br_t rfl (go M W u3 h3)))) (fun _ => rr_loseE (u := u1) en (by omega) h1 (fun _ u2 h2 => go M W u2 h2))) (fun _ => rr_leave (u := u1) hm h1 (fun _ M' W' u2 h2 => go M' W' u2 h2))) (fun _ => rr_join (u := u1) hm h1 (fun _ M' W' u2 h2 => go M' W' u2 h2))) (fun _ => br_c (fun _ => rr_upM (u := u1) hm h1 (fun _ W' u2 h2 => go M W' u2 h2)) (fun _ => rr_upM (u := u1) hm h1 (fun _ W' u2 h2 => go M W' u2 h2)))) (fun _ => rr_down (u := u1) hm h1 (fun _ W' u2 h2 => go M W' u2 h2)))) (fun w8 => rr_writes (u := s) w8 hm hk hv (n := i) (by omega) hP h (fun T' V' D' u1 h1 p1 => rr_l241 (u := u1) h1 (fun u2 y2 => hn u2 ⟨T', V', D', M, W, y2, p1⟩)))))))))))
    rw [e5]
    exact pk_rem (d := 6) (by omega) (by omega) (by omega)
theorem rr_start {b1 b2 : Nat → Int32} {f4 f5 f6 f7 f8 : Int32} (hb : rr_Hold (rr_lay 7 24) b1 b2) : rr_Inv (fun _ => 0) (fun _ => 0) (fun _ => 0) 7 7 (7, 7, nI (rr_lay 7 24).length, f4, f5, f6, f7, f8, 0, b1, b2, (fun _ => 0), (fun _ => 0), (fun _ => 0), (fun _ => 0), (fun _ => 0), (fun _ => 0), (fun _ => 0), (fun _ => 0), (fun _ => 0), (fun _ => 0)) :=
  ⟨rr_wf_self (by decide) (by decide), ⟨rfl, rfl, rfl, hb⟩, ⟨fun _ _ _ _ => rr_ok0 (Nat.pow_pos (by decide)) (Or.inl rfl), fun _ _ _ _ _ _ => rr_ok0 (Nat.pow_pos (by decide)) (Or.inl rfl), 0, by decide, rfl⟩, fun _ _ => rr_two_all (fun _ _ => rfl)⟩
theorem rr_init {post : St1 → Prop} (H : ∀ b1 b2, rr_Hold (rr_lay 7 24) b1 b2 → post (7, 7, nI (rr_lay 7 24).length, 0, 0, 0, 0, 0, 0, b1, b2, (fun _ => 0), (fun _ => 0), (fun _ => 0), (fun _ => 0), (fun _ => 0), (fun _ => 0), (fun _ => 0), (fun _ => 0), (fun _ => 0), (fun _ => 0))) : wpX_init post 12 2160 (0, 0, 0, 0, 0, 0, 0, 0, 0) := by
  unfold wpX_init
  refine ⟨by decide, by decide, by decide, by decide, by decide, by decide, by decide, by decide, by decide, by decide, by decide, by decide, by decide, by decide, by decide, by decide, by decide, by decide, by decide, by decide, by decide, by decide, by decide, by decide, ?_⟩
  exact rr_layRing (u := (7, 7, 0, 0, 0, 0, 0, 0, 0, (fun _ => 0), (fun _ => 0), (fun _ => 0), (fun _ => 0), (fun _ => 0), (fun _ => 0), (fun _ => 0), (fun _ => 0), (fun _ => 0), (fun _ => 0), (fun _ => 0), (fun _ => 0))) (M := 7) (by decide) rfl (fun b1 b2 hb => H b1 b2 hb)
theorem i_vc (xs : Nat → Int32) (L : Nat) (hL : L ≤ 260) : wpL_law (fun r => r = 1) L xs :=
  Exists.intro 12 (Exists.intro 2160 (And.intro (by decide) (And.intro (by decide) (rr_init (fun b1 b2 hb => rr_law10 (u := (7, 7, nI (rr_lay 7 24).length, 0, 0, 0, 0, 0, 0, b1, b2, (fun _ => 0), (fun _ => 0), (fun _ => 0), (fun _ => 0), (fun _ => 0), (fun _ => 0), (fun _ => 0), (fun _ => 0), (fun _ => 0), (fun _ => 0))) hL (rr_start hb) (fun _ _ => ⟨Nat.zero_le _, Or.inl rfl⟩))))))
end
