section
/-! rows of kit/rows (PURE-ROWS) that this claim uses -/
theorem pk_us {f : Nat → Int32} {k : Nat} {x : Int32} : upd f k x k = x := if_pos rfl
theorem pk_un {f : Nat → Int32} {k j : Nat} {x : Int32} (h : j ≠ k) : upd f k x j = f j := if_neg h
theorem pk_uLs {f : Nat → Int64} {k : Nat} {x : Int64} : vp_updL f k x k = x := if_pos rfl
theorem pk_uLn {f : Nat → Int64} {k j : Nat} {x : Int64} (h : j ≠ k) : vp_updL f k x j = f j := if_neg h
theorem pk_sub {a b : Nat} (h : b ≤ a) : nI a - nI b = nI (a - b) := by
  obtain ⟨c, rfl⟩ : ∃ c, a = c + b := ⟨a - b, by omega⟩
  rw [← nI_add, Int32.add_sub_cancel, Nat.add_sub_cancel]
theorem pk_m1 (n : Nat) : nI (n + 1) + (-1) = nI n := by
  rw [← nI_1, Int32.add_assoc, show (1 : Int32) + (-1) = 0 from rfl, Int32.add_zero]
theorem pk_sub_toInt {a b : Nat} (ha : a < 2 ^ 30) (hb : b < 2 ^ 30) : (nI a - nI b).toInt = (a : Int) - b := by
  rw [Int32.toInt_sub, nI_toInt (by omega), nI_toInt (by omega)]
  exact Int.bmod_eq_of_le (by omega) (by omega)
theorem pk_le {x y : Int32} {A B : Prop} (a b : Nat) (f : a ≤ b → A) (g : b < a → B) (hx : x = nI a := by rfl) (hy : y = nI b := by rfl) (ha : a < 2 ^ 31 := by omega) (hb : b < 2 ^ 31 := by omega) : (x ≤ y → A) ∧ (¬ x ≤ y → B) := by
  subst hx hy
  rw [nI_leI ha hb]
  exact ⟨f, fun z => g (by omega)⟩
theorem pk_lt {x y : Int32} {A B : Prop} (a b : Nat) (f : a < b → A) (g : b ≤ a → B) (hx : x = nI a := by rfl) (hy : y = nI b := by rfl) (ha : a < 2 ^ 31 := by omega) (hb : b < 2 ^ 31 := by omega) : (x < y → A) ∧ (¬ x < y → B) := by
  subst hx hy
  rw [nI_ltI ha hb]
  exact ⟨f, fun z => g (by omega)⟩
theorem pk_eq {x y : Int32} {A B : Prop} (a b : Nat) (f : a = b → A) (g : a ≠ b → B) (hx : x = nI a := by rfl) (hy : y = nI b := by rfl) (ha : a < 2 ^ 31 := by omega) (hb : b < 2 ^ 31 := by omega) : (x = y → A) ∧ (¬ x = y → B) := by
  subst hx hy
  rw [nI_eq ha hb]
  exact ⟨f, g⟩
theorem pk_in {x : Int32} (n N : Nat) (h : n < N) (hx : x = nI n := by rfl) (hN : N < 2 ^ 31 := by omega) : vp_in x N := by
  subst hx
  exact vp_in_nI h hN
theorem pk_cl {x : Int32} (n : Nat) (hx : x = nI n := by rfl) (h : n < 2 ^ 31 := by omega) : x.toNatClampNeg = n := by
  subst hx
  exact nI_clamp h
theorem pk_mul (a b : Nat) : nI a * nI b = nI (a * b) := (Int32.ofNat_mul a b).symm
end
section
/-! the ways from a place (i letters read, j columns passed) to the end, in the order of a dictionary -/
def ph_la (i q : Nat) : Nat := if q = 2 then i else i + 1
def ph_ca (j q : Nat) : Nat := if q = 1 then j else j + 1
def ph_ok (L N i j q : Nat) : Bool := decide (ph_la i q ≤ N) && decide (ph_ca j q ≤ L)
theorem ph_ok_iff {L N i j q : Nat} : ph_ok L N i j q = true ↔ ph_la i q ≤ N ∧ ph_ca j q ≤ L := by
  simp [ph_ok]
theorem ph_la0 (i : Nat) : ph_la i 0 = i + 1 := rfl
theorem ph_la1 (i : Nat) : ph_la i 1 = i + 1 := rfl
theorem ph_la2 (i : Nat) : ph_la i 2 = i := rfl
theorem ph_ca0 (i : Nat) : ph_ca i 0 = i + 1 := rfl
theorem ph_ca1 (i : Nat) : ph_ca i 1 = i := rfl
theorem ph_ca2 (i : Nat) : ph_ca i 2 = i + 1 := rfl
theorem ph_la_le (i q : Nat) : i ≤ ph_la i q := by unfold ph_la; split <;> omega
theorem ph_ca_le (i q : Nat) : i ≤ ph_ca i q := by unfold ph_ca; split <;> omega
theorem ph_la_up (i q : Nat) : ph_la i q ≤ i + 1 := by unfold ph_la; split <;> omega
theorem ph_ca_up (i q : Nat) : ph_ca i q ≤ i + 1 := by unfold ph_ca; split <;> omega
theorem ph_lc (i j q : Nat) : i + j + 1 ≤ ph_la i q + ph_ca j q := by
  unfold ph_la ph_ca
  by_cases h1 : q = 1
  · subst h1; simp; omega
  · rw [if_neg h1]; split <;> omega
def ph_wy (L N i j : Nat) : List (List Nat) :=
  (if i = N ∧ j = L then [[]] else []) ++
  ((if _h : i + 1 ≤ N ∧ j + 1 ≤ L then (ph_wy L N (i + 1) (j + 1)).map (List.cons 0) else []) ++
  ((if _h : i + 1 ≤ N ∧ j ≤ L then (ph_wy L N (i + 1) j).map (List.cons 1) else []) ++
   (if _h : i ≤ N ∧ j + 1 ≤ L then (ph_wy L N i (j + 1)).map (List.cons 2) else [])))
termination_by (N - i) + (L - j)
decreasing_by all_goals omega
/-- the ways whose first step is of kind q -/
def ph_br (L N i j q : Nat) : List (List Nat) :=
  if ph_ok L N i j q = true then (ph_wy L N (ph_la i q) (ph_ca j q)).map (List.cons q) else []
def ph_e (L N i j : Nat) : List (List Nat) := if i = N ∧ j = L then [[]] else []
theorem ph_wy_eq (L N i j : Nat) : ph_wy L N i j = ph_e L N i j ++ (ph_br L N i j 0 ++ (ph_br L N i j 1 ++ ph_br L N i j 2)) := by
  rw [ph_wy]
  simp only [ph_e, ph_br, ph_ok_iff, ph_la0, ph_la1, ph_la2, ph_ca0, ph_ca1, ph_ca2, dite_eq_ite]
/-- the ways whose first step is of a kind below k (and the empty one) -/
def ph_pt (L N i j : Nat) : Nat → List (List Nat)
  | 0 => ph_e L N i j
  | k + 1 => ph_pt L N i j k ++ ph_br L N i j k
theorem ph_pt_3 (L N i j : Nat) : ph_pt L N i j 3 = ph_wy L N i j := by
  rw [ph_wy_eq]
  simp only [ph_pt, List.append_assoc]
/-- induction along the steps -/
theorem ph_ind {L N : Nat} (P : Nat → Nat → Prop) (h : ∀ i j, (∀ q, q < 3 → ph_ok L N i j q = true → P (ph_la i q) (ph_ca j q)) → P i j) (i j : Nat) : P i j := by
  have H : ∀ d i j : Nat, (N - i) + (L - j) ≤ d → P i j := by
    intro d
    induction d with
    | zero =>
      intro i j hd
      refine h i j fun q _ ho => ?_
      rw [ph_ok_iff] at ho
      have h1 := ph_lc i j q
      exfalso
      omega
    | succ d ih =>
      intro i j hd
      refine h i j fun q _ ho => ?_
      rw [ph_ok_iff] at ho
      have h1 := ph_lc i j q
      have h2 := ph_la_le i q
      have h3 := ph_ca_le j q
      exact ih _ _ (by omega)
  exact H _ i j (Nat.le_refl _)
/-- what every way on from (i, j) is -/
def ph_vw (L N : Nat) : Nat → Nat → List Nat → Prop
  | i, j, [] => i = N ∧ j = L
  | i, j, q :: w => q < 3 ∧ ph_la i q ≤ N ∧ ph_ca j q ≤ L ∧ ph_vw L N (ph_la i q) (ph_ca j q) w
theorem ph_mem_br {L N i j q : Nat} {w : List Nat} : w ∈ ph_br L N i j q ↔ ph_ok L N i j q = true ∧ ∃ v, v ∈ ph_wy L N (ph_la i q) (ph_ca j q) ∧ w = q :: v := by
  unfold ph_br
  split
  · next h =>
    simp only [List.mem_map, h, true_and]
    constructor
    · rintro ⟨v, hv, rfl⟩; exact ⟨v, hv, rfl⟩
    · rintro ⟨v, hv, rfl⟩; exact ⟨v, hv, rfl⟩
  · next h =>
    constructor
    · intro z; cases z
    · intro z; exact absurd z.1 h
theorem ph_mem_e {L N i j : Nat} {w : List Nat} : w ∈ ph_e L N i j ↔ (i = N ∧ j = L) ∧ w = [] := by
  unfold ph_e
  split
  · next h => simp [h]
  · next h => simp [h]
theorem ph_vw_of {L N : Nat} (i j : Nat) : ∀ w, w ∈ ph_wy L N i j → ph_vw L N i j w := by
  refine ph_ind (L := L) (N := N) (fun i j => ∀ w, w ∈ ph_wy L N i j → ph_vw L N i j w) ?_ i j
  intro i j ih w hw
  rw [ph_wy_eq] at hw
  have K : ∀ q, q < 3 → w ∈ ph_br L N i j q → ph_vw L N i j w := by
    intro q hq h
    obtain ⟨ho, v, hv, rfl⟩ := ph_mem_br.mp h
    have h2 := ph_ok_iff.mp ho
    exact ⟨hq, h2.1, h2.2, ih q hq ho v hv⟩
  rcases List.mem_append.mp hw with h | h
  · obtain ⟨h1, rfl⟩ := ph_mem_e.mp h
    exact h1
  rcases List.mem_append.mp h with h | h
  · exact K 0 (by omega) h
  rcases List.mem_append.mp h with h | h
  · exact K 1 (by omega) h
  · exact K 2 (by omega) h
theorem ph_vw_len {L N : Nat} : ∀ (w : List Nat) (i j : Nat), ph_vw L N i j w → i ≤ N ∧ j ≤ L ∧ w.length ≤ (N - i) + (L - j) := by
  intro w
  induction w with
  | nil => intro i j h; obtain ⟨rfl, rfl⟩ := h; simp
  | cons q w ih =>
    intro i j h
    obtain ⟨_, h1, h2, h3⟩ := h
    have h4 := ih _ _ h3
    have h5 := ph_lc i j q
    have h6 := ph_la_le i q
    have h7 := ph_ca_le j q
    simp only [List.length_cons]
    omega
/-! sums over ways -/
def ph_su (f : List Nat → Int64) : List (List Nat) → Int64
  | [] => 0
  | w :: l => f w + ph_su f l
theorem ph_su_app (f : List Nat → Int64) (a b : List (List Nat)) : ph_su f (a ++ b) = ph_su f a + ph_su f b := by
  induction a with
  | nil => simp only [List.nil_append, ph_su, Int64.zero_add]
  | cons w l ih => simp only [List.cons_append, ph_su, ih, Int64.add_assoc]
theorem ph_su_map (f : List Nat → Int64) (g : List Nat → List Nat) (l : List (List Nat)) : ph_su f (l.map g) = ph_su (fun w => f (g w)) l := by
  induction l with
  | nil => rfl
  | cons w l ih => simp only [List.map_cons, ph_su, ih]
theorem ph_su_mul (c : Int64) (f : List Nat → Int64) (l : List (List Nat)) : ph_su (fun w => c * f w) l = c * ph_su f l := by
  induction l with
  | nil => simp only [ph_su, Int64.mul_zero]
  | cons w l ih => simp only [ph_su, ih, Int64.mul_add]
theorem ph_su_0 (l : List (List Nat)) : ph_su (fun _ => 0) l = 0 := by
  induction l with
  | nil => rfl
  | cons w l ih => simp only [ph_su, ih, Int64.add_zero]
theorem ph_su_congr {f g : List Nat → Int64} (l : List (List Nat)) (h : ∀ w, f w = g w) : ph_su f l = ph_su g l := by
  rw [show f = g from funext h]
def ph_wt (F : Nat → Nat → Nat → Nat → Int64) : Nat → Nat → Nat → List Nat → Int64
  | _, _, _, [] => 1
  | i, j, p, q :: w => F i j p q * ph_wt F (ph_la i q) (ph_ca j q) q w
def ph_B (L N : Nat) (F : Nat → Nat → Nat → Nat → Int64) (i j p : Nat) : Int64 := ph_su (ph_wt F i j p) (ph_wy L N i j)
def ph_g (L N : Nat) (F : Nat → Nat → Nat → Nat → Int64) (i j p q : Nat) : Int64 := if ph_ok L N i j q = true then F i j p q else 0
theorem ph_B_br (L N : Nat) (F : Nat → Nat → Nat → Nat → Int64) (i j p q : Nat) : ph_su (ph_wt F i j p) (ph_br L N i j q) = ph_g L N F i j p q * ph_B L N F (ph_la i q) (ph_ca j q) q := by
  unfold ph_br ph_g ph_B
  split
  · rw [ph_su_map, ← ph_su_mul]; rfl
  · rw [Int64.zero_mul]; rfl
def ph_end (L N i j : Nat) : Int64 := if i = N ∧ j = L then 1 else 0
theorem ph_B_e (L N : Nat) (F : Nat → Nat → Nat → Nat → Int64) (i j p : Nat) : ph_su (ph_wt F i j p) (ph_e L N i j) = ph_end L N i j := by
  unfold ph_e ph_end
  split <;> rfl
/-- the sum as the component reckons it: kinds below k -/
def ph_Bs (L N : Nat) (F : Nat → Nat → Nat → Nat → Int64) (i j p : Nat) : Nat → Int64
  | 0 => ph_end L N i j
  | k + 1 => ph_Bs L N F i j p k + ph_g L N F i j p k * ph_B L N F (ph_la i k) (ph_ca j k) k
theorem ph_Bs_pt (L N : Nat) (F : Nat → Nat → Nat → Nat → Int64) (i j p k : Nat) : ph_Bs L N F i j p k = ph_su (ph_wt F i j p) (ph_pt L N i j k) := by
  induction k with
  | zero => exact (ph_B_e L N F i j p).symm
  | succ k ih => rw [ph_Bs, ph_pt, ph_su_app, ih, ph_B_br]
theorem ph_Bs_3 (L N : Nat) (F : Nat → Nat → Nat → Nat → Int64) (i j p : Nat) : ph_Bs L N F i j p 3 = ph_B L N F i j p := by
  rw [ph_Bs_pt, ph_pt_3]; rfl
/-! numbers of ways -/
theorem ph_len_br (L N i j q : Nat) : (ph_br L N i j q).length = if ph_ok L N i j q = true then (ph_wy L N (ph_la i q) (ph_ca j q)).length else 0 := by
  unfold ph_br
  split <;> simp
end
section
/-! sums over the ways that have a marked step -/
def ph_has (M : Nat → Nat → Nat → Bool) : Nat → Nat → List Nat → Bool
  | _, _, [] => false
  | i, j, q :: w => M (ph_la i q) (ph_ca j q) q || ph_has M (ph_la i q) (ph_ca j q) w
def ph_hw (F : Nat → Nat → Nat → Nat → Int64) (M : Nat → Nat → Nat → Bool) (i j p : Nat) (w : List Nat) : Int64 :=
  if ph_has M i j w = true then ph_wt F i j p w else 0
def ph_H (L N : Nat) (F : Nat → Nat → Nat → Nat → Int64) (M : Nat → Nat → Nat → Bool) (i j p : Nat) : Int64 :=
  ph_su (ph_hw F M i j p) (ph_wy L N i j)
/-- what a cell is worth once a step has landed there -/
def ph_G (L N : Nat) (F : Nat → Nat → Nat → Nat → Int64) (M : Nat → Nat → Nat → Bool) (i j p : Nat) : Int64 :=
  if M i j p = true then ph_B L N F i j p else ph_H L N F M i j p
theorem ph_H_br (L N : Nat) (F : Nat → Nat → Nat → Nat → Int64) (M : Nat → Nat → Nat → Bool) (i j p q : Nat) : ph_su (ph_hw F M i j p) (ph_br L N i j q) = ph_g L N F i j p q * ph_G L N F M (ph_la i q) (ph_ca j q) q := by
  unfold ph_br ph_g ph_G
  split
  · rw [ph_su_map]
    by_cases hM : M (ph_la i q) (ph_ca j q) q = true
    · rw [if_pos hM, ph_B, ← ph_su_mul]
      refine ph_su_congr _ fun w => ?_
      simp only [ph_hw, ph_has, hM, Bool.true_or, if_true, ph_wt]
    · rw [if_neg hM, ph_H, ← ph_su_mul]
      refine ph_su_congr _ fun w => ?_
      have hM' : M (ph_la i q) (ph_ca j q) q = false := by simpa using hM
      simp only [ph_hw, ph_has, hM', Bool.false_or, ph_wt]
      split
      · rfl
      · rw [Int64.mul_zero]
  · rw [Int64.zero_mul]; rfl
theorem ph_H_e (L N : Nat) (F : Nat → Nat → Nat → Nat → Int64) (M : Nat → Nat → Nat → Bool) (i j p : Nat) : ph_su (ph_hw F M i j p) (ph_e L N i j) = 0 := by
  unfold ph_e
  split
  · show ph_hw F M i j p [] + 0 = 0
    rw [Int64.add_zero]; rfl
  · rfl
theorem ph_H_eq (L N : Nat) (F : Nat → Nat → Nat → Nat → Int64) (M : Nat → Nat → Nat → Bool) (i j p : Nat) : ph_H L N F M i j p =
    ph_g L N F i j p 0 * ph_G L N F M (i + 1) (j + 1) 0 + (ph_g L N F i j p 1 * ph_G L N F M (i + 1) j 1 + ph_g L N F i j p 2 * ph_G L N F M i (j + 1) 2) := by
  unfold ph_H
  rw [ph_wy_eq, ph_su_app, ph_su_app, ph_su_app, ph_H_e, ph_H_br, ph_H_br, ph_H_br, Int64.zero_add]
  rfl
/-! the weights of all paths from one cell to another -/
def ph_dl (a b c i j p : Nat) : Int64 := if i = a ∧ j = b ∧ p = c then 1 else 0
def ph_PF (L N : Nat) (F : Nat → Nat → Nat → Nat → Int64) (a b c i j p : Nat) : Int64 :=
  (if _h : i + 1 ≤ N ∧ j + 1 ≤ L then F i j p 0 * (ph_dl a b c (i + 1) (j + 1) 0 + ph_PF L N F a b c (i + 1) (j + 1) 0) else 0) +
  ((if _h : i + 1 ≤ N ∧ j ≤ L then F i j p 1 * (ph_dl a b c (i + 1) j 1 + ph_PF L N F a b c (i + 1) j 1) else 0) +
   (if _h : i ≤ N ∧ j + 1 ≤ L then F i j p 2 * (ph_dl a b c i (j + 1) 2 + ph_PF L N F a b c i (j + 1) 2) else 0))
termination_by (N - i) + (L - j)
decreasing_by all_goals omega
/-- the cell itself, or a path there -/
def ph_A (L N : Nat) (F : Nat → Nat → Nat → Nat → Int64) (a b c i j p : Nat) : Int64 := ph_dl a b c i j p + ph_PF L N F a b c i j p
theorem ph_PF_eq (L N : Nat) (F : Nat → Nat → Nat → Nat → Int64) (a b c i j p : Nat) : ph_PF L N F a b c i j p =
    ph_g L N F i j p 0 * ph_A L N F a b c (i + 1) (j + 1) 0 + (ph_g L N F i j p 1 * ph_A L N F a b c (i + 1) j 1 + ph_g L N F i j p 2 * ph_A L N F a b c i (j + 1) 2) := by
  rw [ph_PF]
  simp only [ph_g, ph_A, ph_ok_iff, ph_la0, ph_la1, ph_la2, ph_ca0, ph_ca1, ph_ca2, dite_eq_ite]
  congr 1
  · split
    · rfl
    · rw [Int64.zero_mul]
  congr 1
  · split
    · rfl
    · rw [Int64.zero_mul]
  · split
    · rfl
    · rw [Int64.zero_mul]
theorem ph_g_or (L N : Nat) (F : Nat → Nat → Nat → Nat → Int64) (i j p q : Nat) {X Y : Int64} (h : ph_ok L N i j q = true → X = Y) : ph_g L N F i j p q * X = ph_g L N F i j p q * Y := by
  unfold ph_g
  split
  · next ho => rw [h ho]
  · rw [Int64.zero_mul, Int64.zero_mul]
/-- a family of values along the steps is fixed by its recursion -/
theorem ph_step3 {L N : Nat} (F : Nat → Nat → Nat → Nat → Int64) {X Y : Nat → Nat → Nat → Int64} (i j p : Nat) (h : ∀ q, q < 3 → ph_ok L N i j q = true → X (ph_la i q) (ph_ca j q) q = Y (ph_la i q) (ph_ca j q) q) :
    ph_g L N F i j p 0 * X (i + 1) (j + 1) 0 + (ph_g L N F i j p 1 * X (i + 1) j 1 + ph_g L N F i j p 2 * X i (j + 1) 2) =
    ph_g L N F i j p 0 * Y (i + 1) (j + 1) 0 + (ph_g L N F i j p 1 * Y (i + 1) j 1 + ph_g L N F i j p 2 * Y i (j + 1) 2) := by
  have h0 := ph_g_or L N F i j p 0 (h 0 (by omega))
  have h1 := ph_g_or L N F i j p 1 (h 1 (by omega))
  have h2 := ph_g_or L N F i j p 2 (h 2 (by omega))
  simp only [ph_la0, ph_la1, ph_la2, ph_ca0, ph_ca1, ph_ca2] at h0 h1 h2
  rw [h0, h1, h2]
theorem ph_step0 {L N : Nat} (F : Nat → Nat → Nat → Nat → Int64) {X : Nat → Nat → Nat → Int64} (i j p : Nat) (h : ∀ q, q < 3 → ph_ok L N i j q = true → X (ph_la i q) (ph_ca j q) q = 0) :
    ph_g L N F i j p 0 * X (i + 1) (j + 1) 0 + (ph_g L N F i j p 1 * X (i + 1) j 1 + ph_g L N F i j p 2 * X i (j + 1) 2) = 0 := by
  rw [ph_step3 F (Y := fun _ _ _ => 0) i j p h]
  simp only [Int64.mul_zero, Int64.add_zero]
theorem ph_dl_0 {a b c i j p : Nat} (h : ¬ (i = a ∧ j = b ∧ p = c)) : ph_dl a b c i j p = 0 := if_neg h
/-- no path comes to a cell that lies not further on -/
theorem ph_PF_far {L N : Nat} (F : Nat → Nat → Nat → Nat → Int64) (a b c i j : Nat) : a < i ∨ b < j ∨ a + b ≤ i + j → ∀ p, ph_PF L N F a b c i j p = 0 := by
  refine ph_ind (L := L) (N := N) (fun i j => a < i ∨ b < j ∨ a + b ≤ i + j → ∀ p, ph_PF L N F a b c i j p = 0) ?_ i j
  intro i j ih hc p
  rw [ph_PF_eq]
  refine ph_step0 F i j p fun q hq ho => ?_
  have h1 := ph_la_le i q
  have h2 := ph_ca_le j q
  have h3 := ph_lc i j q
  rw [ph_A, ih q hq ho (by omega) q, ph_dl_0 (by omega), Int64.add_zero]
/-- no path comes to a cell that no step lands in -/
theorem ph_PF_none {L N : Nat} (F : Nat → Nat → Nat → Nat → Int64) (a b c : Nat) (hn : ∀ i j, ¬ (ph_la i c = a ∧ ph_ca j c = b)) (i j : Nat) : ∀ p, ph_PF L N F a b c i j p = 0 := by
  refine ph_ind (L := L) (N := N) (fun i j => ∀ p, ph_PF L N F a b c i j p = 0) ?_ i j
  intro i j ih p
  rw [ph_PF_eq]
  refine ph_step0 F i j p fun q hq ho => ?_
  rw [ph_A, ih q hq ho q, ph_dl_0, Int64.add_zero]
  rintro ⟨h1, h2, rfl⟩
  exact hn i j ⟨h1, h2⟩
/-- the first letter of a pull: one step from x itself -/
theorem ph_pull0 {L N : Nat} (F : Nat → Nat → Nat → Nat → Int64) (a b q : Nat) (hq : q < 3) (ho : ph_ok L N a b q = true) (i j p : Nat) (hp : p < 3) :
    ph_g L N F i j p 0 * ph_dl (ph_la a q) (ph_ca b q) q (i + 1) (j + 1) 0 + (ph_g L N F i j p 1 * ph_dl (ph_la a q) (ph_ca b q) q (i + 1) j 1 + ph_g L N F i j p 2 * ph_dl (ph_la a q) (ph_ca b q) q i (j + 1) 2) =
    ph_dl a b 0 i j p * F a b 0 q + (ph_dl a b 1 i j p * F a b 1 q + ph_dl a b 2 i j p * F a b 2 q) := by
  by_cases hx : i = a ∧ j = b
  · obtain ⟨rfl, rfl⟩ := hx
    have hg : ph_g L N F i j p q = F i j p q := if_pos ho
    have hl : ph_g L N F i j p 0 * ph_dl (ph_la i q) (ph_ca j q) q (i + 1) (j + 1) 0 + (ph_g L N F i j p 1 * ph_dl (ph_la i q) (ph_ca j q) q (i + 1) j 1 + ph_g L N F i j p 2 * ph_dl (ph_la i q) (ph_ca j q) q i (j + 1) 2) = F i j p q := by
      rw [← hg]
      have : q = 0 ∨ q = 1 ∨ q = 2 := by omega
      rcases this with rfl | rfl | rfl <;> simp [ph_dl, ph_la, ph_ca]
    rw [hl]
    have : p = 0 ∨ p = 1 ∨ p = 2 := by omega
    rcases this with rfl | rfl | rfl <;> simp [ph_dl]
  · have K : ∀ r, ph_dl a b r i j p = 0 := fun r => ph_dl_0 (fun z => hx ⟨z.1, z.2.1⟩)
    rw [K 0, K 1, K 2]
    have J : ∀ t, ph_dl (ph_la a q) (ph_ca b q) q (ph_la i t) (ph_ca j t) t = 0 := by
      intro t
      refine ph_dl_0 ?_
      rintro ⟨h1, h2, rfl⟩
      apply hx
      unfold ph_la at h1
      unfold ph_ca at h2
      split at h1 <;> split at h2 <;> omega
    have J0 := J 0
    have J1 := J 1
    have J2 := J 2
    simp only [ph_la0, ph_la1, ph_la2, ph_ca0, ph_ca1, ph_ca2] at J0 J1 J2
    rw [J0, J1, J2]
    simp only [Int64.mul_zero, Int64.zero_mul, Int64.add_zero]
theorem ph_ring (g0 g1 g2 D0 D1 D2 f0 f1 f2 a00 a01 a02 a10 a11 a12 a20 a21 a22 e0 e1 e2 : Int64)
    (h : g0 * D0 + (g1 * D1 + g2 * D2) = e0 * f0 + (e1 * f1 + e2 * f2)) :
    g0 * (D0 + (a00 * f0 + (a01 * f1 + a02 * f2))) + (g1 * (D1 + (a10 * f0 + (a11 * f1 + a12 * f2))) + g2 * (D2 + (a20 * f0 + (a21 * f1 + a22 * f2)))) =
    (e0 + (g0 * a00 + (g1 * a10 + g2 * a20))) * f0 + ((e1 + (g0 * a01 + (g1 * a11 + g2 * a21))) * f1 + (e2 + (g0 * a02 + (g1 * a12 + g2 * a22))) * f2) := by
  grind
/-- paths by their last step -/
theorem ph_pull {L N : Nat} (F : Nat → Nat → Nat → Nat → Int64) (a b q : Nat) (hq : q < 3) (ho : ph_ok L N a b q = true) (i j : Nat) : ∀ p, p < 3 →
    ph_PF L N F (ph_la a q) (ph_ca b q) q i j p = ph_A L N F a b 0 i j p * F a b 0 q + (ph_A L N F a b 1 i j p * F a b 1 q + ph_A L N F a b 2 i j p * F a b 2 q) := by
  refine ph_ind (L := L) (N := N) (fun i j => ∀ p, p < 3 →
    ph_PF L N F (ph_la a q) (ph_ca b q) q i j p = ph_A L N F a b 0 i j p * F a b 0 q + (ph_A L N F a b 1 i j p * F a b 1 q + ph_A L N F a b 2 i j p * F a b 2 q)) ?_ i j
  intro i j ih p hp
  rw [ph_PF_eq]
  rw [ph_step3 F (X := ph_A L N F (ph_la a q) (ph_ca b q) q) (Y := fun i j p => ph_dl (ph_la a q) (ph_ca b q) q i j p + (ph_A L N F a b 0 i j p * F a b 0 q + (ph_A L N F a b 1 i j p * F a b 1 q + ph_A L N F a b 2 i j p * F a b 2 q))) i j p (fun t ht hto => by rw [ph_A, ih t ht hto t ht])]
  show _ = (ph_dl a b 0 i j p + ph_PF L N F a b 0 i j p) * F a b 0 q + ((ph_dl a b 1 i j p + ph_PF L N F a b 1 i j p) * F a b 1 q + (ph_dl a b 2 i j p + ph_PF L N F a b 2 i j p) * F a b 2 q)
  rw [ph_PF_eq L N F a b 0 i j p, ph_PF_eq L N F a b 1 i j p, ph_PF_eq L N F a b 2 i j p]
  exact ph_ring _ _ _ _ _ _ _ _ _ _ _ _ _ _ _ _ _ _ _ _ _ (ph_pull0 F a b q hq ho i j p hp)
/-! the weights of beginnings: from the first cell -/
def ph_ah (L N : Nat) (F : Nat → Nat → Nat → Nat → Int64) (a b c : Nat) : Int64 := ph_A L N F a b c 0 0 0
theorem ph_ah_pull {L N : Nat} (F : Nat → Nat → Nat → Nat → Int64) (a b q : Nat) (hq : q < 3) (ho : ph_ok L N a b q = true) :
    ph_ah L N F (ph_la a q) (ph_ca b q) q = ph_ah L N F a b 0 * F a b 0 q + (ph_ah L N F a b 1 * F a b 1 q + ph_ah L N F a b 2 * F a b 2 q) := by
  unfold ph_ah
  have h := ph_lc a b q
  rw [← ph_pull F a b q hq ho 0 0 0 (by omega), ph_A, ph_dl_0 (by omega), Int64.zero_add]
theorem ph_ah_none {L N : Nat} (F : Nat → Nat → Nat → Nat → Int64) (a b c : Nat) (hn : ∀ i j, ¬ (ph_la i c = a ∧ ph_ca j c = b)) : ph_ah L N F a b c = ph_dl a b c 0 0 0 := by
  unfold ph_ah
  rw [ph_A, ph_PF_none F a b c hn, Int64.add_zero]
/-! targets: T 0, .., T (n - 1) -/
def ph_sm (f : Nat → Int64) : Nat → Int64
  | 0 => 0
  | n + 1 => ph_sm f n + f n
theorem ph_sm_0 {f : Nat → Int64} : ∀ n, (∀ k, k < n → f k = 0) → ph_sm f n = 0 := by
  intro n
  induction n with
  | zero => intro _; rfl
  | succ n ih => intro h; rw [ph_sm, ih fun k hk => h k (by omega), h n (by omega), Int64.add_zero]
theorem ph_sm_1 {f : Nat → Int64} (m : Nat) : ∀ n, m < n → (∀ k, k < n → k ≠ m → f k = 0) → ph_sm f n = f m := by
  intro n
  induction n with
  | zero => intro h; omega
  | succ n ih =>
    intro h hz
    rw [ph_sm]
    by_cases e : m = n
    · subst e
      rw [ph_sm_0 m fun k hk => hz k (by omega) (by omega), Int64.zero_add]
    · rw [ih (by omega) fun k hk he => hz k (by omega) he, hz n (by omega) (by omega), Int64.add_zero]
theorem ph_sm_congr {f g : Nat → Int64} : ∀ n, (∀ k, k < n → f k = g k) → ph_sm f n = ph_sm g n := by
  intro n
  induction n with
  | zero => intro _; rfl
  | succ n ih => intro h; rw [ph_sm, ph_sm, ih fun k hk => h k (by omega), h n (by omega)]
theorem ph_sm_lin (g0 g1 g2 : Int64) (f0 f1 f2 : Nat → Int64) (n : Nat) : ph_sm (fun k => g0 * f0 k + (g1 * f1 k + g2 * f2 k)) n = g0 * ph_sm f0 n + (g1 * ph_sm f1 n + g2 * ph_sm f2 n) := by
  induction n with
  | zero => simp only [ph_sm, Int64.mul_zero, Int64.add_zero]
  | succ n ih => simp only [ph_sm, ih]; grind
/-- marked ways by their marked cell, where no way has two -/
theorem ph_H_T {L N : Nat} (F : Nat → Nat → Nat → Nat → Int64) (M : Nat → Nat → Nat → Bool) (a b c : Nat → Nat) (n : Nat)
    (h1 : ∀ i j p, i ≤ N → j ≤ L → p < 3 → M i j p = true → ∃ m, m < n ∧ i = a m ∧ j = b m ∧ p = c m ∧ ∀ k, k < n → k ≠ m → ¬ (a k = a m ∧ b k = b m ∧ c k = c m))
    (h2 : ∀ k, k < n → M (a k) (b k) (c k) = true)
    (h3 : ∀ i j p k, M i j p = true → k < n → ph_PF L N F (a k) (b k) (c k) i j p = 0) (i j : Nat) :
    ∀ p, ph_H L N F M i j p = ph_sm (fun k => ph_PF L N F (a k) (b k) (c k) i j p * ph_B L N F (a k) (b k) (c k)) n := by
  refine ph_ind (L := L) (N := N) (fun i j => ∀ p, ph_H L N F M i j p = ph_sm (fun k => ph_PF L N F (a k) (b k) (c k) i j p * ph_B L N F (a k) (b k) (c k)) n) ?_ i j
  intro i j ih p
  rw [ph_H_eq]
  have e : ∀ k, ph_PF L N F (a k) (b k) (c k) i j p * ph_B L N F (a k) (b k) (c k) =
      ph_g L N F i j p 0 * (ph_A L N F (a k) (b k) (c k) (i + 1) (j + 1) 0 * ph_B L N F (a k) (b k) (c k)) + (ph_g L N F i j p 1 * (ph_A L N F (a k) (b k) (c k) (i + 1) j 1 * ph_B L N F (a k) (b k) (c k)) + ph_g L N F i j p 2 * (ph_A L N F (a k) (b k) (c k) i (j + 1) 2 * ph_B L N F (a k) (b k) (c k))) := by
    intro k
    rw [ph_PF_eq]
    grind
  rw [show (fun k => ph_PF L N F (a k) (b k) (c k) i j p * ph_B L N F (a k) (b k) (c k)) = _ from funext e, ph_sm_lin]
  refine ph_step3 F (X := ph_G L N F M) (Y := fun i j p => ph_sm (fun k => ph_A L N F (a k) (b k) (c k) i j p * ph_B L N F (a k) (b k) (c k)) n) i j p fun q hq ho => ?_
  have ho' := ph_ok_iff.mp ho
  show ph_G L N F M (ph_la i q) (ph_ca j q) q = ph_sm (fun k => ph_A L N F (a k) (b k) (c k) (ph_la i q) (ph_ca j q) q * ph_B L N F (a k) (b k) (c k)) n
  unfold ph_G
  split
  · next hM =>
    obtain ⟨m, hm, e1, e2, e3, hu⟩ := h1 _ _ _ ho'.1 ho'.2 hq hM
    rw [ph_sm_1 m n hm]
    · show _ = ph_A L N F (a m) (b m) (c m) (ph_la i q) (ph_ca j q) q * _
      rw [ph_A, h3 _ _ _ m hM hm, ← e1, ← e2, ← e3, Int64.add_zero]
      rw [ph_dl, if_pos ⟨rfl, rfl, rfl⟩, Int64.one_mul]
    · intro k hk hkm
      show ph_A L N F (a k) (b k) (c k) (ph_la i q) (ph_ca j q) q * _ = 0
      rw [ph_A, h3 _ _ _ k hM hk, ph_dl_0, Int64.add_zero, Int64.zero_mul]
      rw [e1, e2]
      rintro ⟨z1, z2, z3⟩
      exact hu k hk hkm ⟨z1.symm, z2.symm, by rw [← z3, e3]⟩
  · next hM =>
    rw [ih q hq ho q]
    refine ph_sm_congr n fun k hk => ?_
    show _ = ph_A L N F (a k) (b k) (c k) (ph_la i q) (ph_ca j q) q * _
    rw [ph_A, ph_dl_0, Int64.zero_add]
    rintro ⟨z1, z2, z3⟩
    exact hM (by rw [z1, z2, z3]; exact h2 k hk)
end
section
/-! scores: the greatest over a list of ways, and how many have it -/
def ph_sc (s : Nat → Nat → Nat → Nat → Nat) : Nat → Nat → Nat → List Nat → Nat
  | _, _, _, [] => 0
  | i, j, p, q :: w => s i j p q + ph_sc s (ph_la i q) (ph_ca j q) q w
theorem ph_sc_le {s : Nat → Nat → Nat → Nat → Nat} (hs : ∀ i j p q, s i j p q ≤ 18) : ∀ (w : List Nat) (i j p : Nat), ph_sc s i j p w ≤ 18 * w.length := by
  intro w
  induction w with
  | nil => intro i j p; exact Nat.zero_le _
  | cons q w ih =>
    intro i j p
    have h1 := hs i j p q
    have h2 := ih (ph_la i q) (ph_ca j q) q
    rw [ph_sc, List.length_cons]
    omega
theorem ph_sc_wy {s : Nat → Nat → Nat → Nat → Nat} (hs : ∀ i j p q, s i j p q ≤ 18) {L N i j : Nat} (hL : L ≤ 4) (hN : N ≤ 8) {w : List Nat} (hw : w ∈ ph_wy L N i j) (p : Nat) : ph_sc s i j p w ≤ 216 := by
  have h1 := ph_vw_len w i j (ph_vw_of i j w hw)
  have h2 := ph_sc_le hs w i j p
  omega
def ph_MN (f : List Nat → Int) (l : List (List Nat)) (x : Int32) : Prop :=
  (∀ w, w ∈ l → f w ≤ x.toInt) ∧ ∃ w, w ∈ l ∧ f w = x.toInt
def ph_MX (f : List Nat → Int) (l : List (List Nat)) (x : Int32) : Prop := (l = [] ∧ x = -1000000) ∨ ph_MN f l x
def ph_ct (f : List Nat → Int) (v : Int) (l : List (List Nat)) : Nat := l.countP (fun w => decide (f w = v))
theorem ph_low : (-1000000 : Int32).toInt = -1000000 := by decide
theorem ph_MN_uq {f : List Nat → Int} {l : List (List Nat)} {x y : Int32} (h1 : ph_MN f l x) (h2 : ph_MN f l y) : x = y := by
  obtain ⟨a, v, hv, ev⟩ := h1
  obtain ⟨b, w, hw, ew⟩ := h2
  have h3 := a w hw
  have h4 := b v hv
  exact Int32.toInt_inj.mp (by omega)
theorem ph_MX_lo {f : List Nat → Int} {l1 l2 : List (List Nat)} {x y : Int32} (h1 : ph_MX f l1 x) (h2 : ph_MN f l2 y) (hy : -1000000 < y.toInt) (hxy : y ≤ x) : ph_MX f (l1 ++ l2) x := by
  rw [Int32.le_iff_toInt_le] at hxy
  rcases h1 with ⟨_, rfl⟩ | ⟨ha, v, hv, ev⟩
  · rw [ph_low] at hxy; omega
  · refine Or.inr ⟨fun w hw => ?_, v, List.mem_append_left _ hv, ev⟩
    rcases List.mem_append.mp hw with h | h
    · exact ha w h
    · have := h2.1 w h; omega
theorem ph_MX_hi {f : List Nat → Int} {l1 l2 : List (List Nat)} {x y : Int32} (h1 : ph_MX f l1 x) (h2 : ph_MN f l2 y) (hxy : ¬ y ≤ x) : ph_MX f (l1 ++ l2) y := by
  rw [Int32.le_iff_toInt_le] at hxy
  obtain ⟨hb, v, hv, ev⟩ := h2
  refine Or.inr ⟨fun w hw => ?_, v, List.mem_append_right _ hv, ev⟩
  rcases List.mem_append.mp hw with h | h
  · rcases h1 with ⟨rfl, _⟩ | ⟨ha, _⟩
    · cases h
    · have := ha w h; omega
  · exact hb w h
theorem ph_ct_app (f : List Nat → Int) (v : Int) (l1 l2 : List (List Nat)) : ph_ct f v (l1 ++ l2) = ph_ct f v l1 + ph_ct f v l2 := List.countP_append
theorem ph_ct_0 {f : List Nat → Int} {v : Int} {l : List (List Nat)} (h : ∀ w, w ∈ l → f w < v) : ph_ct f v l = 0 := by
  unfold ph_ct
  rw [List.countP_eq_zero]
  intro w hw
  have := h w hw
  simp only [decide_eq_true_eq]
  omega
theorem ph_ct_map {f g : List Nat → Int} {q : Nat} {c : Int} (h : ∀ w, g (q :: w) = c + f w) (v : Int) (l : List (List Nat)) : ph_ct g (c + v) (l.map (List.cons q)) = ph_ct f v l := by
  unfold ph_ct
  rw [List.countP_map]
  congr 1
  funext w
  show decide (g (q :: w) = c + v) = decide (f w = v)
  rw [h w]
  have : (c + f w = c + v) ↔ (f w = v) := by omega
  simp only [this]
theorem ph_MN_map {f g : List Nat → Int} {q : Nat} {c : Int} (h : ∀ w, g (q :: w) = c + f w) {l : List (List Nat)} {x y : Int32} (hx : ph_MN f l x) (e : y.toInt = c + x.toInt) : ph_MN g (l.map (List.cons q)) y := by
  obtain ⟨ha, v, hv, ev⟩ := hx
  refine ⟨fun w hw => ?_, q :: v, List.mem_map.mpr ⟨v, hv, rfl⟩, ?_⟩
  · obtain ⟨u, hu, rfl⟩ := List.mem_map.mp hw
    have := ha u hu
    rw [h u, e]; omega
  · rw [h v, e, ev]
/-! from every place within there is a way -/
def ph_f1 (L N i j : Nat) : List Nat :=
  if _h : i < N ∧ j < L then 0 :: ph_f1 L N (i + 1) (j + 1) else
  if _h : i < N then 1 :: ph_f1 L N (i + 1) j else
  if _h : j < L then 2 :: ph_f1 L N i (j + 1) else []
termination_by (N - i) + (L - j)
decreasing_by all_goals omega
theorem ph_wy_f1 {L N : Nat} (i j : Nat) : i ≤ N → j ≤ L → ∃ l, ph_wy L N i j = ph_f1 L N i j :: l := by
  refine ph_ind (L := L) (N := N) (fun i j => i ≤ N → j ≤ L → ∃ l, ph_wy L N i j = ph_f1 L N i j :: l) ?_ i j
  intro i j ih hi hj
  rw [ph_wy_eq, ph_f1]
  by_cases h0 : i < N ∧ j < L
  · rw [dif_pos h0]
    have ho : ph_ok L N i j 0 = true := ph_ok_iff.mpr ⟨h0.1, h0.2⟩
    obtain ⟨l, hl⟩ := ih 0 (by omega) ho h0.1 h0.2
    have he : ph_e L N i j = [] := if_neg (by omega)
    have hb : ph_br L N i j 0 = (ph_f1 L N (ph_la i 0) (ph_ca j 0) :: l).map (List.cons 0) := by rw [ph_br, if_pos ho, hl]
    rw [he, hb]
    exact ⟨_, rfl⟩
  · rw [dif_neg h0]
    have n0 : ph_br L N i j 0 = [] := if_neg (fun z => h0 (ph_ok_iff.mp z))
    by_cases h1 : i < N
    · rw [dif_pos h1]
      have ho : ph_ok L N i j 1 = true := ph_ok_iff.mpr ⟨h1, hj⟩
      obtain ⟨l, hl⟩ := ih 1 (by omega) ho h1 hj
      have he : ph_e L N i j = [] := if_neg (by omega)
      have hb : ph_br L N i j 1 = (ph_f1 L N (ph_la i 1) (ph_ca j 1) :: l).map (List.cons 1) := by rw [ph_br, if_pos ho, hl]
      rw [he, n0, hb]
      exact ⟨_, rfl⟩
    · rw [dif_neg h1]
      have n1 : ph_br L N i j 1 = [] := if_neg (fun z => h1 (ph_ok_iff.mp z).1)
      by_cases h2 : j < L
      · rw [dif_pos h2]
        have ho : ph_ok L N i j 2 = true := ph_ok_iff.mpr ⟨hi, h2⟩
        obtain ⟨l, hl⟩ := ih 2 (by omega) ho hi h2
        have he : ph_e L N i j = [] := if_neg (by omega)
        have hb : ph_br L N i j 2 = (ph_f1 L N (ph_la i 2) (ph_ca j 2) :: l).map (List.cons 2) := by rw [ph_br, if_pos ho, hl]
        rw [he, n0, n1, hb]
        exact ⟨_, rfl⟩
      · rw [dif_neg h2]
        have he : ph_e L N i j = [[]] := if_pos (by omega)
        rw [he]
        exact ⟨_, rfl⟩
theorem ph_MN_wy {f : List Nat → Int} {L N i j : Nat} (hi : i ≤ N) (hj : j ≤ L) {x : Int32} (h : ph_MX f (ph_wy L N i j) x) : ph_MN f (ph_wy L N i j) x := by
  rcases h with ⟨h1, _⟩ | h
  · obtain ⟨l, hl⟩ := ph_wy_f1 (L := L) (N := N) i j hi hj
    rw [hl] at h1; cases h1
  · exact h
/-! one kind more -/
/-- greatest score times g on from a cell, and how many ways have it -/
def ph_V (L N : Nat) (s : Nat → Nat → Nat → Nat → Nat) (g : Int) (i j p : Nat) (x t : Int32) : Prop :=
  ph_MN (fun w => g * (ph_sc s i j p w : Int)) (ph_wy L N i j) x ∧ t = nI (ph_ct (fun w => g * (ph_sc s i j p w : Int)) x.toInt (ph_wy L N i j))
/-- the same over the kinds below k -/
def ph_Vp (L N : Nat) (s : Nat → Nat → Nat → Nat → Nat) (g : Int) (i j p k : Nat) (x t : Int32) : Prop :=
  ph_MX (fun w => g * (ph_sc s i j p w : Int)) (ph_pt L N i j k) x ∧ t = nI (ph_ct (fun w => g * (ph_sc s i j p w : Int)) x.toInt (ph_pt L N i j k))
theorem ph_Vp_3 {L N : Nat} {s : Nat → Nat → Nat → Nat → Nat} {g : Int} {i j p : Nat} {x t : Int32} (hi : i ≤ N) (hj : j ≤ L) (h : ph_Vp L N s g i j p 3 x t) : ph_V L N s g i j p x t := by
  unfold ph_Vp at h
  rw [ph_pt_3] at h
  exact ⟨ph_MN_wy hi hj h.1, h.2⟩
theorem ph_Vp_0e {L N : Nat} {s : Nat → Nat → Nat → Nat → Nat} {g : Int} {i j p : Nat} (h : i = N ∧ j = L) : ph_Vp L N s g i j p 0 0 1 := by
  have e : ph_pt L N i j 0 = [[]] := if_pos h
  unfold ph_Vp
  rw [e]
  have z : g * ((ph_sc s i j p [] : Nat) : Int) = 0 := by show g * 0 = 0; exact Int.mul_zero g
  have z0 : (0 : Int32).toInt = 0 := by decide
  refine ⟨Or.inr ⟨fun w hw => ?_, [], List.mem_singleton.mpr rfl, ?_⟩, ?_⟩
  · rw [List.mem_singleton.mp hw]
    show g * ((ph_sc s i j p [] : Nat) : Int) ≤ _
    rw [z, z0]; exact Int.le_refl _
  · show g * ((ph_sc s i j p [] : Nat) : Int) = _
    rw [z, z0]
  · have : ph_ct (fun w => g * (ph_sc s i j p w : Int)) (0 : Int32).toInt [[]] = 1 := by
      unfold ph_ct
      rw [List.countP_cons, z0]
      simp [ph_sc]
    rw [this]; rfl
theorem ph_Vp_0n {L N : Nat} {s : Nat → Nat → Nat → Nat → Nat} {g : Int} {i j p : Nat} (h : ¬ (i = N ∧ j = L)) : ph_Vp L N s g i j p 0 (-1000000) 0 := by
  have e : ph_pt L N i j 0 = [] := if_neg h
  unfold ph_Vp
  rw [e]
  exact ⟨Or.inl ⟨rfl, rfl⟩, rfl⟩
theorem ph_Vp_no {L N : Nat} {s : Nat → Nat → Nat → Nat → Nat} {g : Int} {i j p k : Nat} {x t : Int32} (ho : ¬ ph_ok L N i j k = true) (h : ph_Vp L N s g i j p k x t) : ph_Vp L N s g i j p (k + 1) x t := by
  have e : ph_pt L N i j (k + 1) = ph_pt L N i j k := by
    show ph_pt L N i j k ++ ph_br L N i j k = _
    rw [ph_br, if_neg ho, List.append_nil]
  unfold ph_Vp
  rw [e]; exact h
theorem ph_V_br {L N : Nat} {s : Nat → Nat → Nat → Nat → Nat} {g : Int} {i j p k : Nat} {y y' u : Int32} (ho : ph_ok L N i j k = true) (hV : ph_V L N s g (ph_la i k) (ph_ca j k) k y' u) (e : y.toInt = g * (s i j p k : Int) + y'.toInt) :
    ph_MN (fun w => g * (ph_sc s i j p w : Int)) (ph_br L N i j k) y ∧ u = nI (ph_ct (fun w => g * (ph_sc s i j p w : Int)) y.toInt (ph_br L N i j k)) := by
  have hc : ∀ w, g * ((ph_sc s i j p (k :: w) : Nat) : Int) = g * (s i j p k : Int) + g * ((ph_sc s (ph_la i k) (ph_ca j k) k w : Nat) : Int) := by
    intro w
    rw [ph_sc, Int.natCast_add, Int.mul_add]
  have eb : ph_br L N i j k = (ph_wy L N (ph_la i k) (ph_ca j k)).map (List.cons k) := if_pos ho
  rw [eb]
  refine ⟨ph_MN_map (f := fun w => g * ((ph_sc s (ph_la i k) (ph_ca j k) k w : Nat) : Int)) hc hV.1 e, ?_⟩
  rw [e, ph_ct_map (f := fun w => g * ((ph_sc s (ph_la i k) (ph_ca j k) k w : Nat) : Int)) hc]
  exact hV.2
theorem ph_Vp_hi {L N : Nat} {s : Nat → Nat → Nat → Nat → Nat} {g : Int} {i j p k : Nat} {x t y y' u : Int32} (ho : ph_ok L N i j k = true) (h : ph_Vp L N s g i j p k x t) (hV : ph_V L N s g (ph_la i k) (ph_ca j k) k y' u) (e : y.toInt = g * (s i j p k : Int) + y'.toInt) (hxy : ¬ y ≤ x) :
    ph_Vp L N s g i j p (k + 1) y u := by
  obtain ⟨h1, h2⟩ := ph_V_br ho hV e
  refine ⟨ph_MX_hi h.1 h1 hxy, ?_⟩
  show u = nI (ph_ct _ _ (ph_pt L N i j k ++ ph_br L N i j k))
  rw [ph_ct_app, ph_ct_0 (l := ph_pt L N i j k), Nat.zero_add]
  · exact h2
  · intro w hw
    rw [Int32.le_iff_toInt_le] at hxy
    rcases h.1 with ⟨h3, _⟩ | h3
    · rw [h3] at hw; cases hw
    · have := h3.1 w hw
      show g * (ph_sc s i j p w : Int) < y.toInt
      have h4 : g * (ph_sc s i j p w : Int) ≤ x.toInt := this
      omega
theorem ph_Vp_eq {L N : Nat} {s : Nat → Nat → Nat → Nat → Nat} {g : Int} {i j p k : Nat} {x t y y' u : Int32} (ho : ph_ok L N i j k = true) (h : ph_Vp L N s g i j p k x t) (hV : ph_V L N s g (ph_la i k) (ph_ca j k) k y' u) (e : y.toInt = g * (s i j p k : Int) + y'.toInt) (hl : -1000000 < y.toInt) (hxy : y = x) :
    ph_Vp L N s g i j p (k + 1) x (t + u) := by
  obtain ⟨h1, h2⟩ := ph_V_br ho hV e
  subst hxy
  refine ⟨ph_MX_lo h.1 h1 hl (Int32.le_refl _), ?_⟩
  show t + u = nI (ph_ct _ _ (ph_pt L N i j k ++ ph_br L N i j k))
  rw [ph_ct_app, ← nI_add, ← h2, ← h.2]
theorem ph_Vp_lo {L N : Nat} {s : Nat → Nat → Nat → Nat → Nat} {g : Int} {i j p k : Nat} {x t y y' u : Int32} (ho : ph_ok L N i j k = true) (h : ph_Vp L N s g i j p k x t) (hV : ph_V L N s g (ph_la i k) (ph_ca j k) k y' u) (e : y.toInt = g * (s i j p k : Int) + y'.toInt) (hl : -1000000 < y.toInt) (hxy : y ≤ x) (hne : ¬ y = x) :
    ph_Vp L N s g i j p (k + 1) x t := by
  obtain ⟨h1, h2⟩ := ph_V_br ho hV e
  refine ⟨ph_MX_lo h.1 h1 hl hxy, ?_⟩
  show t = nI (ph_ct _ _ (ph_pt L N i j k ++ ph_br L N i j k))
  rw [ph_ct_app, ph_ct_0 (l := ph_br L N i j k), Nat.add_zero]
  · exact h.2
  · intro w hw
    have h3 : g * (ph_sc s i j p w : Int) ≤ y.toInt := h1.1 w hw
    rw [Int32.le_iff_toInt_le] at hxy
    have h4 : y.toInt ≠ x.toInt := fun z => hne (Int32.toInt_inj.mp z)
    show g * (ph_sc s i j p w : Int) < x.toInt
    omega
/-! by numbers of steps -/
def ph_fs (l : List (List Nat)) (k : Nat) : List (List Nat) := l.filter (fun w => decide (w.length = k))
theorem ph_fs_app (a b : List (List Nat)) (k : Nat) : ph_fs (a ++ b) k = ph_fs a k ++ ph_fs b k := List.filter_append ..
theorem ph_fs_map (q : Nat) (l : List (List Nat)) (k : Nat) : ph_fs (l.map (List.cons q)) (k + 1) = (ph_fs l k).map (List.cons q) := by
  induction l with
  | nil => rfl
  | cons w l ih =>
    unfold ph_fs at ih ⊢
    rw [List.map_cons, List.filter_cons, List.filter_cons, ih]
    by_cases h : w.length = k
    · rw [if_pos (by simp [h]), if_pos (by simp [h]), List.map_cons]
    · rw [if_neg (by simp [h]), if_neg (by simp [h])]
theorem ph_fs_map0 (q : Nat) (l : List (List Nat)) : ph_fs (l.map (List.cons q)) 0 = [] := by
  induction l with
  | nil => rfl
  | cons w l ih =>
    unfold ph_fs at ih ⊢
    rw [List.map_cons, List.filter_cons, ih, if_neg (by simp)]
theorem ph_mem_fs {l : List (List Nat)} {k : Nat} {w : List Nat} : w ∈ ph_fs l k ↔ w ∈ l ∧ w.length = k := by
  simp [ph_fs]
/-! the first way with the greatest score -/
def ph_fd (L N : Nat) (s : Nat → Nat → Nat → Nat → Nat) (i j p : Nat) (x : Int) : Option (List Nat) :=
  (ph_wy L N i j).find? (fun w => decide ((ph_sc s i j p w : Int) = x))
def ph_fbr (L N : Nat) (s : Nat → Nat → Nat → Nat → Nat) (i j p q : Nat) (x : Int) : Option (List Nat) :=
  (ph_br L N i j q).find? (fun w => decide ((ph_sc s i j p w : Int) = x))
theorem ph_fd_eq {L N : Nat} {s : Nat → Nat → Nat → Nat → Nat} {i j p : Nat} {x : Int} (he : ¬ (i = N ∧ j = L)) : ph_fd L N s i j p x = (ph_fbr L N s i j p 0 x).or ((ph_fbr L N s i j p 1 x).or (ph_fbr L N s i j p 2 x)) := by
  unfold ph_fd ph_fbr
  rw [ph_wy_eq, show ph_e L N i j = [] from if_neg he, List.nil_append, List.find?_append, List.find?_append]
theorem ph_fbr_none {L N : Nat} {s : Nat → Nat → Nat → Nat → Nat} {i j p q : Nat} {x : Int} {y : Int32} (h : ph_ok L N i j q = true → ph_MN (fun w => (ph_sc s (ph_la i q) (ph_ca j q) q w : Int)) (ph_wy L N (ph_la i q) (ph_ca j q)) y ∧ (s i j p q : Int) + y.toInt < x) : ph_fbr L N s i j p q x = none := by
  unfold ph_fbr
  rw [List.find?_eq_none]
  intro w hw
  obtain ⟨ho, v, hv, rfl⟩ := ph_mem_br.mp hw
  obtain ⟨h1, h2⟩ := h ho
  have h3 : ((ph_sc s (ph_la i q) (ph_ca j q) q v : Nat) : Int) ≤ y.toInt := h1.1 v hv
  rw [decide_eq_true_eq, ph_sc]
  omega
theorem ph_fbr_some {L N : Nat} {s : Nat → Nat → Nat → Nat → Nat} {i j p q : Nat} {x y : Int} (ho : ph_ok L N i j q = true) (e : (s i j p q : Int) + y = x) : ph_fbr L N s i j p q x = (ph_fd L N s (ph_la i q) (ph_ca j q) q y).map (List.cons q) := by
  unfold ph_fbr ph_fd
  rw [ph_br, if_pos ho, List.find?_map]
  congr 2
  funext w
  show decide (((s i j p q + ph_sc s (ph_la i q) (ph_ca j q) q w : Nat) : Int) = x) = decide ((ph_sc s (ph_la i q) (ph_ca j q) q w : Int) = y)
  have : (((s i j p q + ph_sc s (ph_la i q) (ph_ca j q) q w : Nat) : Int) = x) ↔ ((ph_sc s (ph_la i q) (ph_ca j q) q w : Int) = y) := by omega
  simp only [this]
theorem ph_fd_some {L N : Nat} {s : Nat → Nat → Nat → Nat → Nat} {i j p : Nat} {x : Int32} (h : ph_MN (fun w => (ph_sc s i j p w : Int)) (ph_wy L N i j) x) : ∃ w, ph_fd L N s i j p x.toInt = some w ∧ w ∈ ph_wy L N i j := by
  obtain ⟨_, v, hv, ev⟩ := h
  have h2 : (ph_fd L N s i j p x.toInt).isSome = true := by
    unfold ph_fd
    rw [List.find?_isSome]
    exact ⟨v, hv, by simpa using ev⟩
  obtain ⟨w, hw⟩ := Option.isSome_iff_exists.mp h2
  exact ⟨w, hw, List.mem_of_find?_eq_some hw⟩
end
section
/-! the reference goes over all ways: a way is kept as a stack, its last step on top -/
def ph_lt : List Nat → Nat
  | [] => 0
  | q :: p => ph_la (ph_lt p) q
def ph_cl : List Nat → Nat
  | [] => 0
  | q :: p => ph_ca (ph_cl p) q
def ph_fi (L N : Nat) (p : List Nat) : List Nat := (ph_f1 L N (ph_lt p) (ph_cl p)).reverse ++ p
def ph_al (L N : Nat) (p : List Nat) : List (List Nat) := (ph_wy L N (ph_lt p) (ph_cl p)).map (fun w => w.reverse ++ p)
def ph_nx (L N : Nat) : List Nat → Option (List Nat)
  | [] => none
  | k :: p =>
    if k < 1 ∧ ph_ok L N (ph_lt p) (ph_cl p) 1 = true then some (ph_fi L N (1 :: p))
    else if k < 2 ∧ ph_ok L N (ph_lt p) (ph_cl p) 2 = true then some (ph_fi L N (2 :: p))
    else ph_nx L N p
/-- each of the list is followed by the next one, the last by e -/
def ph_en (L N : Nat) : List (List Nat) → Option (List Nat) → Prop
  | [], _ => True
  | w :: l, e => ph_nx L N w = l.head?.or e ∧ ph_en L N l e
theorem ph_en_app {L N : Nat} (b : List (List Nat)) (e : Option (List Nat)) : ∀ a, ph_en L N a (b.head?.or e) → ph_en L N b e → ph_en L N (a ++ b) e := by
  intro a
  induction a with
  | nil => intro _ h; exact h
  | cons w l ih =>
    intro h1 h2
    refine ⟨?_, ih h1.2 h2⟩
    rw [h1.1]
    cases l with
    | nil => rfl
    | cons v l => rfl
theorem ph_al_br {L N : Nat} (p : List Nat) (q : Nat) : (ph_br L N (ph_lt p) (ph_cl p) q).map (fun w => w.reverse ++ p) = if ph_ok L N (ph_lt p) (ph_cl p) q = true then ph_al L N (q :: p) else [] := by
  unfold ph_br ph_al
  split
  · rw [List.map_map]
    show _ = (ph_wy L N (ph_la (ph_lt p) q) (ph_ca (ph_cl p) q)).map _
    congr 1
    funext w
    show (q :: w).reverse ++ p = w.reverse ++ (q :: p)
    rw [List.reverse_cons, List.append_assoc]; rfl
  · rfl
theorem ph_al_eq {L N : Nat} (p : List Nat) (he : ¬ (ph_lt p = N ∧ ph_cl p = L)) : ph_al L N p =
    (if ph_ok L N (ph_lt p) (ph_cl p) 0 = true then ph_al L N (0 :: p) else []) ++ ((if ph_ok L N (ph_lt p) (ph_cl p) 1 = true then ph_al L N (1 :: p) else []) ++ (if ph_ok L N (ph_lt p) (ph_cl p) 2 = true then ph_al L N (2 :: p) else [])) := by
  rw [← ph_al_br, ← ph_al_br, ← ph_al_br, ← List.map_append, ← List.map_append]
  unfold ph_al
  rw [ph_wy_eq, show ph_e L N (ph_lt p) (ph_cl p) = [] from if_neg he, List.nil_append]
theorem ph_al_head {L N : Nat} (p : List Nat) (h1 : ph_lt p ≤ N) (h2 : ph_cl p ≤ L) : (ph_al L N p).head? = some (ph_fi L N p) := by
  obtain ⟨l, hl⟩ := ph_wy_f1 (L := L) (N := N) _ _ h1 h2
  unfold ph_al ph_fi
  rw [hl]; rfl
theorem ph_hd_if {L N : Nat} (p : List Nat) (q : Nat) : (if ph_ok L N (ph_lt p) (ph_cl p) q = true then ph_al L N (q :: p) else []).head? = if ph_ok L N (ph_lt p) (ph_cl p) q = true then some (ph_fi L N (q :: p)) else none := by
  split
  · next h =>
    have h' := ph_ok_iff.mp h
    exact ph_al_head (q :: p) h'.1 h'.2
  · rfl
theorem ph_hd_app (a b : List (List Nat)) : (a ++ b).head? = a.head?.or b.head? := by
  cases a with
  | nil => rfl
  | cons w l => rfl
theorem ph_en_al {L N : Nat} : ∀ (d : Nat) (p : List Nat), (N - ph_lt p) + (L - ph_cl p) ≤ d → ph_lt p ≤ N → ph_cl p ≤ L → ph_en L N (ph_al L N p) (ph_nx L N p) := by
  intro d
  induction d with
  | zero =>
    intro p hd h1 h2
    have hw : ph_wy L N (ph_lt p) (ph_cl p) = [[]] := by
      rw [ph_wy_eq]
      have nb : ∀ q, ph_br L N (ph_lt p) (ph_cl p) q = [] := by
        intro q
        refine if_neg fun z => ?_
        have h3 := ph_ok_iff.mp z
        have h4 := ph_lc (ph_lt p) (ph_cl p) q
        omega
      rw [nb, nb, nb, show ph_e L N (ph_lt p) (ph_cl p) = [[]] from if_pos (by omega)]
      rfl
    unfold ph_al
    rw [hw]
    exact ⟨rfl, trivial⟩
  | succ d ih =>
    intro p hd h1 h2
    by_cases he : ph_lt p = N ∧ ph_cl p = L
    · have hw : ph_wy L N (ph_lt p) (ph_cl p) = [[]] := by
        rw [ph_wy_eq]
        have nb : ∀ q, ph_br L N (ph_lt p) (ph_cl p) q = [] := by
          intro q
          refine if_neg fun z => ?_
          have h3 := ph_ok_iff.mp z
          have h4 := ph_lc (ph_lt p) (ph_cl p) q
          omega
        rw [nb, nb, nb, show ph_e L N (ph_lt p) (ph_cl p) = [[]] from if_pos he]
        rfl
      unfold ph_al
      rw [hw]
      exact ⟨rfl, trivial⟩
    · rw [ph_al_eq p he]
      have K : ∀ q, ph_ok L N (ph_lt p) (ph_cl p) q = true → ph_en L N (ph_al L N (q :: p)) (ph_nx L N (q :: p)) := by
        intro q ho
        have h3 := ph_ok_iff.mp ho
        have h4 := ph_lc (ph_lt p) (ph_cl p) q
        have h5 := ph_la_le (ph_lt p) q
        have h6 := ph_ca_le (ph_cl p) q
        refine ih (q :: p) ?_ h3.1 h3.2
        show (N - ph_la (ph_lt p) q) + (L - ph_ca (ph_cl p) q) ≤ d
        omega
      have E : ∀ q e, (ph_ok L N (ph_lt p) (ph_cl p) q = true → ph_nx L N (q :: p) = e) → ph_en L N (if ph_ok L N (ph_lt p) (ph_cl p) q = true then ph_al L N (q :: p) else []) e := by
        intro q e h
        split
        · next ho => rw [← h ho]; exact K q ho
        · exact trivial
      refine ph_en_app _ _ _ (E 0 _ fun ho => ?_) (ph_en_app _ _ _ (E 1 _ fun ho => ?_) (E 2 _ fun ho => ?_))
      · rw [ph_hd_app, ph_hd_if, ph_hd_if]
        show (if (0 : Nat) < 1 ∧ _ then _ else _) = _
        by_cases o1 : ph_ok L N (ph_lt p) (ph_cl p) 1 = true
        · rw [if_pos ⟨by omega, o1⟩, if_pos o1]; rfl
        · rw [if_neg (fun z => o1 z.2), if_neg o1]
          by_cases o2 : ph_ok L N (ph_lt p) (ph_cl p) 2 = true
          · rw [if_pos ⟨by omega, o2⟩, if_pos o2]; rfl
          · rw [if_neg (fun z => o2 z.2), if_neg o2]; rfl
      · rw [ph_hd_if]
        show (if (1 : Nat) < 1 ∧ _ then _ else _) = _
        rw [if_neg (fun z => by omega)]
        by_cases o2 : ph_ok L N (ph_lt p) (ph_cl p) 2 = true
        · rw [if_pos ⟨by omega, o2⟩, if_pos o2]; rfl
        · rw [if_neg (fun z => o2 z.2), if_neg o2]; rfl
      · show (if (2 : Nat) < 1 ∧ _ then _ else _) = _
        rw [if_neg (fun z => by omega), if_neg (fun z => by omega)]
/-! stacks within -/
def ph_vs (L N : Nat) : List Nat → Prop
  | [] => True
  | q :: p => q < 3 ∧ ph_la (ph_lt p) q ≤ N ∧ ph_ca (ph_cl p) q ≤ L ∧ ph_vs L N p
theorem ph_vs_b {L N : Nat} : ∀ p, ph_vs L N p → ph_lt p ≤ N ∧ ph_cl p ≤ L ∧ p.length ≤ ph_lt p + ph_cl p := by
  intro p
  induction p with
  | nil => intro _; exact ⟨Nat.zero_le _, Nat.zero_le _, Nat.le_refl _⟩
  | cons q p ih =>
    intro h
    obtain ⟨_, h1, h2, h3⟩ := h
    have h4 := ih h3
    have h5 := ph_lc (ph_lt p) (ph_cl p) q
    refine ⟨h1, h2, ?_⟩
    show p.length + 1 ≤ ph_la (ph_lt p) q + ph_ca (ph_cl p) q
    omega
theorem ph_vs_rev {L N : Nat} : ∀ (w p : List Nat), ph_vs L N p → ph_vw L N (ph_lt p) (ph_cl p) w → ph_vs L N (w.reverse ++ p) ∧ ph_lt (w.reverse ++ p) = N ∧ ph_cl (w.reverse ++ p) = L := by
  intro w
  induction w with
  | nil => intro p hp h; exact ⟨hp, h⟩
  | cons q w ih =>
    intro p hp h
    obtain ⟨h0, h1, h2, h3⟩ := h
    rw [List.reverse_cons, List.append_assoc]
    exact ih (q :: p) ⟨h0, h1, h2, hp⟩ h3
/-- a full way, as a stack -/
def ph_gd (L N : Nat) (p : List Nat) : Prop := ph_vs L N p ∧ ph_lt p = N ∧ ph_cl p = L ∧ ph_vw L N 0 0 p.reverse
theorem ph_gd_of {L N : Nat} {w : List Nat} (h : ph_vw L N 0 0 w) : ph_gd L N w.reverse := by
  obtain ⟨h1, h2, h3⟩ := ph_vs_rev w [] trivial h
  rw [List.append_nil] at h1 h2 h3
  exact ⟨h1, h2, h3, by rw [List.reverse_reverse]; exact h⟩
/-- all full ways, as stacks -/
def ph_all (L N : Nat) : List (List Nat) := (ph_wy L N 0 0).map List.reverse
theorem ph_all_al (L N : Nat) : ph_al L N [] = ph_all L N := by
  unfold ph_al ph_all
  congr 1
  funext w
  exact List.append_nil _
theorem ph_all_gd {L N : Nat} : ∀ p, p ∈ ph_all L N → ph_gd L N p := by
  intro p hp
  obtain ⟨w, hw, rfl⟩ := List.mem_map.mp hp
  exact ph_gd_of (ph_vw_of 0 0 w hw)
theorem ph_all_en (L N : Nat) : ph_en L N (ph_all L N) none := by
  rw [← ph_all_al]
  exact ph_en_al _ [] (Nat.le_refl _) (Nat.zero_le _) (Nat.zero_le _)
theorem ph_all_hd (L N : Nat) : ∃ l, ph_all L N = ph_fi L N [] :: l := by
  have h := ph_al_head (L := L) (N := N) [] (Nat.zero_le _) (Nat.zero_le _)
  rw [ph_all_al] at h
  cases e : ph_all L N with
  | nil => rw [e] at h; cases h
  | cons p l =>
    rw [e] at h
    cases h
    exact ⟨l, rfl⟩
theorem ph_fi_eq0 {L N : Nat} {p : List Nat} (h : ph_lt p < N ∧ ph_cl p < L) : ph_fi L N p = ph_fi L N (0 :: p) := by
  unfold ph_fi
  rw [ph_f1, dif_pos h, List.reverse_cons, List.append_assoc]; rfl
theorem ph_fi_eq1 {L N : Nat} {p : List Nat} (h0 : ¬ (ph_lt p < N ∧ ph_cl p < L)) (h : ph_lt p < N) : ph_fi L N p = ph_fi L N (1 :: p) := by
  unfold ph_fi
  rw [ph_f1, dif_neg h0, dif_pos h, List.reverse_cons, List.append_assoc]; rfl
theorem ph_fi_eq2 {L N : Nat} {p : List Nat} (h : ¬ ph_lt p < N) (h2 : ph_cl p < L) : ph_fi L N p = ph_fi L N (2 :: p) := by
  unfold ph_fi
  rw [ph_f1, dif_neg (fun z => h z.1), dif_neg h, dif_pos h2, List.reverse_cons, List.append_assoc]; rfl
theorem ph_fi_end {L N : Nat} {p : List Nat} (h : ¬ ph_lt p < N) (h2 : ¬ ph_cl p < L) : ph_fi L N p = p := by
  unfold ph_fi
  rw [ph_f1, dif_neg (fun z => h z.1), dif_neg h, dif_neg h2]; rfl
/-! the array of steps holds a stack -/
def ph_st (st : Nat → Int32) : List Nat → Prop
  | [] => True
  | q :: p => st p.length = nI q ∧ ph_st st p
def ph_fw (st : Nat → Int32) : Nat → List Nat → Prop
  | _, [] => True
  | s, q :: w => st s = nI q ∧ ph_fw st (s + 1) w
theorem ph_st_upd {st : Nat → Int32} {k : Nat} {x : Int32} : ∀ p : List Nat, p.length ≤ k → ph_st st p → ph_st (upd st k x) p := by
  intro p
  induction p with
  | nil => intro _ _; trivial
  | cons q p ih =>
    intro hk h
    rw [List.length_cons] at hk
    exact ⟨by rw [pk_un (by omega)]; exact h.1, ih (by omega) h.2⟩
theorem ph_st_push {st : Nat → Int32} {p : List Nat} (q : Nat) (h : ph_st st p) : ph_st (upd st p.length (nI q)) (q :: p) :=
  ⟨pk_us, ph_st_upd p (Nat.le_refl _) h⟩
theorem ph_fw_of {st : Nat → Int32} : ∀ (p w : List Nat), ph_st st p → ph_fw st p.length w → ph_fw st 0 (p.reverse ++ w) := by
  intro p
  induction p with
  | nil => intro w _ h; exact h
  | cons q p ih =>
    intro w h1 h2
    rw [List.reverse_cons, List.append_assoc]
    exact ih (q :: w) h1.2 ⟨h1.1, h2⟩
theorem ph_fw_0 {st : Nat → Int32} {p : List Nat} (h : ph_st st p) : ph_fw st 0 p.reverse := by
  have h2 := ph_fw_of p [] h trivial
  rw [List.append_nil] at h2
  exact h2
end
section
/-! the reference's small methods -/
section
variable {L N : Nat} {lk ps wd : Nat → Int32}
theorem yw_take {post : SY → Prop} {cL cN : Int32} {st : Nat → Int32} {sz c l q : Nat} (hs : sz < 12)
    (h : post (cL, cN, nI (sz + 1), nI (ph_ca c q), nI (ph_la l q), lk, ps, wd, upd st sz (nI q))) (hq : q < 3) :
    wpY_take post (cL, cN, nI sz, nI c, nI l, lk, ps, wd, st) (nI q) := by
  unfold wpY_take
  dsimp only
  refine ⟨vp_in_nI hs (by omega), nm_r (e' := upd st sz (nI q)) (by rw [nI_clamp (by omega)]) (nm_r (e' := nI (sz + 1)) (nI_1 sz) ?_)⟩
  have K : ∀ z, z = nI (ph_ca c q) → wY_take_39 post (nI q) z cL cN (nI (sz + 1)) (nI c) (nI l) lk ps wd (upd st sz (nI q)) := by
    rintro z rfl
    refine pk_eq q 2 (fun e => ?_) (fun e => nm_r (e' := nI (l + 1)) (nI_1 l) ?_)
    · rw [ph_la, if_pos e] at h; exact h
    · rw [ph_la, if_neg e] at h; exact h
  exact pk_eq q 1 (fun e => K _ (by rw [ph_ca, if_pos e])) (fun e => K _ (by rw [ph_ca, if_neg e, nI_1]))
theorem yw_may {post : Int32 → Prop} {sz : Int32} {st : Nat → Int32} {c l q : Nat} (hL : L ≤ 4) (hN : N ≤ 8) (hc : c ≤ L) (hl : l ≤ N) (hq : q < 3)
    (h1 : ph_ok L N l c q = true → post 1) (h0 : ¬ ph_ok L N l c q = true → post 0) : wpY_mayTake post (nI L, nI N, sz, nI c, nI l, lk, ps, wd, st) (nI q) := by
  unfold wpY_mayTake
  dsimp only
  rw [ph_ok_iff] at h1 h0
  have K : ph_ca c q ≤ L → wY_mayTake_16 post (nI q) (nI L) (nI N) sz (nI c) (nI l) lk ps wd st := by
    intro hk
    refine pk_eq q 2 (fun e => h1 ⟨by subst e; exact hl, hk⟩) (fun e => pk_le N l (fun z => h0 ?_) (fun z => h1 ?_))
    · rw [ph_la, if_neg e]; omega
    · rw [ph_la, if_neg e]; exact ⟨z, hk⟩
  refine pk_eq q 1 (fun e => K (by rw [ph_ca, if_pos e]; exact hc)) (fun e => pk_le L c (fun z => h0 ?_) (fun z => K ?_))
  · rw [ph_ca, if_neg e]; omega
  · rw [ph_ca, if_neg e]; exact z
theorem yw_fill0 {post : SY → Prop} (hL : L ≤ 4) (hN : N ≤ 8) : ∀ (n : Nat) (p : List Nat) (st : Nat → Int32), ph_vs L N p → (N - ph_lt p) + (L - ph_cl p) < n → ph_st st p →
    (∀ st', ph_st st' (ph_fi L N p) → post (nI L, nI N, nI (ph_fi L N p).length, nI L, nI N, lk, ps, wd, st')) →
    wY_fill_0 post n (nI L) (nI N) (nI p.length) (nI (ph_cl p)) (nI (ph_lt p)) lk ps wd st := by
  intro n
  induction n with
  | zero => intro p st _ h; omega
  | succ n ih =>
    intro p st hv hn hs hp
    obtain ⟨b1, b2, b3⟩ := ph_vs_b p hv
    have T : ∀ q, q < 3 → ph_ok L N (ph_lt p) (ph_cl p) q = true → ph_fi L N p = ph_fi L N (q :: p) → wY_fill_47 post (wY_fill_0 post n) (nI q) (nI L) (nI N) (nI p.length) (nI (ph_cl p)) (nI (ph_lt p)) lk ps wd st := by
      intro q hq ho e
      have ho' := ph_ok_iff.mp ho
      have lc := ph_lc (ph_lt p) (ph_cl p) q
      have l1 := ph_la_le (ph_lt p) q
      have l2 := ph_ca_le (ph_cl p) q
      have hm : (N - ph_lt (q :: p)) + (L - ph_cl (q :: p)) < n := by
        show (N - ph_la (ph_lt p) q) + (L - ph_ca (ph_cl p) q) < n
        omega
      have hI := ih (q :: p) (upd st p.length (nI q)) ⟨hq, ho'.1, ho'.2, hv⟩ hm (ph_st_push q hs) (by rw [← e]; exact hp)
      unfold wY_fill_47
      exact yw_take (by omega) hI hq
    have U : ph_lt p < N ∨ ph_cl p < L → wY_fill_22 post (wY_fill_0 post n) (nI L) (nI N) (nI p.length) (nI (ph_cl p)) (nI (ph_lt p)) lk ps wd st := by
      intro hx
      unfold wY_fill_22
      refine yw_may (q := 0) hL hN b2 b1 (by omega) (fun o => br_f (by decide) (T 0 (by omega) o (ph_fi_eq0 (ph_ok_iff.mp o)))) (fun o => br_t rfl ?_)
      have o' : ¬ (ph_lt p < N ∧ ph_cl p < L) := fun z => o (ph_ok_iff.mpr z)
      refine yw_may (q := 1) hL hN b2 b1 (by omega) (fun o1 => br_f (by decide) (T 1 (by omega) o1 (ph_fi_eq1 o' (ph_ok_iff.mp o1).1))) (fun o1 => br_t rfl ?_)
      have o2 : ¬ ph_lt p < N := fun z => o1 (ph_ok_iff.mpr ⟨z, b2⟩)
      have o3 : ph_cl p < L := by omega
      exact T 2 (by omega) (ph_ok_iff.mpr ⟨b1, o3⟩) (ph_fi_eq2 o2 o3)
    refine pk_lt (ph_cl p) L (fun z => U (Or.inr z)) (fun z => pk_le N (ph_lt p) (fun y => ?_) (fun y => U (Or.inl y)))
    have e := ph_fi_end (L := L) (N := N) (p := p) (by omega) (by omega)
    rw [e] at hp
    have e1 : ph_lt p = N := by omega
    have e2 : ph_cl p = L := by omega
    rw [e1, e2]
    exact hp st hs
theorem yw_fill {post : SY → Prop} (hL : L ≤ 4) (hN : N ≤ 8) (p : List Nat) (st : Nat → Int32) (hv : ph_vs L N p) (hs : ph_st st p)
    (h : ∀ st', ph_st st' (ph_fi L N p) → post (nI L, nI N, nI (ph_fi L N p).length, nI L, nI N, lk, ps, wd, st')) :
    wpY_fill post (nI L, nI N, nI p.length, nI (ph_cl p), nI (ph_lt p), lk, ps, wd, st) :=
  ⟨_, yw_fill0 hL hN _ p st hv (Nat.lt_succ_self _) hs h⟩
theorem yw_first {post : SY → Prop} (hL : L ≤ 4) (hN : N ≤ 8) {sz c l : Int32} {st : Nat → Int32}
    (h : ∀ st', ph_st st' (ph_fi L N []) → post (nI L, nI N, nI (ph_fi L N []).length, nI L, nI N, lk, ps, wd, st')) :
    wpY_firstWay post (nI L, nI N, sz, c, l, lk, ps, wd, st) := by
  unfold wpY_firstWay
  dsimp only
  exact yw_fill hL hN [] st trivial trivial h
theorem yw_75 {post : Int32 → SY → Prop} {J0 : Int32 → Int32 → Int32 → Prop} {st : Nat → Int32} (hL : L ≤ 4) (hN : N ≤ 8) (p : List Nat) (hv : ph_vs L N p) (hs : ph_st st p) : ∀ (n k : Nat), k ≤ 3 → 3 < n + k →
    (∀ r st', k ≤ r → r < 3 → ph_ok L N (ph_lt p) (ph_cl p) r = true → (∀ r', k ≤ r' → r' < r → ¬ ph_ok L N (ph_lt p) (ph_cl p) r' = true) → ph_st st' (ph_fi L N (r :: p)) → post 1 (nI L, nI N, nI (ph_fi L N (r :: p)).length, nI L, nI N, lk, ps, wd, st')) →
    ((∀ r, k ≤ r → r < 3 → ¬ ph_ok L N (ph_lt p) (ph_cl p) r = true) → J0 (nI p.length) (nI (ph_cl p)) (nI (ph_lt p))) →
    wY_nextWay_75 post J0 (nI L) (nI N) (nI p.length) (nI (ph_cl p)) (nI (ph_lt p)) lk ps wd st n (nI k) := by
  intro n
  obtain ⟨b1, b2, b3⟩ := ph_vs_b p hv
  induction n with
  | zero => intro k h1 h2; omega
  | succ n ih =>
    intro k hk hn h1 h0
    refine pk_le 3 k (fun z => h0 fun r h2 h3 => by omega) (fun z => ?_)
    refine yw_may (q := k) hL hN b2 b1 z (fun o => br_f (by decide) ?_) (fun o => br_t rfl ?_)
    · have ho := ph_ok_iff.mp o
      have lc := ph_lc (ph_lt p) (ph_cl p) k
      have hI : ∀ po : SY → Prop, (∀ st', ph_st st' (ph_fi L N (k :: p)) → po (nI L, nI N, nI (ph_fi L N (k :: p)).length, nI L, nI N, lk, ps, wd, st')) → wpY_fill po (nI L, nI N, nI (p.length + 1), nI (ph_ca (ph_cl p) k), nI (ph_la (ph_lt p) k), lk, ps, wd, upd st p.length (nI k)) :=
        fun po hpo => yw_fill hL hN (k :: p) (upd st p.length (nI k)) ⟨z, ho.1, ho.2, hv⟩ (ph_st_push k hs) hpo
      refine yw_take (by omega) ?_ z
      refine hI _ fun st' hst => ?_
      exact h1 k st' (Nat.le_refl _) z o (fun r' a b => by omega) hst
    · refine nm_r (e' := nI (k + 1)) (nI_1 k) (ih (k + 1) (by omega) (by omega) (fun r st' a b c d e => h1 r st' (by omega) b c (fun r' x y => ?_) e) (fun hno => h0 fun r a b => ?_))
      · by_cases hr : r' = k
        · rw [hr]; exact o
        · exact d r' (by omega) y
      · by_cases hr : r = k
        · rw [hr]; exact o
        · exact hno r (by omega) b
theorem yw_nx0 {post : Int32 → SY → Prop} {st : Nat → Int32} (hL : L ≤ 4) (hN : N ≤ 8) : ∀ (p : List Nat) (n : Nat), ph_vs L N p → p.length < n → ph_st st p →
    (∀ p' st', ph_nx L N p = some p' → ph_st st' p' → post 1 (nI L, nI N, nI p'.length, nI L, nI N, lk, ps, wd, st')) →
    (ph_nx L N p = none → post 0 (nI L, nI N, 0, 0, 0, lk, ps, wd, st)) →
    wY_nextWay_0 post (nI L) (nI N) lk ps wd st n (nI p.length) (nI (ph_cl p)) (nI (ph_lt p)) := by
  intro p
  induction p with
  | nil =>
    intro n _ hn _ _ h0
    obtain ⟨m, rfl⟩ : ∃ m, n = m + 1 := ⟨n - 1, by simp only [List.length_nil] at hn; omega⟩
    exact br_t (by decide) (h0 rfl)
  | cons k p ih =>
    intro n hv hn hs h1 h0
    rw [List.length_cons] at hn
    obtain ⟨hk, hv1, hv2, hv'⟩ := hv
    obtain ⟨b1, b2, b3⟩ := ph_vs_b p hv'
    have lc := ph_lc (ph_lt p) (ph_cl p) k
    obtain ⟨m, rfl⟩ : ∃ m, n = m + 1 := ⟨n - 1, by omega⟩
    have K75 : ∃ n75, wY_nextWay_75 post (wY_nextWay_0 post (nI L) (nI N) lk ps wd st m) (nI L) (nI N) (nI p.length) (nI (ph_cl p)) (nI (ph_lt p)) lk ps wd st n75 (nI (k + 1)) := by
      refine ⟨4, yw_75 hL hN p hv' hs.2 4 (k + 1) (by omega) (by omega) ?_ ?_⟩
      · intro r st' hr1 hr2 ho hno hst
        refine h1 _ st' ?_ hst
        show (if k < 1 ∧ ph_ok L N (ph_lt p) (ph_cl p) 1 = true then some (ph_fi L N (1 :: p)) else if k < 2 ∧ ph_ok L N (ph_lt p) (ph_cl p) 2 = true then some (ph_fi L N (2 :: p)) else ph_nx L N p) = _
        have : r = 1 ∨ r = 2 := by omega
        rcases this with rfl | rfl
        · rw [if_pos ⟨by omega, ho⟩]
        · have hh : ¬ (k < 1 ∧ ph_ok L N (ph_lt p) (ph_cl p) 1 = true) := fun z => hno 1 (by omega) (by omega) z.2
          rw [if_neg hh, if_pos ⟨by omega, ho⟩]
      · intro hno
        have e : ph_nx L N (k :: p) = ph_nx L N p := by
          show (if k < 1 ∧ ph_ok L N (ph_lt p) (ph_cl p) 1 = true then some (ph_fi L N (1 :: p)) else if k < 2 ∧ ph_ok L N (ph_lt p) (ph_cl p) 2 = true then some (ph_fi L N (2 :: p)) else ph_nx L N p) = _
          have e1 : ¬ (k < 1 ∧ ph_ok L N (ph_lt p) (ph_cl p) 1 = true) := fun z => hno 1 (by omega) (by omega) z.2
          have e2 : ¬ (k < 2 ∧ ph_ok L N (ph_lt p) (ph_cl p) 2 = true) := fun z => hno 2 (by omega) (by omega) z.2
          rw [if_neg e1, if_neg e2]
        rw [e] at h1 h0
        exact ih m hv' (by omega) hs.2 h1 h0
    have K46 : ∀ z, z = nI (ph_cl p) → wY_nextWay_46 post (wY_nextWay_0 post (nI L) (nI N) lk ps wd st m) (nI k) z (nI L) (nI N) (nI p.length) (nI (ph_cl (k :: p))) (nI (ph_lt (k :: p))) lk ps wd st := by
      rintro z rfl
      refine pk_eq k 2 (fun e => nm_r (e' := nI (k + 1)) (nI_1 k) ?_) (fun e => nm_r (e' := nI (ph_lt p)) ?_ (nm_r (e' := nI (k + 1)) (nI_1 k) K75))
      · have e3 : ph_lt (k :: p) = ph_lt p := by
          show ph_la (ph_lt p) k = _
          rw [ph_la, if_pos e]
        rw [e3]; exact K75
      · show nI (ph_la (ph_lt p) k) - 1 = _
        rw [ph_la, if_neg e, nI_pred]
    have hle : p.length + 1 ≤ 12 := by omega
    refine br_f (nI_nle (by rw [List.length_cons]; omega) (by rw [List.length_cons]; omega)) (nm_r (e' := nI p.length) (nI_pred _) ⟨vp_in_nI (by omega) (by omega), nm_r (e' := nI k) (by rw [nI_clamp (by omega)]; exact hs.1) ?_⟩)
    refine pk_eq k 1 (fun e => K46 _ ?_) (fun e => K46 _ ?_)
    · show nI (ph_ca (ph_cl p) k) = _
      rw [ph_ca, if_pos e]
    · show nI (ph_ca (ph_cl p) k) - 1 = _
      rw [ph_ca, if_neg e, nI_pred]
/-- the next way, from a full one -/
theorem yw_next {post : Int32 → SY → Prop} {st : Nat → Int32} (hL : L ≤ 4) (hN : N ≤ 8) (p : List Nat) (hg : ph_gd L N p) (hs : ph_st st p)
    (h1 : ∀ p' st', ph_nx L N p = some p' → ph_st st' p' → post 1 (nI L, nI N, nI p'.length, nI L, nI N, lk, ps, wd, st'))
    (h0 : ph_nx L N p = none → post 0 (nI L, nI N, 0, 0, 0, lk, ps, wd, st)) :
    wpY_nextWay post (nI L, nI N, nI p.length, nI L, nI N, lk, ps, wd, st) := by
  have h := yw_nx0 (post := post) (lk := lk) (ps := ps) (wd := wd) hL hN p (p.length + 1) hg.1 (Nat.lt_succ_self _) hs h1 h0
  rw [hg.2.1, hg.2.2.1] at h
  exact ⟨_, h⟩
end
end
section
/-! weight, score and marks of the way looked at -/
def ph_bd (f : Nat → Int32) (m : Nat) : Prop := ∀ i, ∃ a, a ≤ m ∧ f i = nI a
theorem ph_bd_cl {f : Nat → Int32} {m : Nat} (h : ph_bd f m) (hm : m < 2 ^ 31) (i : Nat) : f i = nI (f i).toNatClampNeg ∧ (f i).toNatClampNeg ≤ m := by
  obtain ⟨a, ha, e⟩ := h i
  rw [e, nI_clamp (by omega)]
  exact ⟨rfl, ha⟩
def ph_F (lk ps wd : Nat → Int32) (i j p q : Nat) : Int64 := (ps (p * 3 + q)).toInt64 * (if q = 0 then (lk ((j + 1) * 4 + (wd i).toNatClampNeg)).toInt64 else 1)
def ph_s (lk ps wd : Nat → Int32) (i j p q : Nat) : Nat := (ps (p * 3 + q)).toNatClampNeg + (if q = 0 then (lk ((j + 1) * 4 + (wd i).toNatClampNeg)).toNatClampNeg else 0)
theorem ph_s_le {lk ps wd : Nat → Int32} (hl : ph_bd lk 9) (hp : ph_bd ps 9) (i j p q : Nat) : ph_s lk ps wd i j p q ≤ 18 := by
  unfold ph_s
  have h1 := (ph_bd_cl hp (by omega) (p * 3 + q)).2
  split
  · have h2 := (ph_bd_cl hl (by omega) ((j + 1) * 4 + (wd i).toNatClampNeg)).2
    omega
  · omega
theorem ph_ix3 (p q : Nat) : (3 : Int32) * nI p + nI q = nI (p * 3 + q) := by
  show nI 3 * nI p + nI q = _
  rw [pk_mul, nI_add, Nat.mul_comm 3 p]
theorem ph_ix4 {wd : Nat → Int32} (hw : ph_bd wd 3) (i j : Nat) : (4 : Int32) * nI j + wd i = nI (j * 4 + (wd i).toNatClampNeg) := by
  have h := (ph_bd_cl hw (by omega) i).1
  show nI 4 * nI j + wd i = _
  rw [h, pk_mul, nI_add, Nat.mul_comm 4 j, ← h]
section
variable {L N : Nat} {lk ps wd : Nat → Int32}
theorem yw_wt {post : Int64 → Prop} {st : Nat → Int32} {c l : Int32} {sz : Nat} (hL : L ≤ 4) (hN : N ≤ 8) (hw : ph_bd wd 3) (hsz : sz ≤ 12) :
    ∀ (w : List Nat) (i j p s n : Nat) (a : Int64), ph_vw L N i j w → p < 3 → ph_fw st s w → s + w.length = sz → w.length < n → post (a * ph_wt (ph_F lk ps wd) i j p w) →
    wY_weight_13 post (nI L) (nI N) (nI sz) c l lk ps wd st n a (nI j) (nI i) (nI p) (nI s) := by
  intro w
  induction w with
  | nil =>
    intro i j p s n a _ _ _ hs hn hp
    obtain ⟨m, rfl⟩ : ∃ m, n = m + 1 := ⟨n - 1, by simp only [List.length_nil] at hn; omega⟩
    simp only [List.length_nil] at hs
    rw [ph_wt, Int64.mul_one] at hp
    exact br_t (nI_le (by omega) (by omega)) hp
  | cons q w ih =>
    intro i j p s n a hv hp3 hf hs hn hp
    obtain ⟨m, rfl⟩ : ∃ m, n = m + 1 := ⟨n - 1, by omega⟩
    rw [List.length_cons] at hs hn
    obtain ⟨hq, v1, v2, v3⟩ := hv
    have l1 := ph_la_le i q
    have l2 := ph_ca_le j q
    have J : ∀ x : Int64, x = a * ph_F lk ps wd i j p q → wY_weight_89 post (wY_weight_13 post (nI L) (nI N) (nI sz) c l lk ps wd st m) (nI (ph_ca j q)) (nI i) (nI s) (nI q) x (nI L) (nI N) (nI sz) c l lk ps wd st := by
      rintro x rfl
      have hI := ih (ph_la i q) (ph_ca j q) q (s + 1) m (a * ph_F lk ps wd i j p q) v3 hq hf.2 (by omega) (by omega) (by rw [Int64.mul_assoc]; exact hp)
      refine pk_eq q 2 (fun e => nm_r (e' := nI (s + 1)) (nI_1 s) ?_) (fun e => nm_r (e' := nI (i + 1)) (nI_1 i) (nm_r (e' := nI (s + 1)) (nI_1 s) ?_))
      · rw [ph_la, if_pos e] at hI; exact hI
      · rw [ph_la, if_neg e] at hI; exact hI
    have K44 : ∀ z, z = nI (ph_ca j q) → wY_weight_44 post (wY_weight_13 post (nI L) (nI N) (nI sz) c l lk ps wd st m) a (nI i) (nI p) (nI s) (nI q) z (nI L) (nI N) (nI sz) c l lk ps wd st := by
      rintro z rfl
      unfold wY_weight_44
      rw [ph_ix3, nI_clamp (n := p * 3 + q) (by omega)]
      refine ⟨vp_in_nI (by omega) (by omega), nm_e ?_⟩
      refine pk_eq q 0 (fun e => ?_) (fun e => J _ ?_)
      · subst e
        have hb := (ph_bd_cl hw (by omega) i).2
        have l3 : j + 1 ≤ L := v2
        have l4 : i + 1 ≤ N := v1
        rw [nI_clamp (n := i) (by omega), ph_ix4 hw, nI_clamp (n := ph_ca j 0 * 4 + (wd i).toNatClampNeg) (by rw [ph_ca0]; omega)]
        refine ⟨vp_in_nI (by omega) (by omega), vp_in_nI (by rw [ph_ca0]; omega) (by omega), J _ ?_⟩
        rw [ph_F, if_pos rfl, ph_ca0, Int64.mul_assoc]
      · rw [ph_F, if_neg e, Int64.mul_one]
    refine br_f (nI_ge (by omega) (by omega)) ⟨vp_in_nI (by omega) (by omega), nm_r (e' := nI q) (by rw [nI_clamp (by omega)]; exact hf.1) ?_⟩
    refine pk_eq q 1 (fun e => K44 _ ?_) (fun e => K44 _ ?_)
    · rw [ph_ca, if_pos e]
    · rw [ph_ca, if_neg e, nI_1]
theorem yw_weight {post : Int64 → Prop} {st : Nat → Int32} {c l : Int32} (hL : L ≤ 4) (hN : N ≤ 8) (hw : ph_bd wd 3) (p : List Nat) (hg : ph_gd L N p) (hs : ph_st st p)
    (h : post (ph_wt (ph_F lk ps wd) 0 0 0 p.reverse)) : wpY_weight post (nI L, nI N, nI p.length, c, l, lk, ps, wd, st) := by
  have hl := ph_vw_len _ _ _ hg.2.2.2
  refine ⟨p.reverse.length + 1, yw_wt hL hN hw (by rw [List.length_reverse] at hl; omega) p.reverse 0 0 0 0 _ 1 hg.2.2.2 (by omega) (ph_fw_0 hs) (by rw [List.length_reverse]; omega) (Nat.lt_succ_self _) ?_⟩
  rw [Int64.one_mul]; exact h
theorem yw_sc {post : Int32 → Prop} {st : Nat → Int32} {c l : Int32} {sz : Nat} (hL : L ≤ 4) (hN : N ≤ 8) (hw : ph_bd wd 3) (hl : ph_bd lk 9) (hps : ph_bd ps 9) (hsz : sz ≤ 12) :
    ∀ (w : List Nat) (i j p s n a : Nat), ph_vw L N i j w → p < 3 → ph_fw st s w → s + w.length = sz → w.length < n → post (nI (a + ph_sc (ph_s lk ps wd) i j p w)) →
    wY_score_12 post (nI L) (nI N) (nI sz) c l lk ps wd st n (nI a) (nI j) (nI i) (nI p) (nI s) := by
  intro w
  induction w with
  | nil =>
    intro i j p s n a _ _ _ hs hn hp
    obtain ⟨m, rfl⟩ : ∃ m, n = m + 1 := ⟨n - 1, by simp only [List.length_nil] at hn; omega⟩
    simp only [List.length_nil] at hs
    rw [ph_sc, Nat.add_zero] at hp
    exact br_t (nI_le (by omega) (by omega)) hp
  | cons q w ih =>
    intro i j p s n a hv hp3 hf hs hn hp
    obtain ⟨m, rfl⟩ : ∃ m, n = m + 1 := ⟨n - 1, by omega⟩
    rw [List.length_cons] at hs hn
    obtain ⟨hq, v1, v2, v3⟩ := hv
    have l1 := ph_la_le i q
    have l2 := ph_ca_le j q
    have J : ∀ x : Int32, x = nI (a + ph_s lk ps wd i j p q) → wY_score_85 post (wY_score_12 post (nI L) (nI N) (nI sz) c l lk ps wd st m) (nI (ph_ca j q)) (nI i) (nI s) (nI q) x (nI L) (nI N) (nI sz) c l lk ps wd st := by
      rintro x rfl
      have hI := ih (ph_la i q) (ph_ca j q) q (s + 1) m (a + ph_s lk ps wd i j p q) v3 hq hf.2 (by omega) (by omega) (by rw [Nat.add_assoc]; exact hp)
      refine pk_eq q 2 (fun e => nm_r (e' := nI (s + 1)) (nI_1 s) ?_) (fun e => nm_r (e' := nI (i + 1)) (nI_1 i) (nm_r (e' := nI (s + 1)) (nI_1 s) ?_))
      · rw [ph_la, if_pos e] at hI; exact hI
      · rw [ph_la, if_neg e] at hI; exact hI
    have K44 : ∀ z, z = nI (ph_ca j q) → wY_score_43 post (wY_score_12 post (nI L) (nI N) (nI sz) c l lk ps wd st m) (nI a) (nI i) (nI p) (nI s) (nI q) z (nI L) (nI N) (nI sz) c l lk ps wd st := by
      rintro z rfl
      have hpp := (ph_bd_cl hps (by omega) (p * 3 + q)).1
      unfold wY_score_43
      rw [ph_ix3, nI_clamp (n := p * 3 + q) (by omega)]
      refine ⟨vp_in_nI (by omega) (by omega), nm_r (e' := nI (a + (ps (p * 3 + q)).toNatClampNeg)) (by rw [← nI_add, ← hpp]) ?_⟩
      refine pk_eq q 0 (fun e => ?_) (fun e => J _ ?_)
      · subst e
        have hb := (ph_bd_cl hw (by omega) i).2
        have l3 : j + 1 ≤ L := v2
        have l4 : i + 1 ≤ N := v1
        rw [nI_clamp (n := i) (by omega), ph_ix4 hw, nI_clamp (n := ph_ca j 0 * 4 + (wd i).toNatClampNeg) (by rw [ph_ca0]; omega)]
        refine ⟨vp_in_nI (by omega) (by omega), vp_in_nI (by rw [ph_ca0]; omega) (by omega), J _ ?_⟩
        have hll := (ph_bd_cl hl (by omega) ((j + 1) * 4 + (wd i).toNatClampNeg)).1
        rw [ph_s, if_pos rfl, ph_ca0, ← Nat.add_assoc, ← nI_add (a + _), ← hll]
      · rw [ph_s, if_neg e, Nat.add_zero]
    refine br_f (nI_ge (by omega) (by omega)) ⟨vp_in_nI (by omega) (by omega), nm_r (e' := nI q) (by rw [nI_clamp (by omega)]; exact hf.1) ?_⟩
    refine pk_eq q 1 (fun e => K44 _ ?_) (fun e => K44 _ ?_)
    · rw [ph_ca, if_pos e]
    · rw [ph_ca, if_neg e, nI_1]
theorem yw_score {post : Int32 → Prop} {st : Nat → Int32} {c l : Int32} (hL : L ≤ 4) (hN : N ≤ 8) (hw : ph_bd wd 3) (hlk : ph_bd lk 9) (hps : ph_bd ps 9) (p : List Nat) (hg : ph_gd L N p) (hs : ph_st st p)
    (h : post (nI (ph_sc (ph_s lk ps wd) 0 0 0 p.reverse))) : wpY_score post (nI L, nI N, nI p.length, c, l, lk, ps, wd, st) := by
  have hl := ph_vw_len _ _ _ hg.2.2.2
  refine ⟨p.reverse.length + 1, yw_sc hL hN hw hlk hps (by rw [List.length_reverse] at hl; omega) p.reverse 0 0 0 0 _ 0 hg.2.2.2 (by omega) (ph_fw_0 hs) (by rw [List.length_reverse]; omega) (Nat.lt_succ_self _) ?_⟩
  rw [Nat.zero_add]; exact h
theorem yw_hs {post : Int32 → Prop} {st : Nat → Int32} {c l : Int32} {sz : Nat} (hL : L ≤ 4) (hN : N ≤ 8) (hsz : sz ≤ 12) (kd jj ii : Int32) (M : Nat → Nat → Nat → Bool)
    (hM : ∀ i j q, i ≤ 8 → j ≤ 4 → q < 3 → (M (ph_la i q) (ph_ca j q) q = true ↔ nI q = kd ∧ (jj < 0 ∨ nI (ph_ca j q) = jj) ∧ (ii < 0 ∨ nI i = ii))) :
    ∀ (w : List Nat) (i j s n : Nat), ph_vw L N i j w → ph_fw st s w → s + w.length = sz → w.length < n → (ph_has M i j w = true → post 1) → (¬ ph_has M i j w = true → post 0) →
    wY_hasStep_9 post kd jj ii (nI L) (nI N) (nI sz) c l lk ps wd st n (nI j) (nI i) (nI s) := by
  intro w
  induction w with
  | nil =>
    intro i j s n _ _ hs hn _ h0
    obtain ⟨m, rfl⟩ : ∃ m, n = m + 1 := ⟨n - 1, by simp only [List.length_nil] at hn; omega⟩
    simp only [List.length_nil] at hs
    exact br_t (nI_le (by omega) (by omega)) (h0 (by simp [ph_has]))
  | cons q w ih =>
    intro i j s n hv hf hs hn h1 h0
    obtain ⟨m, rfl⟩ : ∃ m, n = m + 1 := ⟨n - 1, by omega⟩
    rw [List.length_cons] at hs hn
    obtain ⟨hq, v1, v2, v3⟩ := hv
    have l1 := ph_la_le i q
    have l2 := ph_ca_le j q
    have hm := hM i j q (by omega) (by omega) hq
    have hin : vp_in (nI s) 12 := vp_in_nI (by omega) (by omega)
    have hst : st (nI s).toNatClampNeg = nI q := by rw [nI_clamp (by omega)]; exact hf.1
    have J73 : ¬ M (ph_la i q) (ph_ca j q) q = true → wY_hasStep_73 post (wY_hasStep_9 post kd jj ii (nI L) (nI N) (nI sz) c l lk ps wd st m) kd jj ii (nI (ph_ca j q)) (nI i) (nI s) (nI L) (nI N) (nI sz) c l lk ps wd st := by
      intro hn2
      have hf2 : M (ph_la i q) (ph_ca j q) q = false := by simpa using hn2
      have e : ph_has M i j (q :: w) = ph_has M (ph_la i q) (ph_ca j q) w := by rw [ph_has, hf2, Bool.false_or]
      rw [e] at h1 h0
      have hI := ih (ph_la i q) (ph_ca j q) (s + 1) m v3 hf.2 (by omega) (by omega) h1 h0
      unfold wY_hasStep_73
      rw [hst]
      refine ⟨hin, pk_eq q 2 (fun e => nm_r (e' := nI (s + 1)) (nI_1 s) ?_) (fun e => nm_r (e' := nI (i + 1)) (nI_1 i) (nm_r (e' := nI (s + 1)) (nI_1 s) ?_))⟩
      · rw [ph_la, if_pos e] at hI; exact hI
      · rw [ph_la, if_neg e] at hI; exact hI
    have P1 : M (ph_la i q) (ph_ca j q) q = true → post 1 := fun z => h1 (by rw [ph_has, z, Bool.true_or])
    have J61 : nI q = kd → (jj < 0 ∨ nI (ph_ca j q) = jj) → wY_hasStep_61 post (wY_hasStep_9 post kd jj ii (nI L) (nI N) (nI sz) c l lk ps wd st m) kd jj ii (nI (ph_ca j q)) (nI i) (nI s) (nI L) (nI N) (nI sz) c l lk ps wd st := by
      intro k1 k2
      refine br_c (fun h => P1 (hm.mpr ⟨k1, k2, Or.inl h⟩)) (fun h => br_c (fun h' => P1 (hm.mpr ⟨k1, k2, Or.inr h'⟩)) (fun h' => J73 fun z => ?_))
      rcases (hm.mp z).2.2 with y | y
      · exact h y
      · exact h' y
    have K38 : ∀ z, z = nI (ph_ca j q) → wY_hasStep_38 post (wY_hasStep_9 post kd jj ii (nI L) (nI N) (nI sz) c l lk ps wd st m) kd jj ii (nI i) (nI s) z (nI L) (nI N) (nI sz) c l lk ps wd st := by
      rintro z rfl
      unfold wY_hasStep_38
      rw [hst]
      refine ⟨hin, br_c (fun k1 => br_c (fun h => J61 k1 (Or.inl h)) (fun h => br_c (fun h' => J61 k1 (Or.inr h')) (fun h' => J73 fun z => ?_))) (fun k1 => J73 fun z => k1 (hm.mp z).1)⟩
      rcases (hm.mp z).2.1 with y | y
      · exact h y
      · exact h' y
    refine br_f (nI_ge (by omega) (by omega)) ⟨hin, ?_⟩
    rw [hst]
    refine pk_eq q 1 (fun e => K38 _ ?_) (fun e => K38 _ ?_)
    · rw [ph_ca, if_pos e]
    · rw [ph_ca, if_neg e, nI_1]
theorem yw_hasStep {post : Int32 → Prop} {st : Nat → Int32} {c l : Int32} (hL : L ≤ 4) (hN : N ≤ 8) (kd jj ii : Int32) (M : Nat → Nat → Nat → Bool)
    (hM : ∀ i j q, i ≤ 8 → j ≤ 4 → q < 3 → (M (ph_la i q) (ph_ca j q) q = true ↔ nI q = kd ∧ (jj < 0 ∨ nI (ph_ca j q) = jj) ∧ (ii < 0 ∨ nI i = ii)))
    (p : List Nat) (hg : ph_gd L N p) (hs : ph_st st p) (h1 : ph_has M 0 0 p.reverse = true → post 1) (h0 : ¬ ph_has M 0 0 p.reverse = true → post 0) :
    wpY_hasStep post (nI L, nI N, nI p.length, c, l, lk, ps, wd, st) kd jj ii := by
  have hl := ph_vw_len _ _ _ hg.2.2.2
  exact ⟨p.reverse.length + 1, yw_hs hL hN (by rw [List.length_reverse] at hl; omega) kd jj ii M hM p.reverse 0 0 0 _ hg.2.2.2 (ph_fw_0 hs) (by rw [List.length_reverse]; omega) (Nat.lt_succ_self _) h1 h0⟩
end
end
section
/-! the reference's loops over all ways -/
theorem yw_loop {A : Type} {L N : Nat} (W : Nat → A → Int32 → Int32 → Int32 → Int32 → (Nat → Int32) → Prop) (f : A → List Nat → A) (Q : A → Prop)
    (hx : ∀ n a st, Q a → W (n + 1) a 0 0 0 0 st)
    (hs : ∀ n a p st, ph_gd L N p → ph_st st p →
      (∀ p' st', ph_nx L N p = some p' → ph_st st' p' → W n (f a p) 1 (nI p'.length) (nI L) (nI N) st') →
      (ph_nx L N p = none → W n (f a p) 0 0 0 0 st) → W (n + 1) a 1 (nI p.length) (nI L) (nI N) st) :
    ∀ (l : List (List Nat)) (p : List Nat) (n : Nat) (a : A) (st : Nat → Int32), ph_en L N (p :: l) none → (∀ x, x ∈ p :: l → ph_gd L N x) → l.length + 1 < n → ph_st st p → Q ((p :: l).foldl f a) →
    W n a 1 (nI p.length) (nI L) (nI N) st := by
  intro l
  induction l with
  | nil =>
    intro p n a st he hg hn hst hq
    obtain ⟨m, rfl⟩ : ∃ m, n = m + 2 := ⟨n - 2, by simp only [List.length_nil] at hn; omega⟩
    have e : ph_nx L N p = none := he.1
    refine hs (m + 1) a p st (hg p (List.mem_cons_self ..)) hst (fun p' st' h _ => ?_) (fun _ => hx m _ st hq)
    rw [e] at h; cases h
  | cons p2 l ih =>
    intro p n a st he hg hn hst hq
    rw [List.length_cons] at hn
    obtain ⟨m, rfl⟩ : ∃ m, n = m + 1 := ⟨n - 1, by omega⟩
    have e : ph_nx L N p = some p2 := he.1
    refine hs m a p st (hg p (List.mem_cons_self ..)) hst (fun p' st' h hst' => ?_) (fun h => ?_)
    · rw [e] at h
      cases h
      exact ih p2 m (f a p) st' he.2 (fun x hx => hg x (List.mem_cons_of_mem _ hx)) (by omega) hst' hq
    · rw [e] at h; cases h
/-- the same over all ways, the last word in terms of ways -/
theorem yw_loopA {A : Type} {L N : Nat} (W : Nat → A → Int32 → Int32 → Int32 → Int32 → (Nat → Int32) → Prop) (g : A → List Nat → A) (Q : A → Prop)
    (hx : ∀ n a st, Q a → W (n + 1) a 0 0 0 0 st)
    (hs : ∀ n a p st, ph_gd L N p → ph_st st p →
      (∀ p' st', ph_nx L N p = some p' → ph_st st' p' → W n (g a p.reverse) 1 (nI p'.length) (nI L) (nI N) st') →
      (ph_nx L N p = none → W n (g a p.reverse) 0 0 0 0 st) → W (n + 1) a 1 (nI p.length) (nI L) (nI N) st) (a : A) (hq : Q ((ph_wy L N 0 0).foldl g a)) :
    ∀ st, ph_st st (ph_fi L N []) → ∃ n, W n a 1 (nI (ph_fi L N []).length) (nI L) (nI N) st := by
  intro st hst
  obtain ⟨l, hl⟩ := ph_all_hd L N
  have he := ph_all_en L N
  have hg := ph_all_gd (L := L) (N := N)
  rw [hl] at he hg
  refine ⟨l.length + 2, yw_loop W (fun a p => g a p.reverse) Q hx hs l (ph_fi L N []) _ a st he hg (by omega) hst ?_⟩
  rw [← hl, ph_all, List.foldl_map]
  simp only [List.reverse_reverse]
  exact hq
section
variable {L N : Nat} {lk ps wd : Nat → Int32}
theorem yw_sum {post : Int64 → SY → Prop} (hL : L ≤ 4) (hN : N ≤ 8) (hw : ph_bd wd 3) {sz c l : Int32} {st : Nat → Int32}
    (h : ∀ st', post (ph_B L N (ph_F lk ps wd) 0 0 0) (nI L, nI N, 0, 0, 0, lk, ps, wd, st')) :
    wpY_sum post (nI L, nI N, sz, c, l, lk, ps, wd, st) := by
  unfold wpY_sum
  dsimp only
  refine yw_first hL hN fun st' hst => ?_
  refine yw_loopA (L := L) (N := N) (fun n a m sz c l st => wY_sum_8 post n a m (nI L) (nI N) sz c l lk ps wd st) (fun a w => a + ph_wt (ph_F lk ps wd) 0 0 0 w) (fun a => a = ph_B L N (ph_F lk ps wd) 0 0 0) ?_ ?_ 0 ?_ st' hst
  · intro n a st e
    rw [e]
    exact br_t rfl (h st)
  · intro n a p st hg hs h1 h0
    exact br_f (by decide) (yw_weight hL hN hw p hg hs (nm_e (yw_next hL hN p hg hs h1 h0)))
  · have K : ∀ (l : List (List Nat)) (a : Int64), l.foldl (fun a w => a + ph_wt (ph_F lk ps wd) 0 0 0 w) a = a + ph_su (ph_wt (ph_F lk ps wd) 0 0 0) l := by
      intro l
      induction l with
      | nil => intro a; rw [List.foldl_nil, ph_su, Int64.add_zero]
      | cons w l ih => intro a; rw [List.foldl_cons, ih, ph_su, Int64.add_assoc]
    show _ = _
    rw [K, Int64.zero_add]; rfl
theorem yw_sumWith {post : Int64 → SY → Prop} (hL : L ≤ 4) (hN : N ≤ 8) (hw : ph_bd wd 3) {sz c l : Int32} {st : Nat → Int32} (kd jj ii : Int32) (M : Nat → Nat → Nat → Bool)
    (hM : ∀ i j q, i ≤ 8 → j ≤ 4 → q < 3 → (M (ph_la i q) (ph_ca j q) q = true ↔ nI q = kd ∧ (jj < 0 ∨ nI (ph_ca j q) = jj) ∧ (ii < 0 ∨ nI i = ii)))
    (h : ∀ st', post (ph_H L N (ph_F lk ps wd) M 0 0 0) (nI L, nI N, 0, 0, 0, lk, ps, wd, st')) :
    wpY_sumWith post (nI L, nI N, sz, c, l, lk, ps, wd, st) kd jj ii := by
  unfold wpY_sumWith
  dsimp only
  refine yw_first hL hN fun st' hst => ?_
  refine yw_loopA (L := L) (N := N) (fun n a m sz c l st => wY_sumWith_10 post kd jj ii n a m (nI L) (nI N) sz c l lk ps wd st) (fun a w => a + ph_hw (ph_F lk ps wd) M 0 0 0 w) (fun a => a = ph_H L N (ph_F lk ps wd) M 0 0 0) ?_ ?_ 0 ?_ st' hst
  · intro n a st e
    rw [e]
    exact br_t rfl (h st)
  · intro n a p st hg hs h1 h0
    refine br_f (by decide) (yw_hasStep hL hN kd jj ii M hM p hg hs (fun hh => br_f (by decide) ?_) (fun hh => br_t rfl ?_))
    · have e : ph_hw (ph_F lk ps wd) M 0 0 0 p.reverse = ph_wt (ph_F lk ps wd) 0 0 0 p.reverse := if_pos hh
      rw [e] at h1 h0
      exact yw_weight hL hN hw p hg hs (nm_e (yw_next hL hN p hg hs h1 h0))
    · have e : ph_hw (ph_F lk ps wd) M 0 0 0 p.reverse = 0 := if_neg hh
      rw [e, Int64.add_zero] at h1 h0
      exact yw_next hL hN p hg hs h1 h0
  · have K : ∀ (l : List (List Nat)) (a : Int64), l.foldl (fun a w => a + ph_hw (ph_F lk ps wd) M 0 0 0 w) a = a + ph_su (ph_hw (ph_F lk ps wd) M 0 0 0) l := by
      intro l
      induction l with
      | nil => intro a; rw [List.foldl_nil, ph_su, Int64.add_zero]
      | cons w l ih => intro a; rw [List.foldl_cons, ih, ph_su, Int64.add_assoc]
    show _ = _
    rw [K, Int64.zero_add]; rfl
theorem yw_ways {post : Int32 → SY → Prop} (hL : L ≤ 4) (hN : N ≤ 8) {sz c l : Int32} {st : Nat → Int32}
    (h : ∀ st', post (nI (ph_wy L N 0 0).length) (nI L, nI N, 0, 0, 0, lk, ps, wd, st')) :
    wpY_ways post (nI L, nI N, sz, c, l, lk, ps, wd, st) := by
  unfold wpY_ways
  dsimp only
  refine yw_first hL hN fun st' hst => ?_
  refine yw_loopA (L := L) (N := N) (fun n a m sz c l st => wY_ways_8 post n a m (nI L) (nI N) sz c l lk ps wd st) (fun a _ => a + 1) (fun a => a = nI (ph_wy L N 0 0).length) ?_ ?_ 0 ?_ st' hst
  · intro n a st e
    rw [e]
    exact br_t rfl (h st)
  · intro n a p st hg hs h1 h0
    exact br_f (by decide) (nm_e (yw_next hL hN p hg hs h1 h0))
  · have K : ∀ (l : List (List Nat)) (a : Nat), l.foldl (fun (a : Int32) (_ : List Nat) => a + 1) (nI a) = nI (a + l.length) := by
      intro l
      induction l with
      | nil => intro a; rfl
      | cons w l ih => intro a; rw [List.foldl_cons, nI_1, ih, List.length_cons, Nat.add_assoc, Nat.add_comm 1]
    have := K (ph_wy L N 0 0) 0
    rw [Nat.zero_add] at this
    exact this
/-- greatest score of the ways of s steps (of any, for -1) -/
def yw_gf (lk ps wd : Nat → Int32) (s : Int32) (m : Int32) (w : List Nat) : Int32 :=
  if (s = -1 ∨ nI w.length = s) ∧ ¬ nI (ph_sc (ph_s lk ps wd) 0 0 0 w) ≤ m then nI (ph_sc (ph_s lk ps wd) 0 0 0 w) else m
theorem yw_greatest {post : Int32 → SY → Prop} (hL : L ≤ 4) (hN : N ≤ 8) (hw : ph_bd wd 3) (hlk : ph_bd lk 9) (hps : ph_bd ps 9) {sz c l : Int32} {st : Nat → Int32} (s : Int32)
    (h : ∀ st', post ((ph_wy L N 0 0).foldl (yw_gf lk ps wd s) (-4)) (nI L, nI N, 0, 0, 0, lk, ps, wd, st')) :
    wpY_greatest post (nI L, nI N, sz, c, l, lk, ps, wd, st) s := by
  unfold wpY_greatest
  dsimp only
  refine yw_first hL hN fun st' hst => ?_
  refine yw_loopA (L := L) (N := N) (fun n a m sz c l st => wY_greatest_9 post s n a m (nI L) (nI N) sz c l lk ps wd st) (yw_gf lk ps wd s) (fun a => a = (ph_wy L N 0 0).foldl (yw_gf lk ps wd s) (-4)) ?_ ?_ (-4) rfl st' hst
  · intro n a st e
    rw [e]
    exact br_t rfl (h st)
  · intro n a p st hg hs h1 h0
    have el : p.reverse.length = p.length := List.length_reverse
    have K44 : ∀ z, z = yw_gf lk ps wd s a p.reverse → wY_greatest_44 post (wY_greatest_9 post s n) s z (nI L) (nI N) (nI p.length) (nI L) (nI N) lk ps wd st := by
      rintro z rfl
      exact yw_next hL hN p hg hs h1 h0
    have K32 : (s = -1 ∨ nI p.length = s) → wY_greatest_32 post (wY_greatest_9 post s n) s a (nI (ph_sc (ph_s lk ps wd) 0 0 0 p.reverse)) (nI L) (nI N) (nI p.length) (nI L) (nI N) lk ps wd st := by
      intro hc
      refine br_c (fun z => K44 _ ?_) (fun z => K44 _ ?_)
      · rw [yw_gf, if_neg (fun y => y.2 z)]
      · rw [yw_gf, if_pos ⟨by rw [el]; exact hc, z⟩]
    refine br_f (by decide) (yw_score hL hN hw hlk hps p hg hs ?_)
    refine br_c (fun z => K32 (Or.inl z)) (fun z => br_c (fun y => K32 (Or.inr y)) (fun y => K44 _ ?_))
    rw [yw_gf, if_neg]
    rintro ⟨x, _⟩
    rw [el] at x
    rcases x with x | x
    · exact z x
    · exact y x
def yw_tf (lk ps wd : Nat → Int32) (m : Int32) (a : Int32) (w : List Nat) : Int32 :=
  if nI (ph_sc (ph_s lk ps wd) 0 0 0 w) = m then a + 1 else a
theorem yw_ties1 {post : Int32 → SY → Prop} (hL : L ≤ 4) (hN : N ≤ 8) (hw : ph_bd wd 3) (hlk : ph_bd lk 9) (hps : ph_bd ps 9) {sz c l : Int32} {st : Nat → Int32}
    (h : ∀ m, m = (ph_wy L N 0 0).foldl (yw_gf lk ps wd (-1)) (-4) → ∀ st', post ((ph_wy L N 0 0).foldl (yw_tf lk ps wd m) 0) (nI L, nI N, 0, 0, 0, lk, ps, wd, st')) :
    wpY_ties post (nI L, nI N, sz, c, l, lk, ps, wd, st) := by
  unfold wpY_ties wpY_best
  dsimp only
  refine yw_greatest hL hN hw hlk hps (-1) fun st1 => ?_
  have h2 := h _ rfl
  generalize (ph_wy L N 0 0).foldl (yw_gf lk ps wd (-1)) (-4) = mm at h2 ⊢
  refine yw_first hL hN fun st' hst => ?_
  refine yw_loopA (L := L) (N := N) (fun n a m sz c l st => wY_ties_13 post mm n a m (nI L) (nI N) sz c l lk ps wd st) (yw_tf lk ps wd mm) (fun a => a = (ph_wy L N 0 0).foldl (yw_tf lk ps wd mm) 0) ?_ ?_ 0 rfl st' hst
  · intro n a st e
    rw [e]
    exact br_t rfl (h2 st)
  · intro n a p st hg hs h1 h0
    have K44 : ∀ z, z = yw_tf lk ps wd mm a p.reverse → wY_ties_32 post (wY_ties_13 post mm n) mm z (nI L) (nI N) (nI p.length) (nI L) (nI N) lk ps wd st := by
      rintro z rfl
      exact yw_next hL hN p hg hs h1 h0
    refine br_f (by decide) (yw_score hL hN hw hlk hps p hg hs ?_)
    refine br_c (fun z => K44 _ ?_) (fun z => K44 _ ?_)
    · rw [yw_tf, if_pos z]
    · rw [yw_tf, if_neg z]
def yw_wf (lk ps wd : Nat → Int32) (m : Int32) (w : List Nat) : Int32 :=
  if m ≤ nI (ph_sc (ph_s lk ps wd) 0 0 0 w) then m else nI (ph_sc (ph_s lk ps wd) 0 0 0 w)
theorem yw_worst {post : Int32 → SY → Prop} (hL : L ≤ 4) (hN : N ≤ 8) (hw : ph_bd wd 3) (hlk : ph_bd lk 9) (hps : ph_bd ps 9) {sz c l : Int32} {st : Nat → Int32}
    (h : ∀ st', post ((ph_wy L N 0 0).foldl (yw_wf lk ps wd) 1000000) (nI L, nI N, 0, 0, 0, lk, ps, wd, st')) :
    wpY_worst post (nI L, nI N, sz, c, l, lk, ps, wd, st) := by
  unfold wpY_worst
  dsimp only
  refine yw_first hL hN fun st' hst => ?_
  refine yw_loopA (L := L) (N := N) (fun n a m sz c l st => wY_worst_9 post n a m (nI L) (nI N) sz c l lk ps wd st) (yw_wf lk ps wd) (fun a => a = (ph_wy L N 0 0).foldl (yw_wf lk ps wd) 1000000) ?_ ?_ 1000000 rfl st' hst
  · intro n a st e
    rw [e]
    exact br_t rfl (h st)
  · intro n a p st hg hs h1 h0
    have K44 : ∀ z, z = yw_wf lk ps wd a p.reverse → wY_worst_28 post (wY_worst_9 post n) z (nI L) (nI N) (nI p.length) (nI L) (nI N) lk ps wd st := by
      rintro z rfl
      exact yw_next hL hN p hg hs h1 h0
    refine br_f (by decide) (yw_score hL hN hw hlk hps p hg hs ?_)
    refine br_c (fun z => K44 _ ?_) (fun z => K44 _ ?_)
    · rw [yw_wf, if_pos z]
    · rw [yw_wf, if_neg z]
theorem yw_bs11 {post : Int32 → SY → Prop} (hL : L ≤ 4) (hN : N ≤ 8) (hw : ph_bd wd 3) (hlk : ph_bd lk 9) (hps : ph_bd ps 9) (x1 most : Int32) (y : List Nat)
    (h : ∀ st', ph_st st' y → wY_bestStep_31 post x1 (nI L) (nI N) (nI y.length) (nI L) (nI N) lk ps wd st') :
    ∀ (l : List (List Nat)) (p : List Nat) (n : Nat) (st : Nat → Int32), ph_en L N (p :: l) none → (∀ x, x ∈ p :: l → ph_gd L N x) → l.length + 1 < n → ph_st st p →
      (p :: l).find? (fun x => decide (most ≤ nI (ph_sc (ph_s lk ps wd) 0 0 0 x.reverse))) = some y →
      wY_bestStep_11 post x1 most n 1 (nI L) (nI N) (nI p.length) (nI L) (nI N) lk ps wd st := by
  intro l
  induction l with
  | nil =>
    intro p n st he hg hn hst hf
    obtain ⟨m, rfl⟩ : ∃ m, n = m + 1 := ⟨n - 1, by omega⟩
    refine br_f (by decide) (yw_score hL hN hw hlk hps p (hg p (List.mem_cons_self ..)) hst ?_)
    refine br_c (fun z => ?_) (fun z => ?_)
    · rw [List.find?_cons_of_pos (by simpa using z)] at hf
      cases hf
      exact h st hst
    · rw [List.find?_cons_of_neg (by simpa using z)] at hf
      cases hf
  | cons p2 l ih =>
    intro p n st he hg hn hst hf
    rw [List.length_cons] at hn
    obtain ⟨m, rfl⟩ : ∃ m, n = m + 1 := ⟨n - 1, by omega⟩
    have e : ph_nx L N p = some p2 := he.1
    refine br_f (by decide) (yw_score hL hN hw hlk hps p (hg p (List.mem_cons_self ..)) hst ?_)
    refine br_c (fun z => ?_) (fun z => ?_)
    · rw [List.find?_cons_of_pos (by simpa using z)] at hf
      cases hf
      exact h st hst
    · rw [List.find?_cons_of_neg (by simpa using z)] at hf
      refine yw_next hL hN p (hg p (List.mem_cons_self ..)) hst (fun p' st' h' hst' => ?_) (fun h' => ?_)
      · rw [e] at h'
        cases h'
        exact ih p2 m st' he.2 (fun x hx => hg x (List.mem_cons_of_mem _ hx)) (by omega) hst' hf
      · rw [e] at h'; cases h'
theorem yw_bestStep {post : Int32 → SY → Prop} (hL : L ≤ 4) (hN : N ≤ 8) (hw : ph_bd wd 3) (hlk : ph_bd lk 9) (hps : ph_bd ps 9) {sz c l : Int32} {st : Nat → Int32} (x1 : Int32) (y : List Nat)
    (hf : ∀ m, m = (ph_wy L N 0 0).foldl (yw_gf lk ps wd (-1)) (-4) → (ph_wy L N 0 0).find? (fun w => decide (m ≤ nI (ph_sc (ph_s lk ps wd) 0 0 0 w))) = some y)
    (h : ∀ st', ph_st st' y.reverse → wY_bestStep_31 post x1 (nI L) (nI N) (nI y.length) (nI L) (nI N) lk ps wd st') :
    wpY_bestStep post (nI L, nI N, sz, c, l, lk, ps, wd, st) x1 := by
  unfold wpY_bestStep wpY_best
  dsimp only
  refine yw_greatest hL hN hw hlk hps (-1) fun st1 => ?_
  have h2 := hf _ rfl
  generalize (ph_wy L N 0 0).foldl (yw_gf lk ps wd (-1)) (-4) = mm at h2 ⊢
  refine yw_first hL hN fun st' hst => ?_
  obtain ⟨l, hl⟩ := ph_all_hd L N
  have he := ph_all_en L N
  have hg := ph_all_gd (L := L) (N := N)
  rw [hl] at he hg
  refine ⟨l.length + 2, yw_bs11 hL hN hw hlk hps x1 mm y.reverse (by rw [List.length_reverse]; exact h) l (ph_fi L N []) _ st' he hg (by omega) hst ?_⟩
  rw [← hl, ph_all, List.find?_map]
  rw [show ((fun x => decide (mm ≤ nI (ph_sc (ph_s lk ps wd) 0 0 0 x.reverse))) ∘ List.reverse) = (fun w => decide (mm ≤ nI (ph_sc (ph_s lk ps wd) 0 0 0 w))) from funext fun w => by simp only [Function.comp_apply, List.reverse_reverse], h2]
  rfl
end
end
section
/-! the component's small methods -/
def ph_at (i j k : Nat) : Nat := (i * 5 + j) * 3 + k
theorem ph_at_inj {i j k i' j' k' : Nat} (hj : j ≤ 4) (hj' : j' ≤ 4) (hk : k < 3) (hk' : k' < 3) (h : ph_at i j k = ph_at i' j' k') : i = i' ∧ j = j' ∧ k = k' := by
  unfold ph_at at h
  omega
theorem ph_at_lt {i j k : Nat} (hi : i ≤ 8) (hj : j ≤ 4) (hk : k < 3) : ph_at i j k < 135 := by
  unfold ph_at
  omega
theorem ph_ixp (p q : Nat) : nI p * 3 + nI q = nI (p * 3 + q) := by
  show nI p * nI 3 + nI q = _
  rw [pk_mul, nI_add]
theorem ph_lkv {lk ps wd : Nat → Int32} (hlk : ph_bd lk 9) (hps : ph_bd ps 9) (i j p q : Nat) : (ps (p * 3 + q) * (if q = 0 then lk ((j + 1) * 4 + (wd i).toNatClampNeg) else 1)).toInt64 = ph_F lk ps wd i j p q := by
  unfold ph_F
  obtain ⟨a, ha, ea⟩ := hps (p * 3 + q)
  split
  · obtain ⟨b, hb, eb⟩ := hlk ((j + 1) * 4 + (wd i).toNatClampNeg)
    have hab : a * b ≤ 9 * 9 := Nat.mul_le_mul ha hb
    rw [ea, eb, pk_mul, nI_l (by omega), nI_l (by omega), nI_l (by omega), lN_mul]
  · rw [Int32.mul_one, Int64.mul_one]
section
variable {L N : Nat} {lk ps wd : Nat → Int32} {ah be : Nat → Int64} {co sc ti bs : Nat → Int32}
theorem xw_la {post : Int32 → Prop} {i q : Nat} (hq : q < 3) (h : post (nI (ph_la i q))) {cL cN : Int32} : wpX_lettersAfter post (cL, cN, lk, ps, wd, ah, be, co, sc, ti, bs) (nI i) (nI q) := by
  unfold wpX_lettersAfter
  dsimp only
  refine pk_eq q 2 (fun e => ?_) (fun e => ?_)
  · rw [ph_la, if_pos e] at h; exact h
  · rw [ph_la, if_neg e] at h; rw [nI_1]; exact h
theorem xw_ca {post : Int32 → Prop} {j q : Nat} (hq : q < 3) (h : post (nI (ph_ca j q))) {cL cN : Int32} : wpX_columnsAfter post (cL, cN, lk, ps, wd, ah, be, co, sc, ti, bs) (nI j) (nI q) := by
  unfold wpX_columnsAfter
  dsimp only
  refine pk_eq q 1 (fun e => ?_) (fun e => ?_)
  · rw [ph_ca, if_pos e] at h; exact h
  · rw [ph_ca, if_neg e] at h; rw [nI_1]; exact h
theorem xw_at {post : Int32 → Prop} {i j k : Nat} (h : post (nI (ph_at i j k))) {cL cN : Int32} : wpX_at post (cL, cN, lk, ps, wd, ah, be, co, sc, ti, bs) (nI i) (nI j) (nI k) := by
  have e : (nI i * 5 + nI j) * 3 + nI k = nI (ph_at i j k) := by
    show (nI i * nI 5 + nI j) * nI 3 + nI k = _
    rw [pk_mul, nI_add, pk_mul, nI_add]; rfl
  unfold wpX_at
  dsimp only
  rw [e]; exact h
theorem xw_pos {post : Int32 → Prop} {i j q : Nat} (hL : L ≤ 4) (hN : N ≤ 8) (hi : i ≤ N) (hj : j ≤ L) (hq : q < 3) (h1 : ph_ok L N i j q = true → post 1) (h0 : ¬ ph_ok L N i j q = true → post 0) :
    wpX_possible post (nI L, nI N, lk, ps, wd, ah, be, co, sc, ti, bs) (nI i) (nI j) (nI q) := by
  have l1 := ph_la_up i q
  have l2 := ph_ca_up j q
  unfold wpX_possible
  dsimp only
  refine xw_la hq ?_
  refine pk_lt N (ph_la i q) (fun z => h0 fun y => ?_) (fun z => xw_ca hq ?_)
  · have := (ph_ok_iff.mp y).1; omega
  refine pk_lt L (ph_ca j q) (fun y => h0 fun x => ?_) (fun y => h1 (ph_ok_iff.mpr ⟨z, y⟩))
  have := (ph_ok_iff.mp x).2; omega
theorem xw_lik {post : Int32 → Prop} {i j q : Nat} (hL : L ≤ 4) (hN : N ≤ 8) (hw : ph_bd wd 3) (hq : q < 3) (ho : ph_ok L N i j q = true) (h : post (if q = 0 then lk ((j + 1) * 4 + (wd i).toNatClampNeg) else 1)) :
    wpX_likingOf post (nI L, nI N, lk, ps, wd, ah, be, co, sc, ti, bs) (nI i) (nI j) (nI q) := by
  unfold wpX_likingOf
  dsimp only
  refine pk_eq q 0 (fun e => ?_) (fun e => ?_)
  · rw [if_pos e] at h
    subst e
    have ho' := ph_ok_iff.mp ho
    have l3 : j + 1 ≤ L := ho'.2
    have l4 : i + 1 ≤ N := ho'.1
    have hb := ph_bd_cl hw (by omega) i
    have e4 : (nI j + 1) * 4 + wd i = nI ((j + 1) * 4 + (wd i).toNatClampNeg) := by
      rw [← nI_add ((j + 1) * 4), ← hb.1, ← pk_mul, ← nI_1 j]; rfl
    rw [nI_clamp (n := i) (by omega), e4, nI_clamp (n := (j + 1) * 4 + (wd i).toNatClampNeg) (by omega)]
    exact ⟨vp_in_nI (by omega) (by omega), vp_in_nI (by omega) (by omega), h⟩
  · rw [if_neg e] at h; exact h
theorem xw_sof {post : Int32 → Prop} {i j p q : Nat} (hL : L ≤ 4) (hN : N ≤ 8) (hw : ph_bd wd 3) (hlk : ph_bd lk 9) (hps : ph_bd ps 9) (hp : p < 3) (hq : q < 3) (ho : ph_ok L N i j q = true) (h : post (nI (ph_s lk ps wd i j p q))) :
    wpX_scoreOf post (nI L, nI N, lk, ps, wd, ah, be, co, sc, ti, bs) (nI i) (nI j) (nI p) (nI q) := by
  have hpp := (ph_bd_cl hps (by omega) (p * 3 + q)).1
  unfold wpX_scoreOf
  dsimp only
  rw [ph_ixp, nI_clamp (n := p * 3 + q) (by omega)]
  refine ⟨vp_in_nI (by omega) (by omega), nm_r (e' := nI (ps (p * 3 + q)).toNatClampNeg) hpp ?_⟩
  refine pk_eq q 0 (fun e => xw_lik hL hN hw hq ho ?_) (fun e => ?_)
  · have hll := (ph_bd_cl hlk (by omega) ((j + 1) * 4 + (wd i).toNatClampNeg)).1
    rw [if_pos e, hll, nI_add]
    rw [ph_s, if_pos e] at h
    exact h
  · rw [ph_s, if_neg e, Nat.add_zero] at h; exact h
end
/-! tables filled from the end back -/
def ph_dI (L N : Nat) (P : Nat → Nat → Nat → Prop) (m : Nat) : Prop := ∀ i j p, m ≤ i → i ≤ N → j ≤ L → p < 3 → P i j p
def ph_dJ (L N : Nat) (P : Nat → Nat → Nat → Prop) (i m : Nat) : Prop := ∀ i' j p, i' ≤ N → j ≤ L → p < 3 → (i < i' ∨ (i = i' ∧ m ≤ j)) → P i' j p
theorem ph_dJ_rd {L N : Nat} {P : Nat → Nat → Nat → Prop} {i j : Nat} (h : ph_dJ L N P i (j + 1)) {q : Nat} (hq : q < 3) (ho : ph_ok L N i j q = true) : P (ph_la i q) (ph_ca j q) q := by
  have ho' := ph_ok_iff.mp ho
  have l1 := ph_la_le i q
  have l2 := ph_ca_le j q
  have l3 := ph_lc i j q
  have l4 := ph_ca_up j q
  exact h _ _ _ ho'.1 ho'.2 hq (by omega)
theorem ph_dJ_dn {L N : Nat} {P : Nat → Nat → Nat → Prop} {i j : Nat} (h : ph_dJ L N P i (j + 1)) (hc : ∀ p, p < 3 → P i j p) : ph_dJ L N P i j := by
  intro i' j' p h1 h2 h3 h4
  by_cases e : i = i' ∧ j = j'
  · obtain ⟨rfl, rfl⟩ := e
    exact hc p h3
  · exact h i' j' p h1 h2 h3 (by omega)
theorem ph_dJ_mono {L N : Nat} {P Q : Nat → Nat → Nat → Prop} {i j : Nat} (h : ph_dJ L N P i (j + 1)) (hc : ∀ i' j' p, j' ≤ L → p < 3 → ¬ (i' = i ∧ j' = j) → P i' j' p → Q i' j' p) : ph_dJ L N Q i (j + 1) := by
  intro i' j' p h1 h2 h3 h4
  exact hc i' j' p h2 h3 (by omega) (h i' j' p h1 h2 h3 h4)
theorem xw_rows {σ : Type} {L N : Nat} (P : σ → Nat → Nat → Nat → Prop) (WI : Nat → Int32 → σ → Prop) (WJ : Nat → Int32 → Nat → Int32 → σ → Prop)
    (hxI : ∀ n s, ph_dI L N (P s) 0 → WI (n + 1) (nI 0 + (-1)) s)
    (hI : ∀ n i s, i ≤ N → (∃ m, WJ n (nI i) m (nI L) s) → WI (n + 1) (nI i) s)
    (hxJ : ∀ n i m s, WI n (nI i + (-1)) s → WJ n (nI i) (m + 1) (nI 0 + (-1)) s)
    (hJ : ∀ n i m j s, i ≤ N → j ≤ L → ph_dJ L N (P s) i (j + 1) → (∀ s', ph_dJ L N (P s') i j → WJ n (nI i) m (nI j + (-1)) s') → WJ n (nI i) (m + 1) (nI j) s) (s : σ) :
    ∃ n, WI n (nI N) s := by
  have H : ∀ k, k ≤ N + 1 → ∀ s, ph_dI L N (P s) k → WI (k + 1) (nI k + (-1)) s := by
    intro k
    induction k with
    | zero => intro _ s h; exact hxI 0 s h
    | succ k ih =>
      intro hk s h
      rw [pk_m1]
      refine hI _ _ _ (by omega) ?_
      have HJ : ∀ j, j ≤ L + 1 → ∀ s, ph_dJ L N (P s) k j → WJ (k + 1) (nI k) (j + 1) (nI j + (-1)) s := by
        intro j
        induction j with
        | zero =>
          intro _ s hs
          refine hxJ _ _ _ _ (ih (by omega) s fun i j p h1 h2 h3 h4 => ?_)
          exact hs i j p h2 h3 h4 (by omega)
        | succ j ihj =>
          intro hj s hs
          rw [pk_m1]
          exact hJ _ _ _ _ _ (by omega) (by omega) hs fun s' hs' => ihj (by omega) s' hs'
      have h2 := HJ (L + 1) (by omega) s (fun i j p h1 h2 h3 h4 => h i j p (by omega) h1 h2 h3)
      rw [pk_m1] at h2
      exact ⟨_, h2⟩
  have h := H (N + 1) (by omega) s (fun i j p h1 h2 h3 h4 => by omega)
  rw [pk_m1] at h
  exact ⟨_, h⟩
end
section
/-! weights of all ways on -/
section
variable {L N : Nat} {lk ps wd : Nat → Int32} {ah : Nat → Int64} {co sc ti bs : Nat → Int32}
def xw_PB (L N : Nat) (lk ps wd : Nat → Int32) (be : Nat → Int64) (i j p : Nat) : Prop := be (ph_at i j p) = ph_B L N (ph_F lk ps wd) i j p
theorem xw_fb33 {post : SX → Prop} {J2 : Int32 → (Nat → Int32) → (Nat → Int32) → (Nat → Int32) → (Nat → Int64) → (Nat → Int64) → (Nat → Int32) → (Nat → Int32) → (Nat → Int32) → (Nat → Int32) → Prop} {be : Nat → Int64}
    (hL : L ≤ 4) (hN : N ≤ 8) (hw : ph_bd wd 3) (hlk : ph_bd lk 9) (hps : ph_bd ps 9) {i j p : Nat} (hi : i ≤ N) (hj : j ≤ L) (hp : p < 3) (hV : ph_dJ L N (xw_PB L N lk ps wd be) i (j + 1))
    (h : J2 (nI (p + 1)) lk ps wd ah (vp_updL be (ph_at i j p) (ph_B L N (ph_F lk ps wd) i j p)) co sc ti bs) : ∀ n q : Nat, q ≤ 3 → 3 < n + q →
    wX_fillBehindAt_33 post J2 (nI i) (nI j) (nI p) (nI L) (nI N) lk ps wd ah be co sc ti bs n (ph_Bs L N (ph_F lk ps wd) i j p q) (nI q) := by
  intro n
  induction n with
  | zero => intro q h1 h2; omega
  | succ n ih =>
    intro q h1 h2
    have l1 := ph_la_up i q
    have l2 := ph_ca_up j q
    have hat : ph_at i j p < 135 := ph_at_lt (by omega) (by omega) hp
    refine pk_le 3 q (fun z => xw_at ⟨vp_in_nI hat (by omega), ?ex⟩) (fun z => xw_pos hL hN hi hj z (fun o => br_f (by decide) ?yy) (fun o => br_t rfl ?nn))
    case ex =>
      have e3 : q = 3 := by omega
      subst e3
      rw [nI_clamp (by omega), ph_Bs_3]
      exact nm_e (nm_r (e' := nI (p + 1)) (nI_1 p) h)
    case yy =>
      have ho := ph_ok_iff.mp o
      have hat2 : ph_at (ph_la i q) (ph_ca j q) q < 135 := ph_at_lt (by omega) (by omega) z
      refine xw_la z ?_
      refine xw_ca z ?_
      refine xw_at ?_
      rw [ph_ixp, nI_clamp (n := p * 3 + q) (by omega), nI_clamp (n := ph_at (ph_la i q) (ph_ca j q) q) (by omega)]
      refine ⟨vp_in_nI (by omega) (by omega), xw_lik hL hN hw z o ?_⟩
      refine nm_r (e' := ph_F lk ps wd i j p q) (ph_lkv hlk hps i j p q) ⟨vp_in_nI hat2 (by omega), ?_⟩
      have hb : be (ph_at (ph_la i q) (ph_ca j q) q) = ph_B L N (ph_F lk ps wd) (ph_la i q) (ph_ca j q) q := ph_dJ_rd hV z o
      refine nm_r (e' := ph_Bs L N (ph_F lk ps wd) i j p (q + 1)) ?_ (nm_r (e' := nI (q + 1)) (nI_1 q) (ih (q + 1) (by omega) (by omega)))
      rw [hb, ph_Bs, ph_g, if_pos o]
    case nn =>
      refine nm_r (e' := nI (q + 1)) (nI_1 q) ?_
      have e : ph_Bs L N (ph_F lk ps wd) i j p (q + 1) = ph_Bs L N (ph_F lk ps wd) i j p q := by
        rw [ph_Bs, ph_g, if_neg o, Int64.zero_mul, Int64.add_zero]
      rw [← e]
      exact ih (q + 1) (by omega) (by omega)
theorem xw_fb2 {post : SX → Prop} (hL : L ≤ 4) (hN : N ≤ 8) (hw : ph_bd wd 3) (hlk : ph_bd lk 9) (hps : ph_bd ps 9) {i j : Nat} (hi : i ≤ N) (hj : j ≤ L)
    (h : ∀ be', ph_dJ L N (xw_PB L N lk ps wd be') i j → post (nI L, nI N, lk, ps, wd, ah, be', co, sc, ti, bs)) : ∀ (n p : Nat) (be : Nat → Int64), p ≤ 3 → 3 < n + p →
    ph_dJ L N (xw_PB L N lk ps wd be) i (j + 1) → (∀ p', p' < p → xw_PB L N lk ps wd be i j p') →
    wX_fillBehindAt_2 post (nI i) (nI j) (nI L) (nI N) n (nI p) lk ps wd ah be co sc ti bs := by
  intro n
  induction n with
  | zero => intro p be h1 h2; omega
  | succ n ih =>
    intro p be h1 h2 hV hC
    refine pk_le 3 p (fun z => h be (ph_dJ_dn hV fun p' hp' => hC p' (by omega))) (fun z => ?_)
    have K : ∃ n33, wX_fillBehindAt_33 post (wX_fillBehindAt_2 post (nI i) (nI j) (nI L) (nI N) n) (nI i) (nI j) (nI p) (nI L) (nI N) lk ps wd ah be co sc ti bs n33 (ph_Bs L N (ph_F lk ps wd) i j p 0) 0 := by
      refine ⟨4, xw_fb33 hL hN hw hlk hps hi hj z hV ?_ 4 0 (by omega) (by omega)⟩
      refine ih (p + 1) _ (by omega) (by omega) ?_ ?_
      · refine ph_dJ_mono hV fun i' j' p' a b c d => ?_
        unfold xw_PB
        rw [pk_uLn]
        · exact d
        · intro e
          have := ph_at_inj (by omega) (by omega) b z e
          exact c ⟨this.1, this.2.1⟩
      · intro p' hp'
        unfold xw_PB
        by_cases e : p' = p
        · rw [e]; exact pk_uLs
        · rw [pk_uLn]
          · exact hC p' (by omega)
          · intro e2
            have := ph_at_inj (by omega) (by omega) (by omega) z e2
            exact e this.2.2
    refine pk_eq i N (fun a => pk_eq j L (fun b => ?_) (fun b => ?_)) (fun a => ?_)
    · rw [ph_Bs, ph_end, if_pos ⟨a, b⟩] at K; exact K
    · rw [ph_Bs, ph_end, if_neg (fun c => b c.2)] at K; exact K
    · rw [ph_Bs, ph_end, if_neg (fun c => a c.1)] at K; exact K
theorem xw_fillBehind {post : SX → Prop} (hL : L ≤ 4) (hN : N ≤ 8) (hw : ph_bd wd 3) (hlk : ph_bd lk 9) (hps : ph_bd ps 9) {be : Nat → Int64}
    (h : ∀ be', ph_dI L N (xw_PB L N lk ps wd be') 0 → post (nI L, nI N, lk, ps, wd, ah, be', co, sc, ti, bs)) :
    wpX_fillBehind post (nI L, nI N, lk, ps, wd, ah, be, co, sc, ti, bs) := by
  unfold wpX_fillBehind
  dsimp only
  refine xw_rows (L := L) (N := N) (xw_PB L N lk ps wd) (fun n x s => wX_fillBehind_5 post n x (nI L) (nI N) lk ps wd ah s co sc ti bs)
    (fun n x m y s => wX_fillBehind_14 post (wX_fillBehind_5 post n) x m y (nI L) (nI N) lk ps wd ah s co sc ti bs) ?_ ?_ ?_ ?_ be
  · intro n s hs
    exact br_t (by decide) (h s hs)
  · intro n i s hi hm
    exact br_f (nI_pos (by omega)) hm
  · intro n i m s hs
    exact br_t (by decide) (nm_e hs)
  · intro n i m j s hi hj hs hn
    refine br_f (nI_pos (by omega)) ?_
    refine ⟨4, xw_fb2 hL hN hw hlk hps hi hj (fun be' hb => ?_) 4 0 s (by omega) (by omega) hs (fun p' hp' => by omega)⟩
    exact nm_e (hn be' hb)
theorem xw_sum {post : Int64 → SX → Prop} (hL : L ≤ 4) (hN : N ≤ 8) (hw : ph_bd wd 3) (hlk : ph_bd lk 9) (hps : ph_bd ps 9) {be : Nat → Int64}
    (h : ∀ be', post (ph_B L N (ph_F lk ps wd) 0 0 0) (nI L, nI N, lk, ps, wd, ah, be', co, sc, ti, bs)) :
    wpX_sum post (nI L, nI N, lk, ps, wd, ah, be, co, sc, ti, bs) := by
  unfold wpX_sum
  dsimp only
  refine xw_fillBehind hL hN hw hlk hps fun be' hb => ?_
  have e : be' 0 = ph_B L N (ph_F lk ps wd) 0 0 0 := hb 0 0 0 (by omega) (by omega) (by omega) (by omega)
  show post (be' 0) _
  rw [e]
  exact h be'
end
end
section
/-! numbers of ways -/
section
variable {L N : Nat} {lk ps wd : Nat → Int32} {ah be : Nat → Int64} {sc ti bs : Nat → Int32}
def xw_PC (L N : Nat) (co : Nat → Int32) (i j _p : Nat) : Prop := co (ph_at i j 0) = nI (ph_wy L N i j).length
theorem xw_w65 {post : Int32 → SX → Prop} {J27 J36 : Int32 → (Nat → Int32) → (Nat → Int32) → (Nat → Int32) → (Nat → Int64) → (Nat → Int64) → (Nat → Int32) → (Nat → Int32) → (Nat → Int32) → (Nat → Int32) → Prop} {co : Nat → Int32}
    (hL : L ≤ 4) (hN : N ≤ 8) {i j : Nat} (hi : i ≤ N) (hj : j ≤ L) (hV : ph_dJ L N (xw_PC L N co) i (j + 1))
    (h : J36 (nI j + (-1)) lk ps wd ah be (upd co (ph_at i j 0) (nI (ph_wy L N i j).length)) sc ti bs) : ∀ n q : Nat, q ≤ 3 → 3 < n + q →
    wX_ways_65 post J27 J36 (nI i) (nI j) (nI L) (nI N) lk ps wd ah be co sc ti bs n (nI (ph_pt L N i j q).length) (nI q) := by
  intro n
  induction n with
  | zero => intro q h1 h2; omega
  | succ n ih =>
    intro q h1 h2
    have l1 := ph_la_up i q
    have l2 := ph_ca_up j q
    have hat : ph_at i j 0 < 135 := ph_at_lt (by omega) (by omega) (by omega)
    refine pk_le 3 q (fun z => xw_at (k := 0) ⟨vp_in_nI hat (by omega), ?ex⟩) (fun z => xw_pos hL hN hi hj z (fun o => br_f (by decide) ?yy) (fun o => br_t rfl ?nn))
    case ex =>
      have e3 : q = 3 := by omega
      subst e3
      rw [nI_clamp (by omega), ph_pt_3]
      exact nm_e (nm_e h)
    case yy =>
      have ho := ph_ok_iff.mp o
      have hat2 : ph_at (ph_la i q) (ph_ca j q) 0 < 135 := ph_at_lt (by omega) (by omega) (by omega)
      refine xw_la z ?_
      refine xw_ca z ?_
      refine xw_at (k := 0) ?_
      rw [nI_clamp (n := ph_at (ph_la i q) (ph_ca j q) 0) (by omega)]
      refine ⟨vp_in_nI hat2 (by omega), ?_⟩
      have hb : co (ph_at (ph_la i q) (ph_ca j q) 0) = nI (ph_wy L N (ph_la i q) (ph_ca j q)).length := ph_dJ_rd hV z o
      refine nm_r (e' := nI (ph_pt L N i j (q + 1)).length) ?_ (nm_r (e' := nI (q + 1)) (nI_1 q) (ih (q + 1) (by omega) (by omega)))
      rw [hb, nI_add, ph_pt, List.length_append, ph_len_br, if_pos o]
    case nn =>
      refine nm_r (e' := nI (q + 1)) (nI_1 q) ?_
      have e : (ph_pt L N i j (q + 1)).length = (ph_pt L N i j q).length := by
        rw [ph_pt, List.length_append, ph_len_br, if_neg o, Nat.add_zero]
      rw [← e]
      exact ih (q + 1) (by omega) (by omega)
theorem xw_w27 {post : Int32 → SX → Prop} (hL : L ≤ 4) (hN : N ≤ 8) {co : Nat → Int32}
    (h : ∀ co', post (nI (ph_wy L N 0 0).length) (nI L, nI N, lk, ps, wd, ah, be, co', sc, ti, bs)) :
    ∃ n, wX_ways_27 post (nI L) (nI N) n (nI N) lk ps wd ah be co sc ti bs := by
  refine xw_rows (L := L) (N := N) (xw_PC L N) (fun n x s => wX_ways_27 post (nI L) (nI N) n x lk ps wd ah be s sc ti bs)
    (fun n x m y s => wX_ways_36 post (wX_ways_27 post (nI L) (nI N) n) x (nI L) (nI N) m y lk ps wd ah be s sc ti bs) ?_ ?_ ?_ ?_ co
  · intro n s hs
    have e : s 0 = nI (ph_wy L N 0 0).length := hs 0 0 0 (by omega) (by omega) (by omega) (by omega)
    refine br_t (by decide) ?_
    rw [e]
    exact h s
  · intro n i s hi hm
    exact br_f (nI_pos (by omega)) hm
  · intro n i m s hs
    exact br_t (by decide) (nm_e hs)
  · intro n i m j s hi hj hs hn
    refine br_f (nI_pos (by omega)) ?_
    have K : ∃ n65, wX_ways_65 post (wX_ways_27 post (nI L) (nI N) n) (wX_ways_36 post (wX_ways_27 post (nI L) (nI N) n) (nI i) (nI L) (nI N) m) (nI i) (nI j) (nI L) (nI N) lk ps wd ah be s sc ti bs n65 (nI (ph_pt L N i j 0).length) 0 := by
      refine ⟨4, xw_w65 hL hN hi hj hs ?_ 4 0 (by omega) (by omega)⟩
      refine hn _ (ph_dJ_dn ?_ ?_)
      · refine ph_dJ_mono hs fun i' j' p' a b c d => ?_
        unfold xw_PC
        rw [pk_un]
        · exact d
        · intro e
          have := ph_at_inj (by omega) (by omega) (by omega) (by omega) e
          exact c ⟨this.1, this.2.1⟩
      · intro p _
        exact pk_us
    refine pk_eq i N (fun a => pk_eq j L (fun b => ?_) (fun b => ?_)) (fun a => ?_)
    · rw [ph_pt, ph_e, if_pos ⟨a, b⟩] at K; exact K
    · rw [ph_pt, ph_e, if_neg (fun c => b c.2)] at K; exact K
    · rw [ph_pt, ph_e, if_neg (fun c => a c.1)] at K; exact K
theorem xw_ways {post : Int32 → SX → Prop} (hL : L ≤ 4) (hN : N ≤ 8) {co : Nat → Int32}
    (h : ∀ co', post (nI (ph_wy L N 0 0).length) (nI L, nI N, lk, ps, wd, ah, be, co', sc, ti, bs)) :
    wpX_ways post (nI L, nI N, lk, ps, wd, ah, be, co, sc, ti, bs) := by
  have H : ∀ (n k : Nat) (co : Nat → Int32), k ≤ 135 → 135 < n + k → wX_ways_2 post (nI L) (nI N) n (nI k) lk ps wd ah be co sc ti bs := by
    intro n
    induction n with
    | zero => intro k co h1 h2; omega
    | succ n ih =>
      intro k co h1 h2
      refine pk_le 135 k (fun z => xw_w27 hL hN h) (fun z => ⟨vp_in_nI z (by omega), nm_e (nm_r (e' := nI (k + 1)) (nI_1 k) (ih (k + 1) _ (by omega) (by omega)))⟩)
  exact ⟨136, H 136 0 co (by omega) (by omega)⟩
end
end
section
/-! greatest and least scores -/
theorem ph_arith {sg : Int32} {g : Int} (hsg : (sg = 1 ∧ g = 1) ∨ (sg = -1 ∧ g = -1)) {s : Nat} (hs : s ≤ 18) {y : Int32} (hy : -216 ≤ y.toInt ∧ y.toInt ≤ 216) : (sg * nI s + y).toInt = g * (s : Int) + y.toInt := by
  have h1 : sg.toInt = g := by
    rcases hsg with ⟨rfl, rfl⟩ | ⟨rfl, rfl⟩
    · decide
    · decide
  have h2 : (sg * nI s).toInt = g * (s : Int) := by
    rw [Int32.toInt_mul, h1, nI_toInt (by omega)]
    refine Int.bmod_eq_of_le ?_ ?_
    · rcases hsg with ⟨_, rfl⟩ | ⟨_, rfl⟩ <;> omega
    · rcases hsg with ⟨_, rfl⟩ | ⟨_, rfl⟩ <;> omega
  rw [Int32.toInt_add, h2]
  refine Int.bmod_eq_of_le ?_ ?_
  · rcases hsg with ⟨_, rfl⟩ | ⟨_, rfl⟩ <;> omega
  · rcases hsg with ⟨_, rfl⟩ | ⟨_, rfl⟩ <;> omega
theorem ph_V_bd {L N : Nat} {s : Nat → Nat → Nat → Nat → Nat} (hs : ∀ i j p q, s i j p q ≤ 18) (hL : L ≤ 4) (hN : N ≤ 8) {g : Int} (hg : g = 1 ∨ g = -1) {i j p : Nat} {x t : Int32} (h : ph_V L N s g i j p x t) : -216 ≤ x.toInt ∧ x.toInt ≤ 216 := by
  obtain ⟨_, w, hw, e⟩ := h.1
  have h2 := ph_sc_wy hs hL hN hw p
  have e' : g * (ph_sc s i j p w : Int) = x.toInt := e
  rcases hg with rfl | rfl <;> omega
section
variable {L N : Nat} {lk ps wd : Nat → Int32} {ah be : Nat → Int64} {co bs : Nat → Int32}
def xw_PV (L N : Nat) (lk ps wd : Nat → Int32) (g : Int) (st : (Nat → Int32) × (Nat → Int32)) (i j p : Nat) : Prop :=
  ph_V L N (ph_s lk ps wd) g i j p (st.1 (ph_at i j p)) (st.2 (ph_at i j p))
theorem xw_s51 {post : SX → Prop} {sc ti : Nat → Int32} {sg : Int32} {g : Int} (hsg : (sg = 1 ∧ g = 1) ∨ (sg = -1 ∧ g = -1))
    (hL : L ≤ 4) (hN : N ≤ 8) (hw : ph_bd wd 3) (hlk : ph_bd lk 9) (hps : ph_bd ps 9) {i j p : Nat} (hi : i ≤ N) (hj : j ≤ L) (hp : p < 3) (hV : ph_dJ L N (xw_PV L N lk ps wd g (sc, ti)) i (j + 1))
    (h : ∀ x t, ph_V L N (ph_s lk ps wd) g i j p x t → post (nI L, nI N, lk, ps, wd, ah, be, co, upd sc (ph_at i j p) x, upd ti (ph_at i j p) t, bs)) : ∀ (n q : Nat) (x t : Int32), q ≤ 3 → 3 < n + q →
    ph_Vp L N (ph_s lk ps wd) g i j p q x t →
    wX_scoreAt_51 post (nI i) (nI j) (nI p) sg (nI L) (nI N) lk ps wd ah be co sc ti bs n x t (nI q) := by
  intro n
  induction n with
  | zero => intro q x t h1 h2; omega
  | succ n ih =>
    intro q x t h1 h2 hx
    have l1 := ph_la_up i q
    have l2 := ph_ca_up j q
    have hat : ph_at i j p < 135 := ph_at_lt (by omega) (by omega) hp
    have hc : (nI (ph_at i j p)).toNatClampNeg = ph_at i j p := nI_clamp (by omega)
    refine pk_le 3 q (fun z => xw_at ⟨vp_in_nI hat (by omega), nm_e (xw_at ⟨vp_in_nI hat (by omega), nm_e ?ex⟩)⟩) (fun z => xw_pos hL hN hi hj z (fun o => br_f (by decide) ?yy) (fun o => br_t rfl ?nn))
    case ex =>
      have e3 : q = 3 := by omega
      subst e3
      rw [hc]
      exact h x t (ph_Vp_3 hi hj hx)
    case yy =>
      have ho := ph_ok_iff.mp o
      have hat2 : ph_at (ph_la i q) (ph_ca j q) q < 135 := ph_at_lt (by omega) (by omega) z
      have hin2 : vp_in (nI (ph_at (ph_la i q) (ph_ca j q) q)) 135 := vp_in_nI hat2 (by omega)
      refine xw_la z ?_
      refine xw_ca z ?_
      refine xw_at ?_
      refine xw_sof hL hN hw hlk hps hp z o ?_
      refine ⟨hin2, ?_⟩
      rw [nI_clamp (n := ph_at (ph_la i q) (ph_ca j q) q) (by omega)]
      have hv : ph_V L N (ph_s lk ps wd) g (ph_la i q) (ph_ca j q) q (sc (ph_at (ph_la i q) (ph_ca j q) q)) (ti (ph_at (ph_la i q) (ph_ca j q) q)) := ph_dJ_rd hV z o
      have hbd := ph_V_bd (ph_s_le hlk hps) hL hN (by rcases hsg with y | y; exact Or.inl y.2; exact Or.inr y.2) hv
      have hs18 : ph_s lk ps wd i j p q ≤ 18 := ph_s_le hlk hps i j p q
      have ea := ph_arith hsg hs18 hbd
      have elow : -1000000 < (sg * nI (ph_s lk ps wd i j p q) + sc (ph_at (ph_la i q) (ph_ca j q) q)).toInt := by
        rw [ea]
        rcases hsg with ⟨_, rfl⟩ | ⟨_, rfl⟩ <;> omega
      refine nm_e (br_c (fun a => br_c (fun b => ⟨hin2, nm_e (nm_r (e' := nI (q + 1)) (nI_1 q) ?eq)⟩) (fun b => nm_r (e' := nI (q + 1)) (nI_1 q) ?lo)) (fun a => ⟨hin2, nm_e (nm_r (e' := nI (q + 1)) (nI_1 q) ?hi)⟩))
      case eq => exact ih (q + 1) _ _ (by omega) (by omega) (ph_Vp_eq o hx hv ea elow b)
      case lo => exact ih (q + 1) _ _ (by omega) (by omega) (ph_Vp_lo o hx hv ea elow a b)
      case hi => exact ih (q + 1) _ _ (by omega) (by omega) (ph_Vp_hi o hx hv ea a)
    case nn => exact nm_r (e' := nI (q + 1)) (nI_1 q) (ih (q + 1) _ _ (by omega) (by omega) (ph_Vp_no o hx))
theorem xw_scoreAt {post : SX → Prop} {sc ti : Nat → Int32} {sg : Int32} {g : Int} (hsg : (sg = 1 ∧ g = 1) ∨ (sg = -1 ∧ g = -1))
    (hL : L ≤ 4) (hN : N ≤ 8) (hw : ph_bd wd 3) (hlk : ph_bd lk 9) (hps : ph_bd ps 9) {i j p : Nat} (hi : i ≤ N) (hj : j ≤ L) (hp : p < 3) (hV : ph_dJ L N (xw_PV L N lk ps wd g (sc, ti)) i (j + 1))
    (h : ∀ x t, ph_V L N (ph_s lk ps wd) g i j p x t → post (nI L, nI N, lk, ps, wd, ah, be, co, upd sc (ph_at i j p) x, upd ti (ph_at i j p) t, bs)) :
    wpX_scoreAt post (nI L, nI N, lk, ps, wd, ah, be, co, sc, ti, bs) (nI i) (nI j) (nI p) sg := by
  have K : ∀ x t, ph_Vp L N (ph_s lk ps wd) g i j p 0 x t → ∃ n51, wX_scoreAt_51 post (nI i) (nI j) (nI p) sg (nI L) (nI N) lk ps wd ah be co sc ti bs n51 x t 0 :=
    fun x t hx => ⟨4, xw_s51 hsg hL hN hw hlk hps hi hj hp hV h 4 0 x t (by omega) (by omega) hx⟩
  have K20 : ¬ (i = N ∧ j = L) → wX_scoreAt_20 post (nI i) (nI j) (nI p) sg (nI L) (nI N) lk ps wd ah be co sc ti bs :=
    fun he => br_t rfl (br_t rfl (K _ _ (ph_Vp_0n he)))
  unfold wpX_scoreAt
  dsimp only
  refine pk_eq i N (fun a => pk_eq j L (fun b => ?_) (fun b => K20 fun c => b c.2)) (fun a => K20 fun c => a c.1)
  exact br_f (by decide) (br_f (by decide) (K _ _ (ph_Vp_0e ⟨a, b⟩)))
theorem xw_fs21 {post : SX → Prop} {sg : Int32} {g : Int} (hsg : (sg = 1 ∧ g = 1) ∨ (sg = -1 ∧ g = -1))
    {J5 J14 : Int32 → Int32 → Int32 → (Nat → Int32) → (Nat → Int32) → (Nat → Int32) → (Nat → Int64) → (Nat → Int64) → (Nat → Int32) → (Nat → Int32) → (Nat → Int32) → (Nat → Int32) → Prop}
    (hL : L ≤ 4) (hN : N ≤ 8) (hw : ph_bd wd 3) (hlk : ph_bd lk 9) (hps : ph_bd ps 9) {i j : Nat} (hi : i ≤ N) (hj : j ≤ L)
    (h : ∀ st : (Nat → Int32) × (Nat → Int32), ph_dJ L N (xw_PV L N lk ps wd g st) i j → J14 (nI j + (-1)) (nI L) (nI N) lk ps wd ah be co st.1 st.2 bs) : ∀ (n p : Nat) (sc ti : Nat → Int32), p ≤ 3 → 3 < n + p →
    ph_dJ L N (xw_PV L N lk ps wd g (sc, ti)) i (j + 1) → (∀ p', p' < p → xw_PV L N lk ps wd g (sc, ti) i j p') →
    wX_fillScores_21 post J5 J14 sg (nI i) (nI j) n (nI p) (nI L) (nI N) lk ps wd ah be co sc ti bs := by
  intro n
  induction n with
  | zero => intro p sc ti h1 h2; omega
  | succ n ih =>
    intro p sc ti h1 h2 hV hC
    refine pk_le 3 p (fun z => nm_e (h (sc, ti) (ph_dJ_dn hV fun p' hp' => hC p' (by omega)))) (fun z => ?_)
    refine xw_scoreAt hsg hL hN hw hlk hps hi hj z hV fun x t hv => ?_
    refine nm_r (e' := nI (p + 1)) (nI_1 p) (ih (p + 1) _ _ (by omega) (by omega) ?_ ?_)
    · refine ph_dJ_mono hV fun i' j' p' a b c d => ?_
      have hne : ph_at i' j' p' ≠ ph_at i j p := by
        intro e
        have := ph_at_inj (by omega) (by omega) b z e
        exact c ⟨this.1, this.2.1⟩
      unfold xw_PV
      dsimp only
      rw [pk_un hne, pk_un hne]
      exact d
    · intro p' hp'
      unfold xw_PV
      dsimp only
      by_cases e : p' = p
      · rw [e, pk_us, pk_us]; exact hv
      · have hne : ph_at i j p' ≠ ph_at i j p := by
          intro e2
          have := ph_at_inj (by omega) (by omega) (by omega) z e2
          exact e this.2.2
        rw [pk_un hne, pk_un hne]
        exact hC p' (by omega)
theorem xw_fillScores {post : SX → Prop} {sg : Int32} {g : Int} (hsg : (sg = 1 ∧ g = 1) ∨ (sg = -1 ∧ g = -1)) (hL : L ≤ 4) (hN : N ≤ 8) (hw : ph_bd wd 3) (hlk : ph_bd lk 9) (hps : ph_bd ps 9) {sc ti : Nat → Int32}
    (h : ∀ sc' ti', ph_dI L N (xw_PV L N lk ps wd g (sc', ti')) 0 → post (nI L, nI N, lk, ps, wd, ah, be, co, sc', ti', bs)) :
    wpX_fillScores post (nI L, nI N, lk, ps, wd, ah, be, co, sc, ti, bs) sg := by
  unfold wpX_fillScores
  dsimp only
  refine xw_rows (L := L) (N := N) (xw_PV L N lk ps wd g) (fun n x s => wX_fillScores_5 post sg n x (nI L) (nI N) lk ps wd ah be co s.1 s.2 bs)
    (fun n x m y s => wX_fillScores_14 post (wX_fillScores_5 post sg n) sg x m y (nI L) (nI N) lk ps wd ah be co s.1 s.2 bs) ?_ ?_ ?_ ?_ (sc, ti)
  · intro n s hs
    exact br_t (by decide) (h s.1 s.2 hs)
  · intro n i s hi hm
    exact br_f (nI_pos (by omega)) hm
  · intro n i m s hs
    exact br_t (by decide) (nm_e hs)
  · intro n i m j s hi hj hs hn
    refine br_f (nI_pos (by omega)) ?_
    exact ⟨4, xw_fs21 hsg hL hN hw hlk hps hi hj hn 4 0 s.1 s.2 (by omega) (by omega) hs (fun p' hp' => by omega)⟩
end
end
section
/-! the steps of the first way with the greatest score -/
def ph_fbk (cb : Nat → Bool) : Nat → Nat → Nat
  | 0, f => f
  | k + 1, f => ph_fbk cb k (if cb k = true then k else f)
section
variable {L N : Nat} {lk ps wd : Nat → Int32} {ah be : Nat → Int64} {co ti bs : Nat → Int32}
def xw_cb (L N : Nat) (lk ps wd sc : Nat → Int32) (i j p q : Nat) : Bool :=
  ph_ok L N i j q && decide (nI (ph_s lk ps wd i j p q) + sc (ph_at (ph_la i q) (ph_ca j q) q) = sc (ph_at i j p))
theorem xw_fb6 {post : Int32 → Prop} {sc : Nat → Int32} (hL : L ≤ 4) (hN : N ≤ 8) (hw : ph_bd wd 3) (hlk : ph_bd lk 9) (hps : ph_bd ps 9) {i j p : Nat} (hi : i ≤ N) (hj : j ≤ L) (hp : p < 3) : ∀ (k f : Nat), k ≤ 3 →
    post (nI (ph_fbk (xw_cb L N lk ps wd sc i j p) k f)) →
    wX_firstBest_6 post (nI i) (nI j) (nI p) (nI L) (nI N) lk ps wd ah be co sc ti bs (k + 1) (nI f) (nI k + (-1)) := by
  intro k
  induction k with
  | zero => intro f _ h; exact br_t (by decide) h
  | succ k ih =>
    intro f hk h
    rw [pk_m1]
    have hat : ph_at i j p < 135 := ph_at_lt (by omega) (by omega) hp
    have l1 := ph_la_up i k
    have l2 := ph_ca_up j k
    rw [ph_fbk] at h
    refine br_f (nI_pos (by omega)) (xw_pos hL hN hi hj (by omega) (fun o => br_f (by decide) ?yy) (fun o => br_t rfl (nm_e ?nn)))
    case nn =>
      have e : xw_cb L N lk ps wd sc i j p k = false := by
        have o' : ph_ok L N i j k = false := by simpa using o
        rw [xw_cb, o', Bool.false_and]
      rw [e] at h
      exact ih f (by omega) h
    case yy =>
      have ho := ph_ok_iff.mp o
      have hat2 : ph_at (ph_la i k) (ph_ca j k) k < 135 := ph_at_lt (by omega) (by omega) (by omega)
      refine xw_la (by omega) ?_
      refine xw_ca (by omega) ?_
      refine xw_at ?_
      refine xw_sof hL hN hw hlk hps hp (by omega) o ?_
      refine ⟨vp_in_nI hat2 (by omega), nm_e ?_⟩
      refine xw_at ?_
      refine ⟨vp_in_nI hat (by omega), ?_⟩
      rw [nI_clamp (n := ph_at i j p) (by omega), nI_clamp (n := ph_at (ph_la i k) (ph_ca j k) k) (by omega)]
      refine br_c (fun z => nm_e ?aa) (fun z => nm_e ?bb)
      case aa =>
        have e : xw_cb L N lk ps wd sc i j p k = true := by rw [xw_cb, o, Bool.true_and, decide_eq_true z]
        rw [e, if_pos rfl] at h
        exact ih k (by omega) h
      case bb =>
        have e : xw_cb L N lk ps wd sc i j p k = false := by rw [xw_cb, o, Bool.true_and, decide_eq_false z]
        rw [e] at h
        exact ih f (by omega) h
theorem xw_firstBest {post : Int32 → Prop} {sc : Nat → Int32} (hL : L ≤ 4) (hN : N ≤ 8) (hw : ph_bd wd 3) (hlk : ph_bd lk 9) (hps : ph_bd ps 9) {i j p : Nat} (hi : i ≤ N) (hj : j ≤ L) (hp : p < 3)
    (h : post (nI (ph_fbk (xw_cb L N lk ps wd sc i j p) 3 2))) :
    wpX_firstBest post (nI L, nI N, lk, ps, wd, ah, be, co, sc, ti, bs) (nI i) (nI j) (nI p) := by
  have h2 := xw_fb6 (ah := ah) (be := be) (co := co) (ti := ti) (bs := bs) hL hN hw hlk hps hi hj hp 3 2 (by omega) h
  rw [pk_m1] at h2
  exact ⟨4, h2⟩
/-- the first best way's first step is what the component finds -/
theorem xw_greedy {sc : Nat → Int32} (hL : L ≤ 4) (hN : N ≤ 8) (hlk : ph_bd lk 9) (hps : ph_bd ps 9) {i j p : Nat} (hi : i ≤ N) (hj : j ≤ L) (hp : p < 3) (he : ¬ (i = N ∧ j = L))
    (hV : ∀ a b c, a ≤ N → b ≤ L → c < 3 → ph_MN (fun w => (ph_sc (ph_s lk ps wd) a b c w : Int)) (ph_wy L N a b) (sc (ph_at a b c))) {w : List Nat}
    (hf : ph_fd L N (ph_s lk ps wd) i j p (sc (ph_at i j p)).toInt = some w) : ∃ q w', q < 3 ∧ ph_ok L N i j q = true ∧ w = q :: w' ∧ ph_fbk (xw_cb L N lk ps wd sc i j p) 3 2 = q ∧
      ph_fd L N (ph_s lk ps wd) (ph_la i q) (ph_ca j q) q (sc (ph_at (ph_la i q) (ph_ca j q) q)).toInt = some w' := by
  have hb : ∀ a b c, a ≤ N → b ≤ L → c < 3 → 0 ≤ (sc (ph_at a b c)).toInt ∧ (sc (ph_at a b c)).toInt ≤ 216 := by
    intro a b c h1 h2 h3
    obtain ⟨_, v, hv, e⟩ := hV a b c h1 h2 h3
    have h4 := ph_sc_wy (ph_s_le hlk hps) hL hN hv c (s := ph_s lk ps wd)
    have e' : (ph_sc (ph_s lk ps wd) a b c v : Int) = (sc (ph_at a b c)).toInt := e
    omega
  have ea : ∀ q, q < 3 → ph_ok L N i j q = true → (nI (ph_s lk ps wd i j p q) + sc (ph_at (ph_la i q) (ph_ca j q) q)).toInt = (ph_s lk ps wd i j p q : Int) + (sc (ph_at (ph_la i q) (ph_ca j q) q)).toInt := by
    intro q hq o
    have ho := ph_ok_iff.mp o
    have h1 := hb _ _ _ ho.1 ho.2 hq
    have h2 := ph_arith (sg := 1) (g := 1) (Or.inl ⟨rfl, rfl⟩) (ph_s_le (wd := wd) hlk hps i j p q) (y := sc (ph_at (ph_la i q) (ph_ca j q) q)) ⟨by omega, h1.2⟩
    rw [Int32.one_mul, Int.one_mul] at h2
    exact h2
  have T : ∀ q, q < 3 → xw_cb L N lk ps wd sc i j p q = true → ph_fbr L N (ph_s lk ps wd) i j p q (sc (ph_at i j p)).toInt = (ph_fd L N (ph_s lk ps wd) (ph_la i q) (ph_ca j q) q (sc (ph_at (ph_la i q) (ph_ca j q) q)).toInt).map (List.cons q) ∧ ph_ok L N i j q = true := by
    intro q hq h
    rw [xw_cb, Bool.and_eq_true, decide_eq_true_eq] at h
    refine ⟨ph_fbr_some h.1 ?_, h.1⟩
    rw [← ea q hq h.1, h.2]
  have U : ∀ q, q < 3 → ¬ xw_cb L N lk ps wd sc i j p q = true → ph_fbr L N (ph_s lk ps wd) i j p q (sc (ph_at i j p)).toInt = none := by
    intro q hq h
    refine ph_fbr_none (y := sc (ph_at (ph_la i q) (ph_ca j q) q)) fun o => ?_
    have ho := ph_ok_iff.mp o
    have hv := hV _ _ _ ho.1 ho.2 hq
    refine ⟨hv, ?_⟩
    rw [xw_cb, Bool.and_eq_true, decide_eq_true_eq] at h
    have hne : (nI (ph_s lk ps wd i j p q) + sc (ph_at (ph_la i q) (ph_ca j q) q)).toInt ≠ (sc (ph_at i j p)).toInt := fun z => h ⟨o, Int32.toInt_inj.mp z⟩
    rw [ea q hq o] at hne
    obtain ⟨_, v, hv1, hv2⟩ := hv
    have h3 := (hV i j p hi hj hp).1 (q :: v) (by
      rw [ph_wy_eq]
      have hm : q :: v ∈ ph_br L N i j q := ph_mem_br.mpr ⟨o, v, hv1, rfl⟩
      have : q = 0 ∨ q = 1 ∨ q = 2 := by omega
      rcases this with rfl | rfl | rfl
      · exact List.mem_append_right _ (List.mem_append_left _ hm)
      · exact List.mem_append_right _ (List.mem_append_right _ (List.mem_append_left _ hm))
      · exact List.mem_append_right _ (List.mem_append_right _ (List.mem_append_right _ hm)))
    have h4 : ((ph_s lk ps wd i j p q + ph_sc (ph_s lk ps wd) (ph_la i q) (ph_ca j q) q v : Nat) : Int) ≤ (sc (ph_at i j p)).toInt := h3
    have h5 : (ph_sc (ph_s lk ps wd) (ph_la i q) (ph_ca j q) q v : Int) = (sc (ph_at (ph_la i q) (ph_ca j q) q)).toInt := hv2
    omega
  rw [ph_fd_eq he] at hf
  have F : ∀ q, q < 3 → xw_cb L N lk ps wd sc i j p q = true → ph_fbr L N (ph_s lk ps wd) i j p q (sc (ph_at i j p)).toInt = some w → ph_fbk (xw_cb L N lk ps wd sc i j p) 3 2 = q → ∃ q w', q < 3 ∧ ph_ok L N i j q = true ∧ w = q :: w' ∧ ph_fbk (xw_cb L N lk ps wd sc i j p) 3 2 = q ∧
      ph_fd L N (ph_s lk ps wd) (ph_la i q) (ph_ca j q) q (sc (ph_at (ph_la i q) (ph_ca j q) q)).toInt = some w' := by
    intro q hq hc h1 h2
    rw [(T q hq hc).1, Option.map_eq_some_iff] at h1
    obtain ⟨w', h3, h4⟩ := h1
    exact ⟨q, w', hq, (T q hq hc).2, h4.symm, h2, h3⟩
  have S : ∀ q, q < 3 → xw_cb L N lk ps wd sc i j p q = true → ∃ v, ph_fbr L N (ph_s lk ps wd) i j p q (sc (ph_at i j p)).toInt = some v := by
    intro q hq hc
    obtain ⟨h1, o⟩ := T q hq hc
    have ho := ph_ok_iff.mp o
    obtain ⟨v, hv, _⟩ := ph_fd_some (hV _ _ _ ho.1 ho.2 hq)
    exact ⟨q :: v, by rw [h1, hv]; rfl⟩
  by_cases c0 : xw_cb L N lk ps wd sc i j p 0 = true
  · obtain ⟨v, hv⟩ := S 0 (by omega) c0
    rw [hv] at hf
    refine F 0 (by omega) c0 (by rw [hv]; exact hf) ?_
    simp [ph_fbk, c0]
  · rw [U 0 (by omega) c0] at hf
    by_cases c1 : xw_cb L N lk ps wd sc i j p 1 = true
    · obtain ⟨v, hv⟩ := S 1 (by omega) c1
      rw [hv] at hf
      refine F 1 (by omega) c1 (by rw [hv]; exact hf) ?_
      simp [ph_fbk, c0, c1]
    · rw [U 1 (by omega) c1] at hf
      by_cases c2 : xw_cb L N lk ps wd sc i j p 2 = true
      · refine F 2 (by omega) c2 hf ?_
        simp [ph_fbk, c0, c1, c2]
      · rw [U 2 (by omega) c2] at hf
        cases hf
/-- the answer: step t of what is left, k steps gone, the last of kind p -/
def xw_an (t k p : Nat) (w : List Nat) : Int32 := if t < k then nI p else match w[t - k]? with | some q => nI q | none => -4
theorem xw_b22 {post : Int32 → SX → Prop} {sc : Nat → Int32} (hL : L ≤ 4) (hN : N ≤ 8) (hw : ph_bd wd 3) (hlk : ph_bd lk 9) (hps : ph_bd ps 9)
    (hV : ∀ a b c, a ≤ N → b ≤ L → c < 3 → ph_MN (fun w => (ph_sc (ph_s lk ps wd) a b c w : Int)) (ph_wy L N a b) (sc (ph_at a b c))) (t : Nat) (ht : t < 2 ^ 31) :
    ∀ (w : List Nat) (n i j p k : Nat), i ≤ N → j ≤ L → p < 3 → k + w.length ≤ 12 → w.length < n →
    ph_fd L N (ph_s lk ps wd) i j p (sc (ph_at i j p)).toInt = some w →
    post (xw_an t k p w) (nI L, nI N, lk, ps, wd, ah, be, co, sc, ti, bs) →
    wX_bestStep_22 post (nI t) (nI L) (nI N) lk ps wd ah be co sc ti bs n (nI i) (nI j) (nI p) (nI k) := by
  intro w
  induction w with
  | nil =>
    intro n i j p k hi hj hp hk hn hf h
    obtain ⟨n, rfl⟩ : ∃ m, n = m + 1 := ⟨n - 1, by simp only [List.length_nil] at hn; omega⟩
    simp only [List.length_nil] at hk
    have hm : [] ∈ ph_wy L N i j := List.mem_of_find?_eq_some hf
    have he : i = N ∧ j = L := ph_vw_of i j [] hm
    refine pk_lt t k (fun z => ?_) (fun z => pk_le 16 k (fun y => by omega) (fun y => pk_eq i N (fun x => pk_eq j L (fun x' => ?_) (fun x' => absurd he.2 x')) (fun x => absurd he.1 x)))
    · rw [xw_an, if_pos z] at h
      exact pk_le 16 t (fun y => by omega) (fun y => h)
    · rw [xw_an, if_neg (by omega)] at h
      exact h
  | cons q0 w ih =>
    intro n i j p k hi hj hp hk hn hf h
    rw [List.length_cons] at hk hn
    obtain ⟨n, rfl⟩ : ∃ m, n = m + 1 := ⟨n - 1, by omega⟩
    have hm : q0 :: w ∈ ph_wy L N i j := List.mem_of_find?_eq_some hf
    have hvw := ph_vw_of i j (q0 :: w) hm
    have hne : ¬ (i = N ∧ j = L) := by
      intro z
      have h2 := (ph_vw_len _ _ _ hvw).2.2
      rw [List.length_cons] at h2
      omega
    have K54 : ¬ t < k → wX_bestStep_54 post (wX_bestStep_22 post (nI t) (nI L) (nI N) lk ps wd ah be co sc ti bs n) (nI t) (nI i) (nI j) (nI p) (nI k) (nI L) (nI N) lk ps wd ah be co sc ti bs := by
      intro hk2
      obtain ⟨q, w', hq, o, ew, efb, hf'⟩ := xw_greedy hL hN hlk hps hi hj hp hne hV hf
      cases ew
      have ho := ph_ok_iff.mp o
      unfold wX_bestStep_54
      refine xw_firstBest hL hN hw hlk hps hi hj hp ?_
      rw [efb]
      refine xw_la hq ?_
      refine xw_ca hq ?_
      refine nm_r (e' := nI (k + 1)) (nI_1 k) ?_
      refine ih n _ _ _ (k + 1) ho.1 ho.2 hq (by omega) (by omega) hf' ?_
      have e : xw_an t (k + 1) q0 w = xw_an t k p (q0 :: w) := by
        unfold xw_an
        rw [if_neg hk2]
        by_cases e2 : t < k + 1
        · rw [if_pos e2]
          have e3 : t - k = 0 := by omega
          rw [e3]; rfl
        · rw [if_neg e2]
          have e3 : t - k = (t - (k + 1)) + 1 := by omega
          rw [e3, List.getElem?_cons_succ]
      rw [e]; exact h
    refine pk_lt t k (fun z => ?_) (fun z => pk_le 16 k (fun y => by omega) (fun y => br_c (fun x => br_c (fun x' => ?_) (fun x' => K54 (by omega))) (fun x => K54 (by omega))))
    · rw [xw_an, if_pos z] at h
      exact pk_le 16 t (fun y => by omega) (fun y => h)
    · rw [nI_eq (by omega) (by omega)] at x x'
      exact absurd ⟨x, x'⟩ hne
end
end
section
/-! greatest scores by numbers of steps -/
theorem xw_rowsK {σ : Type} {L N : Nat} (KI : Nat → σ → Prop) (KJ : Nat → Nat → σ → Prop) (WI : Nat → Int32 → σ → Prop) (WJ : Nat → Int32 → Nat → Int32 → σ → Prop)
    (k1 : ∀ k s, KI (k + 1) s → KJ k (L + 1) s) (k0 : ∀ k s, KJ k 0 s → KI k s)
    (hxI : ∀ n s, KI 0 s → WI (n + 1) (nI 0 + (-1)) s)
    (hI : ∀ n i s, i ≤ N → (∃ m, WJ n (nI i) m (nI L) s) → WI (n + 1) (nI i) s)
    (hxJ : ∀ n i m s, WI n (nI i + (-1)) s → WJ n (nI i) (m + 1) (nI 0 + (-1)) s)
    (hJ : ∀ n i m j s, i ≤ N → j ≤ L → KJ i (j + 1) s → (∀ s', KJ i j s' → WJ n (nI i) m (nI j + (-1)) s') → WJ n (nI i) (m + 1) (nI j) s) (s : σ) (hK : KI (N + 1) s) :
    ∃ n, WI n (nI N) s := by
  have H : ∀ k, k ≤ N + 1 → ∀ s, KI k s → WI (k + 1) (nI k + (-1)) s := by
    intro k
    induction k with
    | zero => intro _ s h; exact hxI 0 s h
    | succ k ih =>
      intro hk s h
      rw [pk_m1]
      refine hI _ _ _ (by omega) ?_
      have HJ : ∀ j, j ≤ L + 1 → ∀ s, KJ k j s → WJ (k + 1) (nI k) (j + 1) (nI j + (-1)) s := by
        intro j
        induction j with
        | zero => intro _ s hs; exact hxJ _ _ _ _ (ih (by omega) s (k0 k s hs))
        | succ j ihj =>
          intro hj s hs
          rw [pk_m1]
          exact hJ _ _ _ _ _ (by omega) (by omega) hs fun s' hs' => ihj (by omega) s' hs'
      have h2 := HJ (L + 1) (by omega) s (k1 k s h)
      rw [pk_m1] at h2
      exact ⟨_, h2⟩
  have h := H (N + 1) (by omega) s hK
  rw [pk_m1] at h
  exact ⟨_, h⟩
/-- elsewhere unchanged -/
def xw_fr (c : Nat) (bs' bs : Nat → Int32) : Prop := ∀ x, (∀ k, k < 13 → x ≠ c * 13 + k) → bs' x = bs x
/-- a list by numbers of steps, and the ways of a first step q added -/
def xw_ad (q : Nat) (lc lt : Nat → List (List Nat)) : Nat → List (List Nat)
  | 0 => lc 0
  | k + 1 => lc (k + 1) ++ (lt k).map (List.cons q)
section
variable {L N : Nat} {lk ps wd : Nat → Int32} {ah be : Nat → Int64} {co sc ti : Nat → Int32}
theorem xw_raise3 {post : SX → Prop} {bs : Nat → Int32} {c t more q : Nat} (hc : c < 135) (ht : t < 135) (hct : t ≠ c) (hm : more ≤ 18) {lc lt : Nat → List (List Nat)} {fc ft : List Nat → Int}
    (hf : ∀ w, fc (q :: w) = (more : Int) + ft w) (hT : ∀ k, k < 13 → ph_MX ft (lt k) (bs (t * 13 + k))) (hb : ∀ k w, w ∈ lt k → 0 ≤ ft w ∧ ft w ≤ 216)
    (h : ∀ bs', (∀ k, k < 13 → ph_MX fc (xw_ad q lc lt k) (bs' (c * 13 + k))) → xw_fr c bs' bs → post (nI L, nI N, lk, ps, wd, ah, be, co, sc, ti, bs')) :
    ∀ (n k : Nat) (bs' : Nat → Int32), 1 ≤ k → k ≤ 13 → 13 < n + k → (∀ k', k' < 13 → k' < k → ph_MX fc (xw_ad q lc lt k') (bs' (c * 13 + k'))) → (∀ k', k' < 13 → k ≤ k' → ph_MX fc (lc k') (bs' (c * 13 + k'))) → xw_fr c bs' bs →
    wX_raise_3 post (nI c) (nI t) (nI more) (nI L) (nI N) n (nI k) lk ps wd ah be co sc ti bs' := by
  intro n
  induction n with
  | zero => intro k bs' h1 h2 h3; omega
  | succ n ih =>
    intro k bs' h1 h2 h3 hA hB hF
    refine pk_le 13 k (fun z => h bs' (fun k' hk' => hA k' hk' (by omega)) hF) (fun z => ?_)
    obtain ⟨m, rfl⟩ : ∃ m, k = m + 1 := ⟨k - 1, by omega⟩
    have e1 : nI t * 13 + nI (m + 1) - 1 = nI (t * 13 + m) := by
      show nI t * nI 13 + nI (m + 1) - 1 = _
      rw [pk_mul, nI_add, ← Nat.add_assoc, nI_pred]
    have e2 : nI c * 13 + nI (m + 1) = nI (c * 13 + (m + 1)) := by
      show nI c * nI 13 + nI (m + 1) = _
      rw [pk_mul, nI_add]
    have hbt : bs' (t * 13 + m) = bs (t * 13 + m) := hF _ (fun k' hk' e => by omega)
    have hin1 : vp_in (nI (t * 13 + m)) 1755 := vp_in_nI (by omega) (by omega)
    have hin2 : vp_in (nI (c * 13 + (m + 1))) 1755 := vp_in_nI (by omega) (by omega)
    rw [e1, e2, nI_clamp (n := t * 13 + m) (by omega), nI_clamp (n := c * 13 + (m + 1)) (by omega), hbt]
    have hT1 := hT m (by omega)
    have hB1 := hB (m + 1) z (by omega)
    -- what is kept when the cell itself is as wanted
    have next : ∀ b2 : Nat → Int32, (∀ x, x ≠ c * 13 + (m + 1) → b2 x = bs' x) → ph_MX fc (xw_ad q lc lt (m + 1)) (b2 (c * 13 + (m + 1))) → wX_raise_3 post (nI c) (nI t) (nI more) (nI L) (nI N) n (nI (m + 1 + 1)) lk ps wd ah be co sc ti b2 := by
      intro b2 hb2 hM
      refine ih (m + 1 + 1) b2 (by omega) (by omega) (by omega) (fun k' a b => ?_) (fun k' a b => ?_) (fun x hx => ?_)
      · by_cases e : k' = m + 1
        · rw [e]; exact hM
        · rw [hb2 _ (by omega)]; exact hA k' a (by omega)
      · rw [hb2 _ (by omega)]; exact hB k' a (by omega)
      · rw [hb2 x (hx (m + 1) z)]; exact hF x hx
    rcases hT1 with ⟨hl, hlow⟩ | hMN
    · rw [hlow]
      refine ⟨hin1, nm_e ⟨hin1, br_t (Int32.le_refl _) (nm_r (e' := nI (m + 1 + 1)) (nI_1 _) ?_)⟩⟩
      refine next bs' (fun _ _ => rfl) ?_
      rw [xw_ad, hl, List.map_nil, List.append_nil]
      exact hB1
    · obtain ⟨v, hv, ev⟩ := hMN.2
      have hbv := hb m v hv
      have ea : (bs (t * 13 + m) + nI more).toInt = (more : Int) + (bs (t * 13 + m)).toInt := by
        have := ph_arith (sg := 1) (g := 1) (Or.inl ⟨rfl, rfl⟩) hm (y := bs (t * 13 + m)) (by omega)
        rw [Int32.one_mul, Int.one_mul] at this
        rw [Int32.add_comm]; exact this
      have hMN2 : ph_MN fc ((lt m).map (List.cons q)) (bs (t * 13 + m) + nI more) := ph_MN_map hf hMN ea
      have hnl : ¬ bs (t * 13 + m) ≤ -1000000 := by
        rw [Int32.le_iff_toInt_le, ph_low]
        omega
      refine ⟨hin1, nm_e ⟨hin1, br_f hnl ⟨hin2, br_c (fun a => nm_r (e' := nI (m + 1 + 1)) (nI_1 _) ?lo) (fun a => ⟨hin2, nm_e (nm_r (e' := nI (m + 1 + 1)) (nI_1 _) ?hi)⟩)⟩⟩⟩
      case lo =>
        refine next bs' (fun _ _ => rfl) ?_
        exact ph_MX_lo hB1 hMN2 (by omega) a
      case hi =>
        refine next _ (fun x hx => pk_un hx) ?_
        rw [pk_us]
        exact ph_MX_hi hB1 hMN2 a
def xw_PS (L N : Nat) (lk ps wd : Nat → Int32) (bs : Nat → Int32) (i j p : Nat) : Prop :=
  ∀ k, k < 13 → ph_MX (fun w => (ph_sc (ph_s lk ps wd) i j p w : Int)) (ph_fs (ph_wy L N i j) k) (bs (ph_at i j p * 13 + k))
def xw_PSp (L N : Nat) (lk ps wd : Nat → Int32) (bs : Nat → Int32) (i j p q : Nat) : Prop :=
  ∀ k, k < 13 → ph_MX (fun w => (ph_sc (ph_s lk ps wd) i j p w : Int)) (ph_fs (ph_pt L N i j q) k) (bs (ph_at i j p * 13 + k))
theorem xw_st46 {post : SX → Prop} {bs0 : Nat → Int32}
    {J2 : Int32 → Int32 → Int32 → (Nat → Int32) → (Nat → Int32) → (Nat → Int32) → (Nat → Int64) → (Nat → Int64) → (Nat → Int32) → (Nat → Int32) → (Nat → Int32) → (Nat → Int32) → Prop}
    (hL : L ≤ 4) (hN : N ≤ 8) (hw : ph_bd wd 3) (hlk : ph_bd lk 9) (hps : ph_bd ps 9) {i j p : Nat} (hi : i ≤ N) (hj : j ≤ L) (hp : p < 3) (hV : ph_dJ L N (xw_PS L N lk ps wd bs0) i (j + 1))
    (h : ∀ bs', xw_PS L N lk ps wd bs' i j p → xw_fr (ph_at i j p) bs' bs0 → J2 (nI (p + 1)) (nI L) (nI N) lk ps wd ah be co sc ti bs') : ∀ (n q : Nat) (bs : Nat → Int32), q ≤ 3 → 3 < n + q →
    xw_PSp L N lk ps wd bs i j p q → xw_fr (ph_at i j p) bs bs0 →
    wX_stepsAt_46 post J2 (nI i) (nI j) (nI p) (nI (ph_at i j p)) n (nI q) (nI L) (nI N) lk ps wd ah be co sc ti bs := by
  intro n
  induction n with
  | zero => intro q bs h1 h2; omega
  | succ n ih =>
    intro q bs h1 h2 hP hF
    have l1 := ph_la_up i q
    have l2 := ph_ca_up j q
    have hat : ph_at i j p < 135 := ph_at_lt (by omega) (by omega) hp
    refine pk_le 3 q (fun z => nm_r (e' := nI (p + 1)) (nI_1 p) ?ex) (fun z => xw_pos hL hN hi hj z (fun o => br_f (by decide) ?yy) (fun o => br_t rfl ?nn))
    case ex =>
      have e3 : q = 3 := by omega
      subst e3
      refine h bs (fun k hk => ?_) hF
      have := hP k hk
      rw [ph_pt_3] at this
      exact this
    case yy =>
      have ho := ph_ok_iff.mp o
      have lc := ph_lc i j q
      have hat2 : ph_at (ph_la i q) (ph_ca j q) q < 135 := ph_at_lt (by omega) (by omega) z
      have hne : ph_at (ph_la i q) (ph_ca j q) q ≠ ph_at i j p := by
        intro e
        have := ph_at_inj (by omega) (by omega) z hp e
        omega
      refine xw_la z ?_
      refine xw_ca z ?_
      refine xw_at ?_
      refine xw_sof hL hN hw hlk hps hp z o ?_
      have hv : xw_PS L N lk ps wd bs0 (ph_la i q) (ph_ca j q) q := ph_dJ_rd hV z o
      refine ⟨13, xw_raise3 (q := q) (bs := bs) hat hat2 hne (ph_s_le hlk hps i j p q) (lc := ph_fs (ph_pt L N i j q)) (lt := ph_fs (ph_wy L N (ph_la i q) (ph_ca j q))) (fc := fun w => (ph_sc (ph_s lk ps wd) i j p w : Int)) (ft := fun w => (ph_sc (ph_s lk ps wd) (ph_la i q) (ph_ca j q) q w : Int)) ?_ ?_ ?_ ?_ 13 1 bs (by omega) (by omega) (by omega) ?_ ?_ ?_⟩
      · intro w
        show ((ph_s lk ps wd i j p q + ph_sc (ph_s lk ps wd) (ph_la i q) (ph_ca j q) q w : Nat) : Int) = _
        rw [Int.natCast_add]
      · intro k hk
        rw [hF _ (fun k' hk' e => by omega)]
        exact hv k hk
      · intro k w hwm
        have h3 := ph_sc_wy (s := ph_s lk ps wd) (ph_s_le hlk hps) hL hN (ph_mem_fs.mp hwm).1 q
        omega
      · intro bs' hbs hfr
        refine nm_r (e' := nI (q + 1)) (nI_1 q) (ih (q + 1) bs' (by omega) (by omega) (fun k hk => ?_) (fun x hx => ?_))
        · have h4 := hbs k hk
          have e : ph_fs (ph_pt L N i j (q + 1)) k = xw_ad q (ph_fs (ph_pt L N i j q)) (ph_fs (ph_wy L N (ph_la i q) (ph_ca j q))) k := by
            rw [ph_pt, ph_fs_app, ph_br, if_pos o]
            cases k with
            | zero => rw [ph_fs_map0, List.append_nil]; rfl
            | succ k => rw [ph_fs_map]; rfl
          rw [e]; exact h4
        · rw [hfr x hx]; exact hF x hx
      · intro k' a b
        have e0 : k' = 0 := by omega
        subst e0
        exact hP 0 (by omega)
      · intro k' a b
        exact hP k' a
      · intro x _
        rfl
    case nn =>
      refine nm_r (e' := nI (q + 1)) (nI_1 q) (ih (q + 1) bs (by omega) (by omega) (fun k hk => ?_) hF)
      have e : ph_pt L N i j (q + 1) = ph_pt L N i j q := by rw [ph_pt, ph_br, if_neg o, List.append_nil]
      rw [e]
      exact hP k hk
/-- the cells ahead are still low -/
def xw_lw (bs : Nat → Int32) (i j p : Nat) : Prop := ∀ k, k < 13 → bs (ph_at i j p * 13 + k) = -1000000
def xw_fr3 (i j : Nat) (bs' bs : Nat → Int32) : Prop := ∀ x, (∀ p k, p < 3 → k < 13 → x ≠ ph_at i j p * 13 + k) → bs' x = bs x
theorem xw_st2 {post : SX → Prop} {bs0 : Nat → Int32} (hL : L ≤ 4) (hN : N ≤ 8) (hw : ph_bd wd 3) (hlk : ph_bd lk 9) (hps : ph_bd ps 9) {i j : Nat} (hi : i ≤ N) (hj : j ≤ L)
    (h : ∀ bs', ph_dJ L N (xw_PS L N lk ps wd bs') i j → xw_fr3 i j bs' bs0 → post (nI L, nI N, lk, ps, wd, ah, be, co, sc, ti, bs')) : ∀ (n p : Nat) (bs : Nat → Int32), p ≤ 3 → 3 < n + p →
    ph_dJ L N (xw_PS L N lk ps wd bs) i (j + 1) → (∀ p', p' < p → xw_PS L N lk ps wd bs i j p') → (∀ p', p ≤ p' → p' < 3 → xw_lw bs i j p') → xw_fr3 i j bs bs0 →
    wX_stepsAt_2 post (nI i) (nI j) n (nI p) (nI L) (nI N) lk ps wd ah be co sc ti bs := by
  intro n
  induction n with
  | zero => intro p bs h1 h2; omega
  | succ n ih =>
    intro p bs h1 h2 hV hC hW hF
    refine pk_le 3 p (fun z => h bs (ph_dJ_dn hV fun p' hp' => hC p' (by omega)) hF) (fun z => ?_)
    have hat : ph_at i j p < 135 := ph_at_lt (by omega) (by omega) z
    have K : ∀ b1 : Nat → Int32, xw_fr (ph_at i j p) b1 bs → xw_PSp L N lk ps wd b1 i j p 0 → ∃ n46, wX_stepsAt_46 post (wX_stepsAt_2 post (nI i) (nI j) n) (nI i) (nI j) (nI p) (nI (ph_at i j p)) n46 0 (nI L) (nI N) lk ps wd ah be co sc ti b1 := by
      intro b1 hf1 hp1
      refine ⟨4, xw_st46 (bs0 := bs) hL hN hw hlk hps hi hj z hV (fun bs' hS hfr => ?_) 4 0 b1 (by omega) (by omega) hp1 hf1⟩
      refine ih (p + 1) bs' (by omega) (by omega) ?_ ?_ ?_ ?_
      · refine ph_dJ_mono hV fun i' j' p' a b c d k hk => ?_
        rw [hfr]
        · exact d k hk
        · intro k' hk' e
          have e2 : ph_at i' j' p' = ph_at i j p := by omega
          have := ph_at_inj (by omega) (by omega) b z e2
          exact c ⟨this.1, this.2.1⟩
      · intro p' hp'
        by_cases e : p' = p
        · rw [e]; exact hS
        · intro k hk
          rw [hfr]
          · exact hC p' (by omega) k hk
          · intro k' hk' e1
            have e2 : ph_at i j p' = ph_at i j p := by omega
            have := ph_at_inj (by omega) (by omega) (by omega) z e2
            exact e this.2.2
      · intro p' a b k hk
        rw [hfr]
        · exact hW p' (by omega) b k hk
        · intro k' hk' e1
          have e2 : ph_at i j p' = ph_at i j p := by omega
          have := ph_at_inj (by omega) (by omega) b z e2
          omega
      · intro x hx
        rw [hfr x (fun k hk => hx p k z hk)]
        exact hF x hx
    have hlw := hW p (Nat.le_refl _) z
    have Kn : ¬ (i = N ∧ j = L) → ∃ n46, wX_stepsAt_46 post (wX_stepsAt_2 post (nI i) (nI j) n) (nI i) (nI j) (nI p) (nI (ph_at i j p)) n46 0 (nI L) (nI N) lk ps wd ah be co sc ti bs := by
      intro he
      refine K bs (fun _ _ => rfl) (fun k hk => Or.inl ⟨?_, hlw k hk⟩)
      rw [ph_pt, ph_e, if_neg he]; rfl
    refine xw_at ?_
    refine pk_eq i N (fun a => pk_eq j L (fun b => ?_) (fun b => Kn fun c => b c.2)) (fun a => Kn fun c => a c.1)
    have e13 : nI (ph_at i j p) * 13 = nI (ph_at i j p * 13) := pk_mul _ 13
    rw [e13, nI_clamp (n := ph_at i j p * 13) (by omega)]
    refine ⟨vp_in_nI (by omega) (by omega), nm_e (K _ (fun x hx => pk_un ?_) fun k hk => ?_)⟩
    · exact hx 0 (by omega)
    · rw [ph_pt, ph_e, if_pos ⟨a, b⟩]
      cases k with
      | zero =>
        refine Or.inr ⟨fun w hwm => ?_, [], ph_mem_fs.mpr ⟨List.mem_singleton.mpr rfl, rfl⟩, ?_⟩
        · have := List.mem_singleton.mp (ph_mem_fs.mp hwm).1
          rw [this, Nat.add_zero, pk_us]
          show ((0 : Nat) : Int) ≤ (0 : Int32).toInt
          decide
        · rw [Nat.add_zero, pk_us]
          show ((0 : Nat) : Int) = (0 : Int32).toInt
          decide
      | succ k =>
        refine Or.inl ⟨rfl, ?_⟩
        rw [pk_un (by omega)]
        exact hlw (k + 1) hk
def xw_KJ (L N : Nat) (lk ps wd : Nat → Int32) (i m : Nat) (bs : Nat → Int32) : Prop := ph_dJ L N (xw_PS L N lk ps wd bs) i m ∧ ∀ i' j' p', i' ≤ N → j' ≤ L → p' < 3 → (i' < i ∨ (i' = i ∧ j' < m)) → xw_lw bs i' j' p'
def xw_KI (L N : Nat) (lk ps wd : Nat → Int32) (m : Nat) (bs : Nat → Int32) : Prop := ph_dI L N (xw_PS L N lk ps wd bs) m ∧ ∀ i' j' p', i' ≤ N → j' ≤ L → p' < 3 → i' < m → xw_lw bs i' j' p'
theorem xw_s47 {post : SX → Prop} (hL : L ≤ 4) (hN : N ≤ 8) (hw : ph_bd wd 3) (hlk : ph_bd lk 9) (hps : ph_bd ps 9) {bs : Nat → Int32} (hlow : ∀ x, x < 1755 → bs x = -1000000)
    (h : ∀ bs', xw_PS L N lk ps wd bs' 0 0 0 → post (nI L, nI N, lk, ps, wd, ah, be, co, sc, ti, bs')) :
    ∃ n, wX_fillBySteps_47 post n (nI N) (nI L) (nI N) lk ps wd ah be co sc ti bs := by
  refine xw_rowsK (L := L) (N := N) (xw_KI L N lk ps wd) (xw_KJ L N lk ps wd) (fun n x s => wX_fillBySteps_47 post n x (nI L) (nI N) lk ps wd ah be co sc ti s)
    (fun n x m y s => wX_fillBySteps_56 post (wX_fillBySteps_47 post n) x m y (nI L) (nI N) lk ps wd ah be co sc ti s) ?_ ?_ ?_ ?_ ?_ ?_ bs ?_
  · intro k s hs
    exact ⟨fun i j p a b c d => hs.1 i j p (by omega) a b c, fun i j p a b c d => hs.2 i j p a b c (by omega)⟩
  · intro k s hs
    exact ⟨fun i j p a b c d => hs.1 i j p b c d (by omega), fun i j p a b c d => hs.2 i j p a b c (by omega)⟩
  · intro n s hs
    exact br_t (by decide) (h s (hs.1 0 0 0 (by omega) (by omega) (by omega) (by omega)))
  · intro n i s hi hm
    exact br_f (nI_pos (by omega)) hm
  · intro n i m s hs
    exact br_t (by decide) (nm_e hs)
  · intro n i m j s hi hj hs hn
    refine br_f (nI_pos (by omega)) ?_
    refine ⟨4, xw_st2 (bs0 := s) hL hN hw hlk hps hi hj (fun bs' hb hfr => ?_) 4 0 s (by omega) (by omega) hs.1 (fun p' hp' => by omega) (fun p' _ hp' => hs.2 i j p' hi hj hp' (by omega)) (fun _ _ => rfl)⟩
    refine nm_e (hn bs' ⟨hb, fun i' j' p' a b c d k hk => ?_⟩)
    rw [hfr]
    · exact hs.2 i' j' p' a b c (by omega) k hk
    · intro p2 k2 hp2 hk2 e
      have e2 : ph_at i' j' p' = ph_at i j p2 := by omega
      have := ph_at_inj (by omega) (by omega) c hp2 e2
      omega
  · refine ⟨fun i j p a b c d => by omega, fun i j p a b c d k hk => hlow _ ?_⟩
    have := ph_at_lt (i := i) (j := j) (k := p) (by omega) (by omega) c
    omega
theorem xw_fillBySteps {post : SX → Prop} (hL : L ≤ 4) (hN : N ≤ 8) (hw : ph_bd wd 3) (hlk : ph_bd lk 9) (hps : ph_bd ps 9) {bs : Nat → Int32}
    (h : ∀ bs', xw_PS L N lk ps wd bs' 0 0 0 → post (nI L, nI N, lk, ps, wd, ah, be, co, sc, ti, bs')) :
    wpX_fillBySteps post (nI L, nI N, lk, ps, wd, ah, be, co, sc, ti, bs) := by
  have H11 : ∀ (J2 : Int32 → (Nat → Int32) → (Nat → Int32) → (Nat → Int32) → (Nat → Int64) → (Nat → Int64) → (Nat → Int32) → (Nat → Int32) → (Nat → Int32) → (Nat → Int32) → Prop) (c : Nat), c < 135 → (∀ b, (∀ x, x < (c + 1) * 13 → b x = -1000000) → J2 (nI (c + 1)) lk ps wd ah be co sc ti b) →
      ∀ (n k : Nat) (b : Nat → Int32), k ≤ 13 → 13 < n + k → (∀ x, x < c * 13 + k → b x = -1000000) → wX_fillBySteps_11 post J2 (nI c) (nI L) (nI N) n (nI k) lk ps wd ah be co sc ti b := by
    intro J2 c hc hJ n
    induction n with
    | zero => intro k b h1 h2; omega
    | succ n ih =>
      intro k b h1 h2 hb
      refine pk_le 13 k (fun z => nm_r (e' := nI (c + 1)) (nI_1 c) (hJ b fun x hx => hb x (by omega))) (fun z => ?_)
      have e : nI c * 13 + nI k = nI (c * 13 + k) := by
        show nI c * nI 13 + nI k = _
        rw [pk_mul, nI_add]
      rw [e, nI_clamp (n := c * 13 + k) (by omega)]
      refine ⟨vp_in_nI (by omega) (by omega), nm_e (nm_r (e' := nI (k + 1)) (nI_1 k) (ih (k + 1) _ (by omega) (by omega) fun x hx => ?_))⟩
      by_cases e2 : x = c * 13 + k
      · rw [e2, pk_us]
      · rw [pk_un e2]; exact hb x (by omega)
  have H2 : ∀ (n c : Nat) (b : Nat → Int32), c ≤ 135 → 135 < n + c → (∀ x, x < c * 13 → b x = -1000000) → wX_fillBySteps_2 post (nI L) (nI N) n (nI c) lk ps wd ah be co sc ti b := by
    intro n
    induction n with
    | zero => intro c b h1 h2; omega
    | succ n ih =>
      intro c b h1 h2 hb
      refine pk_le 135 c (fun z => xw_s47 hL hN hw hlk hps (fun x hx => hb x (by omega)) h) (fun z => ⟨14, ?_⟩)
      exact H11 _ c z (fun b' hb' => ih (c + 1) b' (by omega) (by omega) hb') 14 0 b (by omega) (by omega) (fun x hx => hb x (by omega))
  exact ⟨136, H2 136 0 bs (by omega) (by omega) (fun x hx => by omega)⟩
end
end
section
/-! weights of beginnings -/
theorem ph_la_inj {i i' q : Nat} (h : ph_la i' q = ph_la i q) : i' = i := by
  unfold ph_la at h
  split at h <;> omega
theorem ph_ca_inj {i i' q : Nat} (h : ph_ca i' q = ph_ca i q) : i' = i := by
  unfold ph_ca at h
  split at h <;> omega
def ph_to (i j q : Nat) : Nat := ph_at (ph_la i q) (ph_ca j q) q
/-- what has come from (i, j) by a step of kind r, its kinds below k before -/
def xw_S (lk ps wd : Nat → Int32) (a0 : Nat → Int64) (i j r k : Nat) : Int64 := ph_sm (fun t => a0 (ph_at i j t) * ph_F lk ps wd i j t r) k
def xw_GI (L N : Nat) (lk ps wd : Nat → Int32) (a0 : Nat → Int64) (i j p q : Nat) (ah : Nat → Int64) : Prop :=
  (∀ r, r < 3 → ph_ok L N i j r = true → ah (ph_to i j r) = xw_S lk ps wd a0 i j r (if r < q then p + 1 else p)) ∧ (∀ x, (∀ r, r < 3 → ph_ok L N i j r = true → x ≠ ph_to i j r) → ah x = a0 x)
section
variable {L N : Nat} {lk ps wd : Nat → Int32} {be : Nat → Int64} {co sc ti bs : Nat → Int32}
theorem ph_to_ne (hL : L ≤ 4) {i j p r : Nat} (hj : j ≤ L) (hp : p < 3) (hr : r < 3) (o : ph_ok L N i j r = true) : ph_at i j p ≠ ph_to i j r := by
  intro e
  have ho := ph_ok_iff.mp o
  have lc := ph_lc i j r
  have := ph_at_inj (by omega) (by omega) hp hr e
  omega
theorem xw_go10 {post : SX → Prop} {J2 : Int32 → (Nat → Int32) → (Nat → Int32) → (Nat → Int32) → (Nat → Int64) → (Nat → Int64) → (Nat → Int32) → (Nat → Int32) → (Nat → Int32) → (Nat → Int32) → Prop} {a0 : Nat → Int64}
    (hL : L ≤ 4) (hN : N ≤ 8) (hw : ph_bd wd 3) (hlk : ph_bd lk 9) (hps : ph_bd ps 9) {i j p : Nat} (hi : i ≤ N) (hj : j ≤ L) (hp : p < 3)
    (h : ∀ ah', xw_GI L N lk ps wd a0 i j p 3 ah' → J2 (nI (p + 1)) lk ps wd ah' be co sc ti bs) : ∀ (n q : Nat) (ah : Nat → Int64), q ≤ 3 → 3 < n + q → xw_GI L N lk ps wd a0 i j p q ah →
    wX_goOn_10 post J2 (nI i) (nI j) (nI p) (nI L) (nI N) n (nI q) lk ps wd ah be co sc ti bs := by
  intro n
  induction n with
  | zero => intro q ah h1 h2; omega
  | succ n ih =>
    intro q ah h1 h2 hG
    have l1 := ph_la_up i q
    have l2 := ph_ca_up j q
    have hat : ph_at i j p < 135 := ph_at_lt (by omega) (by omega) hp
    refine pk_le 3 q (fun z => nm_r (e' := nI (p + 1)) (nI_1 p) ?ex) (fun z => xw_pos hL hN hi hj z (fun o => br_f (by decide) ?yy) (fun o => br_t rfl ?nn))
    case ex =>
      have e3 : q = 3 := by omega
      subst e3
      exact h ah hG
    case yy =>
      have ho := ph_ok_iff.mp o
      have hat2 : ph_to i j q < 135 := ph_at_lt (by omega) (by omega) z
      have hc2 : (nI (ph_to i j q)).toNatClampNeg = ph_to i j q := nI_clamp (by omega)
      have hin2 : vp_in (nI (ph_to i j q)) 135 := vp_in_nI hat2 (by omega)
      refine xw_la z ?_
      refine xw_ca z ?_
      refine xw_at ?_
      show vp_in (nI p * 3 + nI q) 9 ∧ _
      rw [ph_ixp, nI_clamp (n := p * 3 + q) (by omega)]
      refine ⟨vp_in_nI (by omega) (by omega), xw_lik hL hN hw z o ?_⟩
      refine nm_r (e' := ph_F lk ps wd i j p q) (ph_lkv hlk hps i j p q) ⟨hin2, ?_⟩
      refine xw_at ?_
      refine ⟨vp_in_nI hat (by omega), hin2, ?_⟩
      show ∀ a : Nat → Int64, a = vp_updL ah (nI (ph_to i j q)).toNatClampNeg (ah (nI (ph_to i j q)).toNatClampNeg + ah (nI (ph_at i j p)).toNatClampNeg * ph_F lk ps wd i j p q) → _
      rw [hc2, nI_clamp (n := ph_at i j p) (by omega)]
      refine nm_e (nm_r (e' := nI (q + 1)) (nI_1 q) (ih (q + 1) _ (by omega) (by omega) ⟨fun r hr o2 => ?_, fun x hx => ?_⟩))
      · by_cases e : r = q
        · subst e
          rw [pk_uLs, if_pos (by omega), hG.1 r hr o, if_neg (by omega), hG.2 (ph_at i j p) (fun r hr o => ph_to_ne hL hj hp hr o)]
          rfl
        · have ho2 := ph_ok_iff.mp o2
          rw [pk_uLn, hG.1 r hr o2]
          · by_cases hlt : r < q
            · rw [if_pos hlt, if_pos (by omega)]
            · rw [if_neg hlt, if_neg (by omega)]
          · intro e2
            have := ph_at_inj (by omega) (by omega) hr z e2
            exact e this.2.2
      · rw [pk_uLn (hx q z o)]
        exact hG.2 x hx
    case nn =>
      refine nm_r (e' := nI (q + 1)) (nI_1 q) (ih (q + 1) ah (by omega) (by omega) ⟨fun r hr o2 => ?_, hG.2⟩)
      have e : r ≠ q := fun z => o (z ▸ o2)
      rw [hG.1 r hr o2]
      by_cases hlt : r < q
      · rw [if_pos hlt, if_pos (by omega)]
      · rw [if_neg hlt, if_neg (by omega)]
theorem xw_go2 {post : SX → Prop} {a0 : Nat → Int64} (hL : L ≤ 4) (hN : N ≤ 8) (hw : ph_bd wd 3) (hlk : ph_bd lk 9) (hps : ph_bd ps 9) {i j : Nat} (hi : i ≤ N) (hj : j ≤ L)
    (h : ∀ ah', xw_GI L N lk ps wd a0 i j 3 0 ah' → post (nI L, nI N, lk, ps, wd, ah', be, co, sc, ti, bs)) : ∀ (n p : Nat) (ah : Nat → Int64), p ≤ 3 → 3 < n + p → xw_GI L N lk ps wd a0 i j p 0 ah →
    wX_goOn_2 post (nI i) (nI j) (nI L) (nI N) n (nI p) lk ps wd ah be co sc ti bs := by
  intro n
  induction n with
  | zero => intro p ah h1 h2; omega
  | succ n ih =>
    intro p ah h1 h2 hG
    refine pk_le 3 p (fun z => ?_) (fun z => ⟨4, xw_go10 hL hN hw hlk hps hi hj z (fun ah' hG' => ?_) 4 0 ah (by omega) (by omega) hG⟩)
    · have e3 : p = 3 := by omega
      subst e3
      exact h ah hG
    · refine ih (p + 1) ah' (by omega) (by omega) ⟨fun r hr o => ?_, hG'.2⟩
      rw [hG'.1 r hr o, if_pos hr, if_neg (by omega)]
/-- the places before (i, j) have gone on -/
def xw_lx (i' j' i j : Nat) : Prop := i' < i ∨ (i' = i ∧ j' < j)
def xw_AI (L N : Nat) (lk ps wd : Nat → Int32) (i j : Nat) (ah : Nat → Int64) : Prop :=
  (∀ i' j' q, j' ≤ L → q < 3 → ph_ok L N i' j' q = true → xw_lx i' j' i j → ah (ph_to i' j' q) = ph_ah L N (ph_F lk ps wd) (ph_la i' q) (ph_ca j' q) q) ∧
  (∀ a b c, a ≤ N → b ≤ L → c < 3 → (∀ i' j', j' ≤ L → xw_lx i' j' i j → ¬ (ph_la i' c = a ∧ ph_ca j' c = b)) → ah (ph_at a b c) = ph_dl a b c 0 0 0)
theorem xw_AI_rd {i j : Nat} {ah : Nat → Int64} (h : xw_AI L N lk ps wd i j ah) (a b c : Nat) (ha : a ≤ N) (hb : b ≤ L) (hc : c < 3) (hx : ∀ i' j', ph_la i' c = a → ph_ca j' c = b → xw_lx i' j' i j) :
    ah (ph_at a b c) = ph_ah L N (ph_F lk ps wd) a b c := by
  by_cases e : ∃ i' j', ph_la i' c = a ∧ ph_ca j' c = b
  · obtain ⟨i', j', rfl, rfl⟩ := e
    have l2 := ph_ca_le j' c
    exact h.1 i' j' c (by omega) hc (ph_ok_iff.mpr ⟨ha, hb⟩) (hx i' j' rfl rfl)
  · rw [h.2 a b c ha hb hc (fun i' j' _ _ z => e ⟨i', j', z⟩), ph_ah_none]
    intro i' j' z
    exact e ⟨i', j', z⟩
theorem xw_goOn {post : SX → Prop} {ah : Nat → Int64} (hL : L ≤ 4) (hN : N ≤ 8) (hw : ph_bd wd 3) (hlk : ph_bd lk 9) (hps : ph_bd ps 9) {i j : Nat} (hi : i ≤ N) (hj : j ≤ L) (hA : xw_AI L N lk ps wd i j ah)
    (h : ∀ ah', xw_AI L N lk ps wd i (j + 1) ah' → post (nI L, nI N, lk, ps, wd, ah', be, co, sc, ti, bs)) :
    wpX_goOn post (nI L, nI N, lk, ps, wd, ah, be, co, sc, ti, bs) (nI i) (nI j) := by
  have hz : ∀ r, r < 3 → ph_ok L N i j r = true → ah (ph_to i j r) = 0 := by
    intro r hr o
    have ho := ph_ok_iff.mp o
    have lc := ph_lc i j r
    have h2 := hA.2 (ph_la i r) (ph_ca j r) r ho.1 ho.2 hr (fun i' j' _ hx z => by
      have e1 := ph_la_inj z.1
      have e2 := ph_ca_inj z.2
      unfold xw_lx at hx
      omega)
    rw [ph_dl_0 (by omega)] at h2
    exact h2
  have hc : ∀ p, p < 3 → ah (ph_at i j p) = ph_ah L N (ph_F lk ps wd) i j p := by
    intro p hp
    refine xw_AI_rd hA i j p hi hj hp fun i' j' e1 e2 => ?_
    have lc := ph_lc i' j' p
    have l1 := ph_la_le i' p
    have l2 := ph_ca_le j' p
    unfold xw_lx
    omega
  refine ⟨4, xw_go2 (a0 := ah) hL hN hw hlk hps hi hj (fun ah' hG => h ah' ?_) 4 0 ah (by omega) (by omega) ⟨fun r hr o => ?_, fun _ _ => rfl⟩⟩
  · refine ⟨fun i' j' q hj' hq o hx => ?_, fun a b c ha hb hc' hno => ?_⟩
    · by_cases e : i' = i ∧ j' = j
      · obtain ⟨rfl, rfl⟩ := e
        rw [hG.1 q hq o, if_neg (by omega), ph_ah_pull _ i' j' q hq o, xw_S, ph_sm, ph_sm, ph_sm, ph_sm, hc 0 (by omega), hc 1 (by omega), hc 2 (by omega), Int64.zero_add, Int64.add_assoc]
      · have ho := ph_ok_iff.mp o
        rw [hG.2]
        · refine hA.1 i' j' q hj' hq o ?_
          unfold xw_lx at hx ⊢
          omega
        · intro r hr o2 e2
          have ho2 := ph_ok_iff.mp o2
          obtain ⟨z1, z2, z3⟩ := ph_at_inj (by omega) (by omega) hq hr e2
          subst z3
          exact e ⟨ph_la_inj z1, ph_ca_inj z2⟩
    · rw [hG.2]
      · refine hA.2 a b c ha hb hc' fun i' j' hj' hx z => hno i' j' hj' ?_ z
        unfold xw_lx at hx ⊢
        omega
      · intro r hr o2 e2
        have ho2 := ph_ok_iff.mp o2
        obtain ⟨z1, z2, z3⟩ := ph_at_inj (by omega) (by omega) hc' hr e2
        subst z3
        exact hno i j hj (Or.inr ⟨rfl, by omega⟩) ⟨z1.symm, z2.symm⟩
  · rw [hz r hr o, if_neg (by omega)]; rfl
def xw_PA (L N : Nat) (lk ps wd : Nat → Int32) (ah : Nat → Int64) : Prop := ∀ a b c, a ≤ N → b ≤ L → c < 3 → ah (ph_at a b c) = ph_ah L N (ph_F lk ps wd) a b c
theorem xw_fillAhead {post : SX → Prop} (hL : L ≤ 4) (hN : N ≤ 8) (hw : ph_bd wd 3) (hlk : ph_bd lk 9) (hps : ph_bd ps 9) {ah : Nat → Int64}
    (h : ∀ ah', xw_PA L N lk ps wd ah' → post (nI L, nI N, lk, ps, wd, ah', be, co, sc, ti, bs)) :
    wpX_fillAhead post (nI L, nI N, lk, ps, wd, ah, be, co, sc, ti, bs) := by
  have H41 : ∀ (J31 : Int32 → Int32 → Int32 → (Nat → Int32) → (Nat → Int32) → (Nat → Int32) → (Nat → Int64) → (Nat → Int64) → (Nat → Int32) → (Nat → Int32) → (Nat → Int32) → (Nat → Int32) → Prop) (i : Nat), i ≤ N → (∀ a, xw_AI L N lk ps wd (i + 1) 0 a → J31 (nI (i + 1)) (nI L) (nI N) lk ps wd a be co sc ti bs) →
      ∀ (n j : Nat) (a : Nat → Int64), j ≤ L + 1 → L + 1 < n + j → xw_AI L N lk ps wd i j a → wX_fillAhead_41 post J31 (nI i) n (nI j) (nI L) (nI N) lk ps wd a be co sc ti bs := by
    intro J31 i hi hJ n
    induction n with
    | zero => intro j a h1 h2; omega
    | succ n ih =>
      intro j a h1 h2 hA
      refine pk_lt L j (fun z => nm_r (e' := nI (i + 1)) (nI_1 i) (hJ a ?_)) (fun z => xw_goOn hL hN hw hlk hps hi z hA fun a' hA' => nm_r (e' := nI (j + 1)) (nI_1 j) (ih (j + 1) a' (by omega) (by omega) hA'))
      refine ⟨fun i' j' q hj' hq o hx => hA.1 i' j' q hj' hq o ?_, fun x b c hx hb hc hno => hA.2 x b c hx hb hc fun i' j' hj' hx => hno i' j' hj' ?_⟩
      · unfold xw_lx at hx ⊢; omega
      · unfold xw_lx at hx ⊢; omega
  have H31 : ∀ (n i : Nat) (a : Nat → Int64), i ≤ N + 1 → N + 1 < n + i → xw_AI L N lk ps wd i 0 a → wX_fillAhead_31 post n (nI i) (nI L) (nI N) lk ps wd a be co sc ti bs := by
    intro n
    induction n with
    | zero => intro i a h1 h2; omega
    | succ n ih =>
      intro i a h1 h2 hA
      refine pk_lt N i (fun z => h a fun x b c hx hb hc => xw_AI_rd hA x b c hx hb hc fun i' j' e1 e2 => ?_) (fun z => ⟨L + 2, H41 _ i z (fun a' hA' => ih (i + 1) a' (by omega) (by omega) hA') (L + 2) 0 a (by omega) (by omega) hA⟩)
      have l1 := ph_la_le i' c
      unfold xw_lx
      omega
  have H2 : ∀ (n k : Nat) (a : Nat → Int64), k ≤ 135 → 135 < n + k → (∀ x, x < k → a x = 0) → wX_fillAhead_2 post (nI L) (nI N) n (nI k) lk ps wd a be co sc ti bs := by
    intro n
    induction n with
    | zero => intro k a h1 h2; omega
    | succ n ih =>
      intro k a h1 h2 ha
      refine pk_le 135 k (fun z => nm_e ⟨N + 2, H31 (N + 2) 0 _ (by omega) (by omega) ⟨fun i' j' q _ _ _ hx => ?_, fun x b c hx hb hc _ => ?_⟩⟩) (fun z => ⟨vp_in_nI z (by omega), nm_e (nm_r (e' := nI (k + 1)) (nI_1 k) (ih (k + 1) _ (by omega) (by omega) fun x hx => ?_))⟩)
      · unfold xw_lx at hx; omega
      · have hlt := ph_at_lt (i := x) (j := b) (k := c) (by omega) (by omega) hc
        by_cases e : x = 0 ∧ b = 0 ∧ c = 0
        · obtain ⟨rfl, rfl, rfl⟩ := e
          rfl
        · rw [pk_uLn, ha _ (by omega), ph_dl_0 (by omega)]
          unfold ph_at
          omega
      · rw [nI_clamp (by omega)]
        by_cases e : x = k
        · rw [e, pk_uLs]
        · rw [pk_uLn e]; exact ha x (by omega)
  exact ⟨136, H2 136 0 ah (by omega) (by omega) (fun x hx => by omega)⟩
theorem xw_fill {post : SX → Prop} (hL : L ≤ 4) (hN : N ≤ 8) (hw : ph_bd wd 3) (hlk : ph_bd lk 9) (hps : ph_bd ps 9) {ah be : Nat → Int64}
    (h : ∀ ah' be', xw_PA L N lk ps wd ah' → ph_dI L N (xw_PB L N lk ps wd be') 0 → post (nI L, nI N, lk, ps, wd, ah', be', co, sc, ti, bs)) :
    wpX_fill post (nI L, nI N, lk, ps, wd, ah, be, co, sc, ti, bs) := by
  unfold wpX_fill
  dsimp only
  refine xw_fillAhead hL hN hw hlk hps fun ah' hA => ?_
  exact xw_fillBehind hL hN hw hlk hps fun be' hB => h ah' be' hA hB
end
end
section
/-! what the reference's loops come to, beside what the component's tables hold -/
theorem ph_nIc {n : Nat} (h : n ≤ 216) : (nI n).toInt = (n : Int) := nI_toInt (by omega)
section
variable {L N : Nat} {lk ps wd : Nat → Int32}
theorem yw_gf_fold (s : Int32) : ∀ (l : List (List Nat)) (m : Int32), m ≤ l.foldl (yw_gf lk ps wd s) m ∧
    (∀ w, w ∈ l → (s = -1 ∨ nI w.length = s) → nI (ph_sc (ph_s lk ps wd) 0 0 0 w) ≤ l.foldl (yw_gf lk ps wd s) m) ∧
    (l.foldl (yw_gf lk ps wd s) m = m ∨ ∃ w, w ∈ l ∧ (s = -1 ∨ nI w.length = s) ∧ nI (ph_sc (ph_s lk ps wd) 0 0 0 w) = l.foldl (yw_gf lk ps wd s) m) := by
  intro l
  induction l with
  | nil => intro m; exact ⟨Int32.le_refl _, fun w hw => (by cases hw), Or.inl rfl⟩
  | cons v l ih =>
    intro m
    rw [List.foldl_cons]
    obtain ⟨h1, h2, h3⟩ := ih (yw_gf lk ps wd s m v)
    by_cases hc : (s = -1 ∨ nI v.length = s) ∧ ¬ nI (ph_sc (ph_s lk ps wd) 0 0 0 v) ≤ m
    · have e : yw_gf lk ps wd s m v = nI (ph_sc (ph_s lk ps wd) 0 0 0 v) := if_pos hc
      rw [e] at h1 h2 h3 ⊢
      have hm : m ≤ nI (ph_sc (ph_s lk ps wd) 0 0 0 v) := by
        have := hc.2
        rw [Int32.le_iff_toInt_le] at this ⊢
        omega
      refine ⟨Int32.le_trans hm h1, fun w hw hcw => ?_, Or.inr ?_⟩
      · rcases List.mem_cons.mp hw with rfl | hw
        · exact h1
        · exact h2 w hw hcw
      · rcases h3 with h3 | ⟨w, hw, hcw, ew⟩
        · exact ⟨v, List.mem_cons_self .., hc.1, h3.symm⟩
        · exact ⟨w, List.mem_cons_of_mem _ hw, hcw, ew⟩
    · have e : yw_gf lk ps wd s m v = m := if_neg hc
      rw [e] at h1 h2 h3 ⊢
      refine ⟨h1, fun w hw hcw => ?_, ?_⟩
      · rcases List.mem_cons.mp hw with rfl | hw
        · by_cases hle : nI (ph_sc (ph_s lk ps wd) 0 0 0 w) ≤ m
          · exact Int32.le_trans hle h1
          · exact absurd ⟨hcw, hle⟩ hc
        · exact h2 w hw hcw
      · rcases h3 with h3 | ⟨w, hw, hcw, ew⟩
        · exact Or.inl h3
        · exact Or.inr ⟨w, List.mem_cons_of_mem _ hw, hcw, ew⟩
theorem ph_m4 : (-4 : Int32).toInt = -4 := by decide
/-- the greatest of all -/
theorem yw_best_MN (hL : L ≤ 4) (hN : N ≤ 8) (hlk : ph_bd lk 9) (hps : ph_bd ps 9) : ph_MN (fun w => (ph_sc (ph_s lk ps wd) 0 0 0 w : Int)) (ph_wy L N 0 0) ((ph_wy L N 0 0).foldl (yw_gf lk ps wd (-1)) (-4)) := by
  obtain ⟨_, h2, h3⟩ := yw_gf_fold (lk := lk) (ps := ps) (wd := wd) (-1) (ph_wy L N 0 0) (-4)
  generalize (ph_wy L N 0 0).foldl (yw_gf lk ps wd (-1)) (-4) = r at h2 h3
  have hb : ∀ w, w ∈ ph_wy L N 0 0 → (nI (ph_sc (ph_s lk ps wd) 0 0 0 w)).toInt = (ph_sc (ph_s lk ps wd) 0 0 0 w : Int) := fun w hw => ph_nIc (ph_sc_wy (ph_s_le hlk hps) hL hN hw 0)
  refine ⟨fun w hw => ?_, ?_⟩
  · have := h2 w hw (Or.inl rfl)
    rw [Int32.le_iff_toInt_le, hb w hw] at this
    exact this
  · rcases h3 with h3 | ⟨w, hw, _, ew⟩
    · exfalso
      obtain ⟨l, hl⟩ := ph_wy_f1 (L := L) (N := N) 0 0 (by omega) (by omega)
      have hm : ph_f1 L N 0 0 ∈ ph_wy L N 0 0 := by rw [hl]; exact List.mem_cons_self ..
      have := h2 _ hm (Or.inl rfl)
      rw [Int32.le_iff_toInt_le, hb _ hm, h3, ph_m4] at this
      omega
    · exact ⟨w, hw, by rw [← ew, hb w hw]⟩
theorem ph_MN_1 {s : Nat → Nat → Nat → Nat → Nat} {i j p : Nat} {l : List (List Nat)} {x : Int32} (h : ph_MN (fun w => 1 * (ph_sc s i j p w : Int)) l x) : ph_MN (fun w => (ph_sc s i j p w : Int)) l x := by
  simpa only [Int.one_mul] using h
theorem yw_best_eq (hL : L ≤ 4) (hN : N ≤ 8) (hlk : ph_bd lk 9) (hps : ph_bd ps 9) {x t : Int32} (h : ph_V L N (ph_s lk ps wd) 1 0 0 0 x t) : (ph_wy L N 0 0).foldl (yw_gf lk ps wd (-1)) (-4) = x :=
  ph_MN_uq (yw_best_MN hL hN hlk hps) (ph_MN_1 h.1)
theorem yw_ties_eq (hL : L ≤ 4) (hN : N ≤ 8) (hlk : ph_bd lk 9) (hps : ph_bd ps 9) {x t : Int32} (h : ph_V L N (ph_s lk ps wd) 1 0 0 0 x t) : (ph_wy L N 0 0).foldl (yw_tf lk ps wd x) 0 = t := by
  have K : ∀ (l : List (List Nat)) (a : Nat), (∀ w, w ∈ l → ph_sc (ph_s lk ps wd) 0 0 0 w ≤ 216) → l.foldl (yw_tf lk ps wd x) (nI a) = nI (a + ph_ct (fun w => 1 * (ph_sc (ph_s lk ps wd) 0 0 0 w : Int)) x.toInt l) := by
    intro l
    induction l with
    | nil => intro a _; rfl
    | cons w l ih =>
      intro a hb
      have hw := ph_nIc (hb w (List.mem_cons_self ..))
      rw [List.foldl_cons]
      have ec : ph_ct (fun w => 1 * (ph_sc (ph_s lk ps wd) 0 0 0 w : Int)) x.toInt (w :: l) = ph_ct (fun w => 1 * (ph_sc (ph_s lk ps wd) 0 0 0 w : Int)) x.toInt l + if (ph_sc (ph_s lk ps wd) 0 0 0 w : Int) = x.toInt then 1 else 0 := by
        unfold ph_ct
        rw [List.countP_cons]
        simp only [Int.one_mul, decide_eq_true_eq]
      rw [ec]
      by_cases e : nI (ph_sc (ph_s lk ps wd) 0 0 0 w) = x
      · rw [yw_tf, if_pos e, nI_1, ih (a + 1) fun v hv => hb v (List.mem_cons_of_mem _ hv), if_pos (by rw [← e, hw])]
        exact congrArg nI (by omega)
      · rw [yw_tf, if_neg e, ih a fun v hv => hb v (List.mem_cons_of_mem _ hv), if_neg (fun z => e (Int32.toInt_inj.mp (by rw [hw, z]))), Nat.add_zero]
  have := K (ph_wy L N 0 0) 0 fun w hw => ph_sc_wy (ph_s_le hlk hps) hL hN hw 0
  rw [Nat.zero_add] at this
  rw [h.2]
  exact this
theorem yw_wf_fold : ∀ (l : List (List Nat)) (m : Int32), l.foldl (yw_wf lk ps wd) m ≤ m ∧
    (∀ w, w ∈ l → l.foldl (yw_wf lk ps wd) m ≤ nI (ph_sc (ph_s lk ps wd) 0 0 0 w)) ∧
    (l.foldl (yw_wf lk ps wd) m = m ∨ ∃ w, w ∈ l ∧ nI (ph_sc (ph_s lk ps wd) 0 0 0 w) = l.foldl (yw_wf lk ps wd) m) := by
  intro l
  induction l with
  | nil => intro m; exact ⟨Int32.le_refl _, fun w hw => (by cases hw), Or.inl rfl⟩
  | cons v l ih =>
    intro m
    rw [List.foldl_cons]
    obtain ⟨h1, h2, h3⟩ := ih (yw_wf lk ps wd m v)
    by_cases hc : m ≤ nI (ph_sc (ph_s lk ps wd) 0 0 0 v)
    · have e : yw_wf lk ps wd m v = m := if_pos hc
      rw [e] at h1 h2 h3 ⊢
      refine ⟨h1, fun w hw => ?_, ?_⟩
      · rcases List.mem_cons.mp hw with rfl | hw
        · exact Int32.le_trans h1 hc
        · exact h2 w hw
      · rcases h3 with h3 | ⟨w, hw, ew⟩
        · exact Or.inl h3
        · exact Or.inr ⟨w, List.mem_cons_of_mem _ hw, ew⟩
    · have e : yw_wf lk ps wd m v = nI (ph_sc (ph_s lk ps wd) 0 0 0 v) := if_neg hc
      rw [e] at h1 h2 h3 ⊢
      have hm : nI (ph_sc (ph_s lk ps wd) 0 0 0 v) ≤ m := by
        rw [Int32.le_iff_toInt_le] at hc ⊢
        omega
      refine ⟨Int32.le_trans h1 hm, fun w hw => ?_, Or.inr ?_⟩
      · rcases List.mem_cons.mp hw with rfl | hw
        · exact h1
        · exact h2 w hw
      · rcases h3 with h3 | ⟨w, hw, ew⟩
        · exact ⟨v, List.mem_cons_self .., h3.symm⟩
        · exact ⟨w, List.mem_cons_of_mem _ hw, ew⟩
theorem yw_worst_eq (hL : L ≤ 4) (hN : N ≤ 8) (hlk : ph_bd lk 9) (hps : ph_bd ps 9) {x t : Int32} (h : ph_V L N (ph_s lk ps wd) (-1) 0 0 0 x t) : (ph_wy L N 0 0).foldl (yw_wf lk ps wd) 1000000 = -x := by
  obtain ⟨_, h2, h3⟩ := yw_wf_fold (lk := lk) (ps := ps) (wd := wd) (ph_wy L N 0 0) 1000000
  generalize (ph_wy L N 0 0).foldl (yw_wf lk ps wd) 1000000 = r at h2 h3
  have hb : ∀ w, w ∈ ph_wy L N 0 0 → (nI (ph_sc (ph_s lk ps wd) 0 0 0 w)).toInt = (ph_sc (ph_s lk ps wd) 0 0 0 w : Int) ∧ ph_sc (ph_s lk ps wd) 0 0 0 w ≤ 216 := fun w hw => ⟨ph_nIc (ph_sc_wy (ph_s_le hlk hps) hL hN hw 0), ph_sc_wy (ph_s_le hlk hps) hL hN hw 0⟩
  obtain ⟨h4, v, hv, ev⟩ := h.1
  have ev' : -1 * (ph_sc (ph_s lk ps wd) 0 0 0 v : Int) = x.toInt := ev
  have hbv := hb v hv
  have hxn : (-x).toInt = -x.toInt := by
    rw [Int32.toInt_neg]
    exact Int.bmod_eq_of_le (by omega) (by omega)
  apply Int32.toInt_inj.mp
  rw [hxn]
  have h5 := h2 v hv
  rw [Int32.le_iff_toInt_le, hbv.1] at h5
  rcases h3 with h3 | ⟨w, hw, ew⟩
  · rw [h3] at h5
    have : (1000000 : Int32).toInt = 1000000 := by decide
    omega
  · have hbw := hb w hw
    have h6 : -1 * (ph_sc (ph_s lk ps wd) 0 0 0 w : Int) ≤ x.toInt := h4 w hw
    rw [← ew, hbw.1]
    rw [← ew, hbw.1] at h5
    omega
/-- greatest by a number of steps -/
theorem yw_of_eq (hL : L ≤ 4) (hN : N ≤ 8) (hlk : ph_bd lk 9) (hps : ph_bd ps 9) {t : Nat} (ht : t < 2 ^ 31) {x : Int32} (h : ph_MX (fun w => (ph_sc (ph_s lk ps wd) 0 0 0 w : Int)) (ph_fs (ph_wy L N 0 0) t) x) :
    (ph_wy L N 0 0).foldl (yw_gf lk ps wd (nI t)) (-4) = if x = -1000000 then -4 else x := by
  obtain ⟨_, h2, h3⟩ := yw_gf_fold (lk := lk) (ps := ps) (wd := wd) (nI t) (ph_wy L N 0 0) (-4)
  generalize (ph_wy L N 0 0).foldl (yw_gf lk ps wd (nI t)) (-4) = r at h2 h3
  have hb : ∀ w, w ∈ ph_wy L N 0 0 → (nI (ph_sc (ph_s lk ps wd) 0 0 0 w)).toInt = (ph_sc (ph_s lk ps wd) 0 0 0 w : Int) := fun w hw => ph_nIc (ph_sc_wy (ph_s_le hlk hps) hL hN hw 0)
  have hlen : ∀ w, w ∈ ph_wy L N 0 0 → (nI t = -1 ∨ nI w.length = nI t) → w ∈ ph_fs (ph_wy L N 0 0) t := by
    intro w hw hc
    refine ph_mem_fs.mpr ⟨hw, ?_⟩
    have hl := (ph_vw_len w 0 0 (ph_vw_of 0 0 w hw)).2.2
    rcases hc with hc | hc
    · exfalso
      have := congrArg Int32.toInt hc
      rw [nI_toInt ht, show (-1 : Int32).toInt = -1 from by decide] at this
      omega
    · exact (nI_eq (by omega) ht).mp hc
  rcases h with ⟨hl, hx⟩ | hMN
  · rw [if_pos hx]
    rcases h3 with h3 | ⟨w, hw, hc, _⟩
    · exact h3
    · have := hlen w hw hc
      rw [hl] at this
      cases this
  · obtain ⟨h4, v, hv, ev⟩ := hMN
    have ev' : (ph_sc (ph_s lk ps wd) 0 0 0 v : Int) = x.toInt := ev
    have hv' := ph_mem_fs.mp hv
    have hx : ¬ x = -1000000 := by
      intro e
      rw [e, ph_low] at ev'
      omega
    rw [if_neg hx]
    apply Int32.toInt_inj.mp
    have h5 := h2 v hv'.1 (Or.inr (by rw [hv'.2]))
    rw [Int32.le_iff_toInt_le, hb v hv'.1] at h5
    rcases h3 with h3 | ⟨w, hw, hc, ew⟩
    · rw [h3, ph_m4] at h5; omega
    · have h6 : (ph_sc (ph_s lk ps wd) 0 0 0 w : Int) ≤ x.toInt := h4 w (hlen w hw hc)
      rw [← ew, hb w hw] at h5 ⊢
      omega
theorem yw_of_big (hL : L ≤ 4) (hN : N ≤ 8) (t : Nat) (ht : t < 2 ^ 31) (h12 : 12 < t) : (ph_wy L N 0 0).foldl (yw_gf lk ps wd (nI t)) (-4) = -4 := by
  obtain ⟨_, _, h3⟩ := yw_gf_fold (lk := lk) (ps := ps) (wd := wd) (nI t) (ph_wy L N 0 0) (-4)
  rcases h3 with h3 | ⟨w, hw, hc, _⟩
  · exact h3
  · exfalso
    have hl := (ph_vw_len w 0 0 (ph_vw_of 0 0 w hw)).2.2
    rcases hc with hc | hc
    · have := congrArg Int32.toInt hc
      rw [nI_toInt ht, show (-1 : Int32).toInt = -1 from by decide] at this
      omega
    · have := (nI_eq (by omega) ht).mp hc
      omega
theorem ph_find_congr {p q : List Nat → Bool} : ∀ l : List (List Nat), (∀ w, w ∈ l → p w = q w) → l.find? p = l.find? q := by
  intro l
  induction l with
  | nil => intro _; rfl
  | cons w l ih =>
    intro h
    rw [List.find?_cons, List.find?_cons, h w (List.mem_cons_self ..), ih fun v hv => h v (List.mem_cons_of_mem _ hv)]
theorem yw_fd_eq (hL : L ≤ 4) (hN : N ≤ 8) (hlk : ph_bd lk 9) (hps : ph_bd ps 9) {x : Int32} (h : ph_MN (fun w => (ph_sc (ph_s lk ps wd) 0 0 0 w : Int)) (ph_wy L N 0 0) x) :
    (ph_wy L N 0 0).find? (fun w => decide (x ≤ nI (ph_sc (ph_s lk ps wd) 0 0 0 w))) = ph_fd L N (ph_s lk ps wd) 0 0 0 x.toInt := by
  unfold ph_fd
  refine ph_find_congr _ fun w hw => ?_
  have h1 : (ph_sc (ph_s lk ps wd) 0 0 0 w : Int) ≤ x.toInt := h.1 w hw
  have h2 := ph_nIc (ph_sc_wy (s := ph_s lk ps wd) (ph_s_le hlk hps) hL hN hw 0)
  have h3 : (x ≤ nI (ph_sc (ph_s lk ps wd) 0 0 0 w)) ↔ ((ph_sc (ph_s lk ps wd) 0 0 0 w : Int) = x.toInt) := by
    rw [Int32.le_iff_toInt_le, h2]
    omega
  simp only [h3]
end
theorem ph_fw_get {st : Nat → Int32} : ∀ (w : List Nat) (s k q : Nat), ph_fw st s w → w[k]? = some q → st (s + k) = nI q := by
  intro w
  induction w with
  | nil => intro s k q _ h; simp at h
  | cons a w ih =>
    intro s k q hf h
    cases k with
    | zero =>
      rw [List.getElem?_cons_zero] at h
      cases h
      exact hf.1
    | succ k =>
      rw [List.getElem?_cons_succ] at h
      have := ih (s + 1) k q hf.2 h
      rw [show s + (k + 1) = s + 1 + k from by omega]
      exact this
/-! no path comes back to a column passed or a letter read -/
theorem ph_PF_col {L N : Nat} (F : Nat → Nat → Nat → Nat → Int64) (a b c : Nat) (hc : c ≠ 1) (i j : Nat) : b ≤ j → ∀ p, ph_PF L N F a b c i j p = 0 := by
  refine ph_ind (L := L) (N := N) (fun i j => b ≤ j → ∀ p, ph_PF L N F a b c i j p = 0) ?_ i j
  intro i j ih hb p
  rw [ph_PF_eq]
  refine ph_step0 F i j p fun q hq ho => ?_
  have h2 := ph_ca_le j q
  rw [ph_A, ih q hq ho (by omega) q, ph_dl_0, Int64.add_zero]
  rintro ⟨_, h3, rfl⟩
  rw [ph_ca, if_neg hc] at h3
  omega
theorem ph_PF_let {L N : Nat} (F : Nat → Nat → Nat → Nat → Int64) (a b c : Nat) (hc : c ≠ 2) (i j : Nat) : a ≤ i → ∀ p, ph_PF L N F a b c i j p = 0 := by
  refine ph_ind (L := L) (N := N) (fun i j => a ≤ i → ∀ p, ph_PF L N F a b c i j p = 0) ?_ i j
  intro i j ih hb p
  rw [ph_PF_eq]
  refine ph_step0 F i j p fun q hq ho => ?_
  have h2 := ph_la_le i q
  rw [ph_A, ih q hq ho (by omega) q, ph_dl_0, Int64.add_zero]
  rintro ⟨h3, _, rfl⟩
  rw [ph_la, if_neg hc] at h3
  omega
/-- marked sums in terms of both tables: targets with another last kind, or further on, than the first cell -/
theorem ph_H_ah {L N : Nat} (F : Nat → Nat → Nat → Nat → Int64) (M : Nat → Nat → Nat → Bool) (a b c : Nat → Nat) (n : Nat)
    (h1 : ∀ i j p, i ≤ N → j ≤ L → p < 3 → M i j p = true → ∃ m, m < n ∧ i = a m ∧ j = b m ∧ p = c m ∧ ∀ k, k < n → k ≠ m → ¬ (a k = a m ∧ b k = b m ∧ c k = c m))
    (h2 : ∀ k, k < n → M (a k) (b k) (c k) = true)
    (h3 : ∀ i j p k, M i j p = true → k < n → ph_PF L N F (a k) (b k) (c k) i j p = 0)
    (h4 : ∀ k, k < n → ¬ (0 = a k ∧ 0 = b k ∧ 0 = c k)) :
    ph_H L N F M 0 0 0 = ph_sm (fun k => ph_ah L N F (a k) (b k) (c k) * ph_B L N F (a k) (b k) (c k)) n := by
  rw [ph_H_T F M a b c n h1 h2 h3 0 0 0]
  refine ph_sm_congr n fun k hk => ?_
  show _ = ph_ah L N F (a k) (b k) (c k) * ph_B L N F (a k) (b k) (c k)
  rw [ph_ah, ph_A, ph_dl_0 (h4 k hk), Int64.zero_add]
end
section
/-! arguments: places and columns -/
theorem xw_ix (x : Int32) {n : Nat} (hn : n < 2 ^ 31) : x < 0 ∨ nI n ≤ x ∨ ∃ j : Nat, j < n ∧ x = nI j := by
  by_cases h : x < 0
  · exact Or.inl h
  · obtain ⟨j, hj, rfl⟩ := nI_of h
    by_cases h2 : j < n
    · exact Or.inr (Or.inr ⟨j, h2, rfl⟩)
    · exact Or.inr (Or.inl (nI_le (by omega) hj))
section
variable {L N : Nat} {lk ps wd : Nat → Int32} {ah be : Nat → Int64} {co sc ti bs st : Nat → Int32} {sz c l : Int32}
theorem xw_np_t {post : Int32 → Prop} {i : Nat} (hN : N ≤ 8) (hi : i < N) (h : post 0) : wpX_noPlace post (nI L, nI N, lk, ps, wd, ah, be, co, sc, ti, bs) (nI i) :=
  br_f (nI_pos (by omega)) (br_t (nI_lt hi (by omega)) h)
theorem yw_ip_t {post : Int32 → Prop} {i : Nat} (hN : N ≤ 8) (hi : i < N) (h : post 1) : wpY_isPlace post (nI L, nI N, sz, c, l, lk, ps, wd, st) (nI i) :=
  br_f (nI_pos (by omega)) (br_f (nI_ge hi (by omega)) h)
theorem xw_np_f {post : Int32 → Prop} {v : Int32} (hv : v < 0 ∨ nI N ≤ v) (h : post 1) : wpX_noPlace post (nI L, nI N, lk, ps, wd, ah, be, co, sc, ti, bs) v := by
  by_cases z : v < 0
  · exact br_t z h
  · have z2 : ¬ v < nI N := Int32.not_lt.mpr (hv.resolve_left z)
    exact br_f z (br_f z2 h)
theorem yw_ip_f {post : Int32 → Prop} {v : Int32} (hv : v < 0 ∨ nI N ≤ v) (h : post 0) : wpY_isPlace post (nI L, nI N, sz, c, l, lk, ps, wd, st) v := by
  by_cases z : v < 0
  · exact br_t z h
  · exact br_f z (br_t (hv.resolve_left z) h)
theorem xw_bc_t {post : Int32 → Prop} {j : Nat} (hL : L ≤ 4) (h1 : 1 ≤ j) (h2 : j ≤ L) (h : post 0) : wpX_badColumn post (nI L, nI N, lk, ps, wd, ah, be, co, sc, ti, bs) (nI j) :=
  br_f (nI_nlt (b := 1) h1 (by omega)) (br_t (nI_le h2 (by omega)) h)
theorem yw_ic_t {post : Int32 → Prop} {j : Nat} (hL : L ≤ 4) (h1 : 1 ≤ j) (h2 : j ≤ L) (h : post 1) : wpY_isColumn post (nI L, nI N, sz, c, l, lk, ps, wd, st) (nI j) :=
  br_f (nI_nlt (b := 1) h1 (by omega)) (br_f (nI_nlt h2 (by omega)) h)
theorem xw_bc_f {post : Int32 → Prop} {v : Int32} (hv : v < 1 ∨ nI L < v) (h : post 1) : wpX_badColumn post (nI L, nI N, lk, ps, wd, ah, be, co, sc, ti, bs) v := by
  by_cases z : v < 1
  · exact br_t z h
  · have z2 : ¬ v ≤ nI L := Int32.not_le.mpr (hv.resolve_left z)
    exact br_f z (br_f z2 h)
theorem yw_ic_f {post : Int32 → Prop} {v : Int32} (hv : v < 1 ∨ nI L < v) (h : post 0) : wpY_isColumn post (nI L, nI N, sz, c, l, lk, ps, wd, st) v := by
  by_cases z : v < 1
  · exact br_t z h
  · exact br_f z (br_t (hv.resolve_left z) h)
theorem xw_col (v : Int32) (hL : L ≤ 4) : (v < 1 ∨ nI L < v) ∨ ∃ j : Nat, 1 ≤ j ∧ j ≤ L ∧ v = nI j := by
  rcases xw_ix v (n := L + 1) (by omega) with h | h | ⟨j, hj, rfl⟩
  · refine Or.inl (Or.inl ?_)
    rw [Int32.lt_iff_toInt_lt] at h ⊢
    have e0 : (0 : Int32).toInt = 0 := by decide
    have e1 : (1 : Int32).toInt = 1 := by decide
    omega
  · refine Or.inl (Or.inr ?_)
    rw [Int32.le_iff_toInt_le, nI_toInt (by omega)] at h
    rw [Int32.lt_iff_toInt_lt, nI_toInt (by omega)]
    omega
  · by_cases z : 1 ≤ j
    · exact Or.inr ⟨j, z, by omega, rfl⟩
    · refine Or.inl (Or.inl ?_)
      have : j = 0 := by omega
      subst this
      decide
theorem xw_through {post : Int64 → Prop} {i j k : Nat} (hi : i ≤ 8) (hj : j ≤ 4) (hk : k < 3) (h : post (ah (ph_at i j k) * be (ph_at i j k))) :
    wpX_through post (nI L, nI N, lk, ps, wd, ah, be, co, sc, ti, bs) (nI i) (nI j) (nI k) := by
  have hat := ph_at_lt hi hj hk
  unfold wpX_through
  dsimp only
  refine xw_at ?_
  rw [nI_clamp (n := ph_at i j k) (by omega)]
  exact ⟨vp_in_nI hat (by omega), vp_in_nI hat (by omega), h⟩
theorem xw_matched {post : Int64 → SX → Prop} {i j : Nat} (hL : L ≤ 4) (hN : N ≤ 8) (hw : ph_bd wd 3) (hlk : ph_bd lk 9) (hps : ph_bd ps 9) (hi : i < N) (h1 : 1 ≤ j) (h2 : j ≤ L)
    (h : ∀ ah' be', post (ph_ah L N (ph_F lk ps wd) (i + 1) j 0 * ph_B L N (ph_F lk ps wd) (i + 1) j 0) (nI L, nI N, lk, ps, wd, ah', be', co, sc, ti, bs)) :
    wpX_matched post (nI L, nI N, lk, ps, wd, ah, be, co, sc, ti, bs) (nI i) (nI j) := by
  unfold wpX_matched
  dsimp only
  refine xw_np_t hN hi (br_t rfl ?_)
  refine xw_bc_t hL h1 h2 (br_t rfl ?_)
  refine xw_fill hL hN hw hlk hps fun ah' be' hA hB => ?_
  have eA := hA (i + 1) j 0 (by omega) h2 (by omega)
  have eB : be' (ph_at (i + 1) j 0) = ph_B L N (ph_F lk ps wd) (i + 1) j 0 := hB (i + 1) j 0 (by omega) (by omega) h2 (by omega)
  dsimp only
  rw [nI_1 i]
  refine xw_through (k := 0) (by omega) (by omega) (by omega) ?_
  rw [eA, eB]
  exact h ah' be'
theorem xw_deleted {post : Int64 → SX → Prop} {j : Nat} (hL : L ≤ 4) (hN : N ≤ 8) (hw : ph_bd wd 3) (hlk : ph_bd lk 9) (hps : ph_bd ps 9) (h1 : 1 ≤ j) (h2 : j ≤ L)
    (h : ∀ ah' be', post (ph_sm (fun k => ph_ah L N (ph_F lk ps wd) k j 2 * ph_B L N (ph_F lk ps wd) k j 2) (N + 1)) (nI L, nI N, lk, ps, wd, ah', be', co, sc, ti, bs)) :
    wpX_deleted post (nI L, nI N, lk, ps, wd, ah, be, co, sc, ti, bs) (nI j) := by
  unfold wpX_deleted
  dsimp only
  refine xw_bc_t hL h1 h2 (br_t rfl ?_)
  refine xw_fill hL hN hw hlk hps fun ah' be' hA hB => ?_
  have H : ∀ n i, i ≤ N + 1 → N + 1 < n + i → wX_deleted_19 post (nI j) (nI L) (nI N) lk ps wd ah' be' co sc ti bs n (ph_sm (fun k => ph_ah L N (ph_F lk ps wd) k j 2 * ph_B L N (ph_F lk ps wd) k j 2) i) (nI i) := by
    intro n
    induction n with
    | zero => intro i a b; omega
    | succ n ih =>
      intro i a b
      refine pk_lt N i (fun z => ?_) (fun z => xw_through (k := 2) (by omega) (by omega) (by omega) (nm_r (e' := ph_sm (fun k => ph_ah L N (ph_F lk ps wd) k j 2 * ph_B L N (ph_F lk ps wd) k j 2) (i + 1)) ?_ (nm_r (e' := nI (i + 1)) (nI_1 i) (ih (i + 1) (by omega) (by omega)))))
      · have e : i = N + 1 := by omega
        rw [e]
        exact h ah' be'
      · have eA := hA i j 2 z h2 (by omega)
        have eB : be' (ph_at i j 2) = ph_B L N (ph_F lk ps wd) i j 2 := hB i j 2 (by omega) z h2 (by omega)
        rw [eA, eB, ph_sm]
  exact ⟨N + 2, H (N + 2) 0 (by omega) (by omega)⟩
theorem xw_inserted {post : Int64 → SX → Prop} {i : Nat} (hL : L ≤ 4) (hN : N ≤ 8) (hw : ph_bd wd 3) (hlk : ph_bd lk 9) (hps : ph_bd ps 9) (hi : i < N)
    (h : ∀ ah' be', post (ph_sm (fun k => ph_ah L N (ph_F lk ps wd) (i + 1) k 1 * ph_B L N (ph_F lk ps wd) (i + 1) k 1) (L + 1)) (nI L, nI N, lk, ps, wd, ah', be', co, sc, ti, bs)) :
    wpX_inserted post (nI L, nI N, lk, ps, wd, ah, be, co, sc, ti, bs) (nI i) := by
  unfold wpX_inserted
  dsimp only
  refine xw_np_t hN hi (br_t rfl ?_)
  refine xw_fill hL hN hw hlk hps fun ah' be' hA hB => ?_
  have H : ∀ n j, j ≤ L + 1 → L + 1 < n + j → wX_inserted_19 post (nI i) (nI L) (nI N) lk ps wd ah' be' co sc ti bs n (ph_sm (fun k => ph_ah L N (ph_F lk ps wd) (i + 1) k 1 * ph_B L N (ph_F lk ps wd) (i + 1) k 1) j) (nI j) := by
    intro n
    induction n with
    | zero => intro j a b; omega
    | succ n ih =>
      intro j a b
      refine pk_lt L j (fun z => ?_) (fun z => ?_)
      · have e : j = L + 1 := by omega
        rw [e]
        exact h ah' be'
      · have eA := hA (i + 1) j 1 (by omega) z (by omega)
        have eB : be' (ph_at (i + 1) j 1) = ph_B L N (ph_F lk ps wd) (i + 1) j 1 := hB (i + 1) j 1 (by omega) (by omega) z (by omega)
        rw [nI_1 i]
        refine xw_through (k := 1) (by omega) (by omega) (by omega) (nm_r (e' := ph_sm (fun k => ph_ah L N (ph_F lk ps wd) (i + 1) k 1 * ph_B L N (ph_F lk ps wd) (i + 1) k 1) (j + 1)) ?_ (nm_r (e' := nI (j + 1)) (nI_1 j) (ih (j + 1) (by omega) (by omega))))
        rw [eA, eB, ph_sm]
  exact ⟨L + 2, H (L + 2) 0 (by omega) (by omega)⟩
/-! the marks -/
theorem ph_H_matched {i j : Nat} (hi : i < N) (h2 : j ≤ L) : ph_H L N (ph_F lk ps wd) (fun a b q => decide (a = i + 1 ∧ b = j ∧ q = 0)) 0 0 0 = ph_ah L N (ph_F lk ps wd) (i + 1) j 0 * ph_B L N (ph_F lk ps wd) (i + 1) j 0 := by
  rw [ph_H_ah (ph_F lk ps wd) _ (fun _ => i + 1) (fun _ => j) (fun _ => 0) 1]
  · rw [ph_sm, ph_sm, Int64.zero_add]
  · intro a b q ha hb hq hM
    rw [decide_eq_true_eq] at hM
    exact ⟨0, by omega, hM.1, hM.2.1, hM.2.2, fun k hk hk2 => by omega⟩
  · intro k _
    simp
  · intro a b q k hM _
    rw [decide_eq_true_eq] at hM
    exact ph_PF_col _ _ _ _ (by omega) _ _ (by omega) _
  · intro k _
    omega
theorem ph_H_deleted {j : Nat} (h2 : j ≤ L) : ph_H L N (ph_F lk ps wd) (fun _ b q => decide (b = j ∧ q = 2)) 0 0 0 = ph_sm (fun k => ph_ah L N (ph_F lk ps wd) k j 2 * ph_B L N (ph_F lk ps wd) k j 2) (N + 1) := by
  rw [ph_H_ah (ph_F lk ps wd) _ (fun k => k) (fun _ => j) (fun _ => 2) (N + 1)]
  · intro a b q ha hb hq hM
    rw [decide_eq_true_eq] at hM
    exact ⟨a, by omega, rfl, hM.1, hM.2, fun k hk hk2 z => hk2 z.1⟩
  · intro k _
    simp
  · intro a b q k hM _
    rw [decide_eq_true_eq] at hM
    exact ph_PF_col _ _ _ _ (by omega) _ _ (by omega) _
  · intro k _
    omega
theorem ph_H_inserted {i : Nat} (hi : i < N) : ph_H L N (ph_F lk ps wd) (fun a _ q => decide (a = i + 1 ∧ q = 1)) 0 0 0 = ph_sm (fun k => ph_ah L N (ph_F lk ps wd) (i + 1) k 1 * ph_B L N (ph_F lk ps wd) (i + 1) k 1) (L + 1) := by
  rw [ph_H_ah (ph_F lk ps wd) _ (fun _ => i + 1) (fun k => k) (fun _ => 1) (L + 1)]
  · intro a b q ha hb hq hM
    rw [decide_eq_true_eq] at hM
    exact ⟨b, by omega, hM.1, rfl, hM.2, fun k hk hk2 z => hk2 z.2.1⟩
  · intro k _
    simp
  · intro a b q k hM _
    rw [decide_eq_true_eq] at hM
    exact ph_PF_let _ _ _ _ (by omega) _ _ (by omega) _
  · intro k _
    omega
theorem ph_m1l : (-1 : Int32) < 0 := by decide
theorem yw_matched {post : Int64 → SY → Prop} {i j : Nat} (hL : L ≤ 4) (hN : N ≤ 8) (hw : ph_bd wd 3) (hi : i < N) (h1 : 1 ≤ j) (h2 : j ≤ L)
    (h : ∀ st', post (ph_ah L N (ph_F lk ps wd) (i + 1) j 0 * ph_B L N (ph_F lk ps wd) (i + 1) j 0) (nI L, nI N, 0, 0, 0, lk, ps, wd, st')) :
    wpY_matched post (nI L, nI N, sz, c, l, lk, ps, wd, st) (nI i) (nI j) := by
  unfold wpY_matched
  dsimp only
  refine yw_ip_t hN hi (br_f (by decide) ?_)
  refine yw_ic_t hL h1 h2 (br_f (by decide) ?_)
  refine yw_sumWith hL hN hw 0 (nI j) (nI i) (fun a b q => decide (a = i + 1 ∧ b = j ∧ q = 0)) ?_ fun st' => ?_
  · intro a b q ha hb hq
    have l2 := ph_ca_up b q
    rw [decide_eq_true_eq, show (0 : Int32) = nI 0 from rfl, nI_eq (by omega) (by omega), nI_eq (by omega) (by omega), nI_eq (by omega) (by omega)]
    constructor
    · rintro ⟨e1, e2, rfl⟩
      rw [ph_la0] at e1
      exact ⟨rfl, Or.inr e2, Or.inr (by omega)⟩
    · rintro ⟨rfl, e2, e3⟩
      have n1 : ¬ nI j < nI 0 := nI_pos (by omega)
      have n2 : ¬ nI i < nI 0 := nI_pos (by omega)
      have e3' := e3.resolve_left n2
      exact ⟨by rw [ph_la0]; omega, e2.resolve_left n1, rfl⟩
  · dsimp only
    rw [ph_H_matched hi h2]
    exact h st'
theorem yw_deleted {post : Int64 → SY → Prop} {j : Nat} (hL : L ≤ 4) (hN : N ≤ 8) (hw : ph_bd wd 3) (h1 : 1 ≤ j) (h2 : j ≤ L)
    (h : ∀ st', post (ph_sm (fun k => ph_ah L N (ph_F lk ps wd) k j 2 * ph_B L N (ph_F lk ps wd) k j 2) (N + 1)) (nI L, nI N, 0, 0, 0, lk, ps, wd, st')) :
    wpY_deleted post (nI L, nI N, sz, c, l, lk, ps, wd, st) (nI j) := by
  unfold wpY_deleted
  dsimp only
  refine yw_ic_t hL h1 h2 (br_f (by decide) ?_)
  refine yw_sumWith hL hN hw 2 (nI j) (-1) (fun _ b q => decide (b = j ∧ q = 2)) ?_ fun st' => ?_
  · intro a b q ha hb hq
    have l2 := ph_ca_up b q
    rw [decide_eq_true_eq, show (2 : Int32) = nI 2 from rfl, nI_eq (by omega) (by omega), nI_eq (by omega) (by omega)]
    constructor
    · rintro ⟨e2, rfl⟩
      exact ⟨rfl, Or.inr e2, Or.inl ph_m1l⟩
    · rintro ⟨rfl, e2, e3⟩
      have n1 : ¬ nI j < nI 0 := nI_pos (by omega)
      exact ⟨e2.resolve_left n1, rfl⟩
  · dsimp only
    rw [ph_H_deleted h2]
    exact h st'
theorem yw_inserted {post : Int64 → SY → Prop} {i : Nat} (hL : L ≤ 4) (hN : N ≤ 8) (hw : ph_bd wd 3) (hi : i < N)
    (h : ∀ st', post (ph_sm (fun k => ph_ah L N (ph_F lk ps wd) (i + 1) k 1 * ph_B L N (ph_F lk ps wd) (i + 1) k 1) (L + 1)) (nI L, nI N, 0, 0, 0, lk, ps, wd, st')) :
    wpY_inserted post (nI L, nI N, sz, c, l, lk, ps, wd, st) (nI i) := by
  unfold wpY_inserted
  dsimp only
  refine yw_ip_t hN hi (br_f (by decide) ?_)
  refine yw_sumWith hL hN hw 1 (-1) (nI i) (fun a _ q => decide (a = i + 1 ∧ q = 1)) ?_ fun st' => ?_
  · intro a b q ha hb hq
    rw [decide_eq_true_eq, show (1 : Int32) = nI 1 from rfl, nI_eq (by omega) (by omega), nI_eq (a := a) (by omega) (by omega)]
    constructor
    · rintro ⟨e1, rfl⟩
      rw [ph_la1] at e1
      exact ⟨rfl, Or.inl ph_m1l, Or.inr (by omega)⟩
    · rintro ⟨rfl, e2, e3⟩
      have n2 : ¬ nI i < nI 0 := nI_pos (by omega)
      have e3' := e3.resolve_left n2
      exact ⟨by rw [ph_la1]; omega, rfl⟩
  · dsimp only
    rw [ph_H_inserted hi]
    exact h st'
end
end
section
/-! the next letter -/
def ph_ww (wd : Nat → Int32) (N : Nat) : Nat → Nat → Int32
  | 0 => wd
  | k + 1 => upd (ph_ww wd N k) N (nI k)
theorem ph_bd_upd {f : Nat → Int32} {m k x : Nat} (h : ph_bd f m) (hx : x ≤ m) : ph_bd (upd f k (nI x)) m := by
  intro i
  by_cases e : i = k
  · subst e
    exact ⟨x, hx, pk_us⟩
  · rw [pk_un e]; exact h i
theorem ph_bd_ww {wd : Nat → Int32} (h : ph_bd wd 3) (N : Nat) : ∀ k, k ≤ 4 → ph_bd (ph_ww wd N k) 3 := by
  intro k
  induction k with
  | zero => intro _; exact h
  | succ k ih => intro hk; exact ph_bd_upd (ih (by omega)) (by omega)
def ph_nxs (L N : Nat) (lk ps wd : Nat → Int32) : Nat → Int64 := ph_sm (fun k => ph_B L (N + 1) (ph_F lk ps (ph_ww wd N (k + 1))) 0 0 0)
section
variable {L N : Nat} {lk ps wd : Nat → Int32} {ah : Nat → Int64} {co sc ti bs : Nat → Int32}
theorem xw_next {post : Int64 → SX → Prop} (hL : L ≤ 4) (hN : N ≤ 7) (hw : ph_bd wd 3) (hlk : ph_bd lk 9) (hps : ph_bd ps 9) {be : Nat → Int64}
    (h : ∀ be', post (ph_nxs L N lk ps wd 4) (nI L, nI N, lk, ps, ph_ww wd N 4, ah, be', co, sc, ti, bs)) :
    wpX_next post (nI L, nI N, lk, ps, wd, ah, be, co, sc, ti, bs) := by
  have e1 : nI (N + 1) - 1 = nI N := nI_pred N
  have H : ∀ (n k : Nat) (be : Nat → Int64), k ≤ 4 → 4 < n + k → wX_next_14 post n (ph_nxs L N lk ps wd k) (nI k) (nI L) (nI (N + 1)) lk ps (ph_ww wd N k) ah be co sc ti bs := by
    intro n
    induction n with
    | zero => intro k be a b; omega
    | succ n ih =>
      intro k be a b
      refine pk_le 4 k (fun z => ?_) (fun z => ?_)
      · have e : k = 4 := by omega
        subst e
        exact nm_r e1 (h be)
      · rw [e1, nI_clamp (n := N) (by omega)]
        refine ⟨vp_in_nI (by omega) (by omega), nm_e ?_⟩
        refine xw_sum (wd := ph_ww wd N (k + 1)) hL (by omega) (ph_bd_ww hw N (k + 1) (by omega)) hlk hps fun be' => ?_
        exact nm_e (nm_r (e' := nI (k + 1)) (nI_1 k) (ih (k + 1) be' (by omega) (by omega)))
  unfold wpX_next
  dsimp only
  exact nm_r (nI_1 N) ⟨5, H 5 0 be (by omega) (by omega)⟩
theorem yw_nextL {post : Int64 → SY → Prop} (hL : L ≤ 4) (hN : N ≤ 7) (hw : ph_bd wd 3) {sz c l : Int32} {st : Nat → Int32}
    (h : ∀ st', post (ph_nxs L N lk ps wd 4) (nI L, nI N, 0, 0, 0, lk, ps, ph_ww wd N 4, st')) :
    wpY_next post (nI L, nI N, sz, c, l, lk, ps, wd, st) := by
  have e1 : nI (N + 1) - 1 = nI N := nI_pred N
  have H : ∀ (n k : Nat) (sz c l : Int32) (st : Nat → Int32), k ≤ 4 → 4 < n + k → (k = 4 → sz = 0 ∧ c = 0 ∧ l = 0) → wY_next_14 post n (ph_nxs L N lk ps wd k) (nI k) (nI L) (nI (N + 1)) sz c l lk ps (ph_ww wd N k) st := by
    intro n
    induction n with
    | zero => intro k sz c l st a b; omega
    | succ n ih =>
      intro k sz c l st a b hz
      refine pk_le 4 k (fun z => ?_) (fun z => ?_)
      · have e : k = 4 := by omega
        obtain ⟨rfl, rfl, rfl⟩ := hz e
        subst e
        exact nm_r e1 (h st)
      · rw [e1, nI_clamp (n := N) (by omega)]
        refine ⟨vp_in_nI (by omega) (by omega), nm_e ?_⟩
        refine yw_sum (wd := ph_ww wd N (k + 1)) hL (by omega) (ph_bd_ww hw N (k + 1) (by omega)) fun st' => ?_
        exact nm_e (nm_r (e' := nI (k + 1)) (nI_1 k) (ih (k + 1) 0 0 0 st' (by omega) (by omega) (fun _ => ⟨rfl, rfl, rfl⟩)))
  unfold wpY_next
  dsimp only
  exact nm_r (nI_1 N) ⟨5, H 5 0 sz c l st (by omega) (by omega) (fun z => by omega)⟩
end
end
section
/-! the relation, and the objects as they are made -/
/-- both hold the same columns, word, likings and passages, within their ranges; all else is scratch -/
def i_Rel (_k : Nat) (u : SX) (v : SY) : Prop :=
  ∃ (L N : Nat) (lk ps wd : Nat → Int32) (ah be : Nat → Int64) (co sc ti bs : Nat → Int32) (sz c l : Int32) (st : Nat → Int32),
    u = (nI L, nI N, lk, ps, wd, ah, be, co, sc, ti, bs) ∧ v = (nI L, nI N, sz, c, l, lk, ps, wd, st) ∧ L ≤ 4 ∧ N ≤ 7 ∧ ph_bd lk 9 ∧ ph_bd ps 9 ∧ ph_bd wd 3
theorem i_up {k : Nat} {u : SX} {v : SY} (h : i_Rel k u v) : i_Rel (k + 4) u v := h
section
variable {L N : Nat} {lk ps wd : Nat → Int32} {ah be : Nat → Int64} {co sc ti bs : Nat → Int32} {sz c l : Int32} {st : Nat → Int32}
theorem xw_mk (k : Nat) (hL : L ≤ 4) (hN : N ≤ 7) (hlk : ph_bd lk 9) (hps : ph_bd ps 9) (hw : ph_bd wd 3) :
    i_Rel k (nI L, nI N, lk, ps, wd, ah, be, co, sc, ti, bs) (nI L, nI N, sz, c, l, lk, ps, wd, st) :=
  ⟨L, N, lk, ps, wd, ah, be, co, sc, ti, bs, sz, c, l, st, rfl, rfl, hL, hN, hlk, hps, hw⟩
end
def xw_on (k : Nat) : Nat → Int32 := fun x => if x < k then 1 else 0
theorem xw_on_0 : xw_on 0 = fun _ => 0 := by
  funext x
  exact if_neg (by omega)
theorem xw_on_s (k : Nat) : upd (xw_on k) k 1 = xw_on (k + 1) := by
  funext x
  by_cases e : x = k
  · rw [e, pk_us, xw_on, if_pos (by omega)]
  · rw [pk_un e, xw_on, xw_on]
    by_cases z : x < k
    · rw [if_pos z, if_pos (by omega)]
    · rw [if_neg z, if_neg (by omega)]
theorem xw_on_bd (k : Nat) : ph_bd (xw_on k) 9 := by
  intro i
  unfold xw_on
  split
  · exact ⟨1, by omega, rfl⟩
  · exact ⟨0, by omega, rfl⟩
theorem xw_z_bd : ph_bd (fun _ => 0) 3 := fun _ => ⟨0, by omega, rfl⟩
theorem xw_init105 {post : SX → Prop} {cL cN : Int32} (h : post (cL, cN, xw_on 20, xw_on 9, fun _ => 0, fun _ => 0, fun _ => 0, fun _ => 0, fun _ => 0, fun _ => 0, fun _ => 0)) :
    ∃ n, wX_init_105 post cL cN n 0 (fun _ => 0) (fun _ => 0) (fun _ => 0) (fun _ => 0) (fun _ => 0) (fun _ => 0) (fun _ => 0) (fun _ => 0) (fun _ => 0) := by
  have H126 : ∀ n k, k ≤ 9 → 9 < n + k → wX_init_126 post cL cN n (nI k) (xw_on 20) (xw_on k) (fun _ => 0) (fun _ => 0) (fun _ => 0) (fun _ => 0) (fun _ => 0) (fun _ => 0) (fun _ => 0) := by
    intro n
    induction n with
    | zero => intro k a b; omega
    | succ n ih =>
      intro k a b
      refine pk_le 9 k (fun z => ?_) (fun z => ⟨vp_in_nI z (by omega), nm_r (e' := xw_on (k + 1)) ?_ (nm_r (e' := nI (k + 1)) (nI_1 k) (ih (k + 1) (by omega) (by omega)))⟩)
      · have e : k = 9 := by omega
        subst e; exact h
      · rw [nI_clamp (by omega), xw_on_s]
  have H105 : ∀ n k, k ≤ 20 → 20 < n + k → wX_init_105 post cL cN n (nI k) (xw_on k) (fun _ => 0) (fun _ => 0) (fun _ => 0) (fun _ => 0) (fun _ => 0) (fun _ => 0) (fun _ => 0) (fun _ => 0) := by
    intro n
    induction n with
    | zero => intro k a b; omega
    | succ n ih =>
      intro k a b
      refine pk_le 20 k (fun z => ?_) (fun z => ⟨vp_in_nI z (by omega), nm_r (e' := xw_on (k + 1)) ?_ (nm_r (e' := nI (k + 1)) (nI_1 k) (ih (k + 1) (by omega) (by omega)))⟩)
      · have e : k = 20 := by omega
        subst e
        have h2 := H126 10 0 (by omega) (by omega)
        rw [xw_on_0] at h2
        exact ⟨10, h2⟩
      · rw [nI_clamp (by omega), xw_on_s]
  have h2 := H105 21 0 (by omega) (by omega)
  rw [xw_on_0] at h2
  exact ⟨21, h2⟩
theorem yw_init61 {post : SY → Prop} {cL : Int32} (h : post (cL, 0, 0, 0, 0, xw_on 20, xw_on 9, fun _ => 0, fun _ => 0)) :
    ∃ n, wY_init_61 post cL 0 0 0 0 n 0 (fun _ => 0) (fun _ => 0) (fun _ => 0) (fun _ => 0) := by
  have H126 : ∀ n k, k ≤ 9 → 9 < n + k → wY_init_82 post cL 0 0 0 0 n (nI k) (xw_on 20) (xw_on k) (fun _ => 0) (fun _ => 0) := by
    intro n
    induction n with
    | zero => intro k a b; omega
    | succ n ih =>
      intro k a b
      refine pk_le 9 k (fun z => ?_) (fun z => ⟨vp_in_nI z (by omega), nm_r (e' := xw_on (k + 1)) ?_ (nm_r (e' := nI (k + 1)) (nI_1 k) (ih (k + 1) (by omega) (by omega)))⟩)
      · have e : k = 9 := by omega
        subst e; exact h
      · rw [nI_clamp (by omega), xw_on_s]
  have H105 : ∀ n k, k ≤ 20 → 20 < n + k → wY_init_61 post cL 0 0 0 0 n (nI k) (xw_on k) (fun _ => 0) (fun _ => 0) (fun _ => 0) := by
    intro n
    induction n with
    | zero => intro k a b; omega
    | succ n ih =>
      intro k a b
      refine pk_le 20 k (fun z => ?_) (fun z => ⟨vp_in_nI z (by omega), nm_r (e' := xw_on (k + 1)) ?_ (nm_r (e' := nI (k + 1)) (nI_1 k) (ih (k + 1) (by omega) (by omega)))⟩)
      · have e : k = 20 := by omega
        subst e
        have h2 := H126 10 0 (by omega) (by omega)
        rw [xw_on_0] at h2
        exact ⟨10, h2⟩
      · rw [nI_clamp (by omega), xw_on_s]
  have h2 := H105 21 0 (by omega) (by omega)
  rw [xw_on_0] at h2
  exact ⟨21, h2⟩
theorem xw_rel0 (L : Nat) (hL : L ≤ 4) : i_Rel 1 (nI L, 0, xw_on 20, xw_on 9, fun _ => 0, fun _ => 0, fun _ => 0, fun _ => 0, fun _ => 0, fun _ => 0, fun _ => 0) (nI L, 0, 0, 0, 0, xw_on 20, xw_on 9, fun _ => 0, fun _ => 0) :=
  xw_mk (N := 0) 1 hL (by omega) (xw_on_bd 20) (xw_on_bd 9) xw_z_bd
theorem i_vc0 (k0 : Int32) : wpX_init (fun u => wpY_init (fun v => i_Rel 1 u v) k0) k0 := by
  by_cases h1 : 1 ≤ k0
  · by_cases h4 : k0 ≤ 4
    · have h0 : ¬ k0 < 0 := by
        rw [Int32.le_iff_toInt_le, show (1 : Int32).toInt = 1 from by decide] at h1
        rw [Int32.lt_iff_toInt_lt, show (0 : Int32).toInt = 0 from by decide]
        omega
      obtain ⟨j, hj, rfl⟩ := nI_of2 (M := 4) (n := 4) (by decide) h0 h4
      refine br_t h1 (br_t h4 (xw_init105 ?_))
      exact br_t h1 (br_t h4 (yw_init61 (xw_rel0 j hj)))
    · refine br_t h1 (br_f h4 (xw_init105 ?_))
      exact br_t h1 (br_f h4 (yw_init61 (xw_rel0 4 (by omega))))
  · refine br_f h1 (br_t (by decide) (xw_init105 ?_))
    exact br_f h1 (yw_init61 (xw_rel0 1 (by omega)))
end
section
/-! what is owed, one a method -/
theorem i_vc_columns {k : Nat} {u : SX} {v : SY} (I : i_Rel k u v) (hk : k + 4 ≤ 2049) : wpX_columns (fun r => wpY_columns (fun r' => r' = r ∧ i_Rel (k + 4) u v) v) u := by
  obtain ⟨L, N, lk, ps, wd, ah, be, co, sc, ti, bs, sz, c, l, st, rfl, rfl, hL, hN, hlk, hps, hw⟩ := I
  exact ⟨rfl, xw_mk _ hL hN hlk hps hw⟩
theorem i_vc_length {k : Nat} {u : SX} {v : SY} (I : i_Rel k u v) (hk : k + 4 ≤ 2049) : wpX_length (fun r => wpY_length (fun r' => r' = r ∧ i_Rel (k + 4) u v) v) u := by
  obtain ⟨L, N, lk, ps, wd, ah, be, co, sc, ti, bs, sz, c, l, st, rfl, rfl, hL, hN, hlk, hps, hw⟩ := I
  exact ⟨rfl, xw_mk _ hL hN hlk hps hw⟩
theorem i_vc_clear {k : Nat} {u : SX} {v : SY} (I : i_Rel k u v) (hk : k + 4 ≤ 2049) : wpX_clear (fun u' => wpY_clear (fun v' => i_Rel (k + 4) u' v') v) u := by
  obtain ⟨L, N, lk, ps, wd, ah, be, co, sc, ti, bs, sz, c, l, st, rfl, rfl, hL, hN, hlk, hps, hw⟩ := I
  exact xw_mk (N := 0) (k + 4) hL (by omega) hlk hps hw
theorem i_vc_like {k : Nat} {u : SX} {v : SY} (I : i_Rel k u v) (hk : k + 4 ≤ 2049) (v1 : Int32) (v2 : Int32) (v3 : Int32) : wpX_like (fun r u' => wpY_like (fun r' v' => r' = r ∧ i_Rel (k + 4) u' v') v v1 v2 v3) u v1 v2 v3 := by
  obtain ⟨L, N, lk, ps, wd, ah, be, co, sc, ti, bs, sz, c, l, st, rfl, rfl, hL, hN, hlk, hps, hw⟩ := I
  have R : i_Rel (k + 4) (nI L, nI N, lk, ps, wd, ah, be, co, sc, ti, bs) (nI L, nI N, sz, c, l, lk, ps, wd, st) := xw_mk _ hL hN hlk hps hw
  unfold wpX_like
  dsimp only
  rcases xw_col (L := L) v1 hL with h | ⟨j, j1, j2, rfl⟩
  · refine xw_bc_f h (br_f (by decide) ?_)
    by_cases z : v1 < 1
    · exact br_t z ⟨rfl, R⟩
    · exact br_f z (br_t (h.resolve_left z) ⟨rfl, R⟩)
  have c1 : ¬ nI j < 1 := nI_nlt (b := 1) j1 (by omega)
  have c2 : ¬ nI L < nI j := nI_nlt j2 (by omega)
  refine xw_bc_t hL j1 j2 (br_t rfl ?_)
  by_cases a0 : v2 < 0
  · exact br_t a0 (br_f c1 (br_f c2 (br_t a0 ⟨rfl, R⟩)))
  by_cases a3 : 3 < v2
  · exact br_f a0 (br_t a3 (br_f c1 (br_f c2 (br_f a0 (br_t a3 ⟨rfl, R⟩)))))
  by_cases x0 : v3 < 0
  · exact br_f a0 (br_f a3 (br_t x0 (br_f c1 (br_f c2 (br_f a0 (br_f a3 (br_t x0 ⟨rfl, R⟩)))))))
  by_cases x9 : v3 ≤ 9
  · obtain ⟨a, ha, rfl⟩ := nI_of2 (M := 3) (n := 3) (by decide) a0 (Int32.not_lt.mp a3)
    obtain ⟨x, hx, rfl⟩ := nI_of2 (M := 9) (n := 9) (by decide) x0 x9
    have e1 : nI j * 4 + nI a = nI (j * 4 + a) := by
      show nI j * nI 4 + nI a = _
      rw [pk_mul, nI_add]
    have e2 : 4 * nI j + nI a = nI (j * 4 + a) := by
      show nI 4 * nI j + nI a = _
      rw [pk_mul, nI_add, Nat.mul_comm 4 j]
    have hin : vp_in (nI (j * 4 + a)) 20 := vp_in_nI (by omega) (by omega)
    refine br_f a0 (br_f a3 (br_f x0 (br_t x9 ?_)))
    rw [e1]
    refine ⟨hin, nm_e ⟨hin, nm_e ?_⟩⟩
    refine br_f c1 (br_f c2 (br_f a0 (br_f a3 (br_f x0 (br_t x9 ?_)))))
    rw [e2]
    refine ⟨hin, nm_e ⟨hin, nm_e ⟨rfl, ?_⟩⟩⟩
    exact xw_mk _ hL hN (ph_bd_upd hlk hx) hps hw
  · exact br_f a0 (br_f a3 (br_f x0 (br_f x9 (br_f c1 (br_f c2 (br_f a0 (br_f a3 (br_f x0 (br_f x9 ⟨rfl, R⟩)))))))))
theorem i_vc_pass {k : Nat} {u : SX} {v : SY} (I : i_Rel k u v) (hk : k + 4 ≤ 2049) (v1 : Int32) (v2 : Int32) (v3 : Int32) : wpX_pass (fun r u' => wpY_pass (fun r' v' => r' = r ∧ i_Rel (k + 4) u' v') v v1 v2 v3) u v1 v2 v3 := by
  obtain ⟨L, N, lk, ps, wd, ah, be, co, sc, ti, bs, sz, c, l, st, rfl, rfl, hL, hN, hlk, hps, hw⟩ := I
  have R : i_Rel (k + 4) (nI L, nI N, lk, ps, wd, ah, be, co, sc, ti, bs) (nI L, nI N, sz, c, l, lk, ps, wd, st) := xw_mk _ hL hN hlk hps hw
  by_cases p0 : v1 < 0
  · exact br_t p0 (br_t p0 ⟨rfl, R⟩)
  by_cases p2 : 2 < v1
  · exact br_f p0 (br_t p2 (br_f p0 (br_t p2 ⟨rfl, R⟩)))
  by_cases a0 : v2 < 0
  · exact br_f p0 (br_f p2 (br_t a0 (br_f p0 (br_f p2 (br_t a0 ⟨rfl, R⟩)))))
  by_cases a3 : 2 < v2
  · exact br_f p0 (br_f p2 (br_f a0 (br_t a3 (br_f p0 (br_f p2 (br_f a0 (br_t a3 ⟨rfl, R⟩)))))))
  by_cases x0 : v3 < 0
  · exact br_f p0 (br_f p2 (br_f a0 (br_f a3 (br_t x0 (br_f p0 (br_f p2 (br_f a0 (br_f a3 (br_t x0 ⟨rfl, R⟩)))))))))
  by_cases x9 : v3 ≤ 9
  · obtain ⟨p, hp, rfl⟩ := nI_of2 (M := 2) (n := 2) (by decide) p0 (Int32.not_lt.mp p2)
    obtain ⟨a, ha, rfl⟩ := nI_of2 (M := 2) (n := 2) (by decide) a0 (Int32.not_lt.mp a3)
    obtain ⟨x, hx, rfl⟩ := nI_of2 (M := 9) (n := 9) (by decide) x0 x9
    have hin : vp_in (nI (p * 3 + a)) 9 := vp_in_nI (by omega) (by omega)
    refine br_f p0 (br_f p2 (br_f a0 (br_f a3 (br_f x0 (br_t x9 ?_)))))
    rw [ph_ixp]
    refine ⟨hin, nm_e ⟨hin, nm_e ?_⟩⟩
    refine br_f p0 (br_f p2 (br_f a0 (br_f a3 (br_f x0 (br_t x9 ?_)))))
    rw [ph_ix3]
    refine ⟨hin, nm_e ⟨hin, nm_e ⟨rfl, ?_⟩⟩⟩
    exact xw_mk _ hL hN hlk (ph_bd_upd hps hx) hw
  · exact br_f p0 (br_f p2 (br_f a0 (br_f a3 (br_f x0 (br_f x9 (br_f p0 (br_f p2 (br_f a0 (br_f a3 (br_f x0 (br_f x9 ⟨rfl, R⟩)))))))))))
theorem i_vc_letter {k : Nat} {u : SX} {v : SY} (I : i_Rel k u v) (hk : k + 4 ≤ 2049) (v1 : Int32) : wpX_letter (fun r u' => wpY_letter (fun r' v' => r' = r ∧ i_Rel (k + 4) u' v') v v1) u v1 := by
  obtain ⟨L, N, lk, ps, wd, ah, be, co, sc, ti, bs, sz, c, l, st, rfl, rfl, hL, hN, hlk, hps, hw⟩ := I
  have R : i_Rel (k + 4) (nI L, nI N, lk, ps, wd, ah, be, co, sc, ti, bs) (nI L, nI N, sz, c, l, lk, ps, wd, st) := xw_mk _ hL hN hlk hps hw
  by_cases a0 : v1 < 0
  · exact br_t a0 (br_t a0 ⟨rfl, R⟩)
  by_cases a3 : v1 ≤ 3
  · by_cases n7 : N = 7
    · have e7 : nI N = 7 := by rw [n7]; rfl
      exact br_f a0 (br_t a3 (br_t e7 (br_f a0 (br_t a3 (br_t e7 ⟨rfl, R⟩)))))
    · have e7 : ¬ nI N = 7 := fun z => n7 ((nI_eq (b := 7) (by omega) (by omega)).mp z)
      obtain ⟨a, ha, rfl⟩ := nI_of2 (M := 3) (n := 3) (by decide) a0 a3
      have hin : vp_in (nI N) 8 := vp_in_nI (by omega) (by omega)
      refine br_f a0 (br_t a3 (br_f e7 ⟨hin, nm_e (nm_r (e' := nI (N + 1)) (nI_1 N) ?_)⟩))
      refine br_f a0 (br_t a3 (br_f e7 ⟨hin, nm_e (nm_r (e' := nI (N + 1)) (nI_1 N) ⟨rfl, ?_⟩)⟩))
      exact xw_mk _ hL (by omega) hlk hps (ph_bd_upd hw ha)
  · exact br_f a0 (br_f a3 (br_f a0 (br_f a3 ⟨rfl, R⟩)))
theorem i_vc_sum {k : Nat} {u : SX} {v : SY} (I : i_Rel k u v) (hk : k + 4 ≤ 2049) : wpX_sum (fun r u' => wpY_sum (fun r' v' => r' = r ∧ i_Rel (k + 4) u' v') v) u := by
  obtain ⟨L, N, lk, ps, wd, ah, be, co, sc, ti, bs, sz, c, l, st, rfl, rfl, hL, hN, hlk, hps, hw⟩ := I
  exact xw_sum hL (by omega) hw hlk hps fun be' => yw_sum hL (by omega) hw fun st' => ⟨rfl, xw_mk _ hL hN hlk hps hw⟩
theorem i_vc_matched {k : Nat} {u : SX} {v : SY} (I : i_Rel k u v) (hk : k + 4 ≤ 2049) (v1 : Int32) (v2 : Int32) : wpX_matched (fun r u' => wpY_matched (fun r' v' => r' = r ∧ i_Rel (k + 4) u' v') v v1 v2) u v1 v2 := by
  obtain ⟨L, N, lk, ps, wd, ah, be, co, sc, ti, bs, sz, c, l, st, rfl, rfl, hL, hN, hlk, hps, hw⟩ := I
  have R : i_Rel (k + 4) (nI L, nI N, lk, ps, wd, ah, be, co, sc, ti, bs) (nI L, nI N, sz, c, l, lk, ps, wd, st) := xw_mk _ hL hN hlk hps hw
  have P : (v1 < 0 ∨ nI N ≤ v1) ∨ ∃ i, i < N ∧ v1 = nI i := by
    rcases xw_ix v1 (n := N) (by omega) with h | h | h
    · exact Or.inl (Or.inl h)
    · exact Or.inl (Or.inr h)
    · exact Or.inr h
  rcases P with h | ⟨i, hi, rfl⟩
  · unfold wpX_matched wpY_matched
    dsimp only
    refine xw_np_f h (br_f (by decide) ?_)
    exact yw_ip_f h (br_t rfl ⟨rfl, R⟩)
  rcases xw_col (L := L) v2 hL with h | ⟨j, j1, j2, rfl⟩
  · unfold wpX_matched wpY_matched
    dsimp only
    refine xw_np_t (by omega) hi (br_t rfl ?_)
    refine xw_bc_f h (br_f (by decide) ?_)
    refine yw_ip_t (by omega) hi (br_f (by decide) ?_)
    exact yw_ic_f h (br_t rfl ⟨rfl, R⟩)
  · exact xw_matched hL (by omega) hw hlk hps hi j1 j2 fun ah' be' => yw_matched hL (by omega) hw hi j1 j2 fun st' => ⟨rfl, xw_mk _ hL hN hlk hps hw⟩
theorem i_vc_deleted {k : Nat} {u : SX} {v : SY} (I : i_Rel k u v) (hk : k + 4 ≤ 2049) (v1 : Int32) : wpX_deleted (fun r u' => wpY_deleted (fun r' v' => r' = r ∧ i_Rel (k + 4) u' v') v v1) u v1 := by
  obtain ⟨L, N, lk, ps, wd, ah, be, co, sc, ti, bs, sz, c, l, st, rfl, rfl, hL, hN, hlk, hps, hw⟩ := I
  have R : i_Rel (k + 4) (nI L, nI N, lk, ps, wd, ah, be, co, sc, ti, bs) (nI L, nI N, sz, c, l, lk, ps, wd, st) := xw_mk _ hL hN hlk hps hw
  rcases xw_col (L := L) v1 hL with h | ⟨j, j1, j2, rfl⟩
  · unfold wpX_deleted wpY_deleted
    dsimp only
    refine xw_bc_f h (br_f (by decide) ?_)
    exact yw_ic_f h (br_t rfl ⟨rfl, R⟩)
  · exact xw_deleted hL (by omega) hw hlk hps j1 j2 fun ah' be' => yw_deleted hL (by omega) hw j1 j2 fun st' => ⟨rfl, xw_mk _ hL hN hlk hps hw⟩
theorem i_vc_inserted {k : Nat} {u : SX} {v : SY} (I : i_Rel k u v) (hk : k + 4 ≤ 2049) (v1 : Int32) : wpX_inserted (fun r u' => wpY_inserted (fun r' v' => r' = r ∧ i_Rel (k + 4) u' v') v v1) u v1 := by
  obtain ⟨L, N, lk, ps, wd, ah, be, co, sc, ti, bs, sz, c, l, st, rfl, rfl, hL, hN, hlk, hps, hw⟩ := I
  have R : i_Rel (k + 4) (nI L, nI N, lk, ps, wd, ah, be, co, sc, ti, bs) (nI L, nI N, sz, c, l, lk, ps, wd, st) := xw_mk _ hL hN hlk hps hw
  have P : (v1 < 0 ∨ nI N ≤ v1) ∨ ∃ i, i < N ∧ v1 = nI i := by
    rcases xw_ix v1 (n := N) (by omega) with h | h | h
    · exact Or.inl (Or.inl h)
    · exact Or.inl (Or.inr h)
    · exact Or.inr h
  rcases P with h | ⟨i, hi, rfl⟩
  · unfold wpX_inserted wpY_inserted
    dsimp only
    refine xw_np_f h (br_f (by decide) ?_)
    exact yw_ip_f h (br_t rfl ⟨rfl, R⟩)
  · exact xw_inserted hL (by omega) hw hlk hps hi fun ah' be' => yw_inserted hL (by omega) hw hi fun st' => ⟨rfl, xw_mk _ hL hN hlk hps hw⟩
theorem i_vc_ways {k : Nat} {u : SX} {v : SY} (I : i_Rel k u v) (hk : k + 4 ≤ 2049) : wpX_ways (fun r u' => wpY_ways (fun r' v' => r' = r ∧ i_Rel (k + 4) u' v') v) u := by
  obtain ⟨L, N, lk, ps, wd, ah, be, co, sc, ti, bs, sz, c, l, st, rfl, rfl, hL, hN, hlk, hps, hw⟩ := I
  exact xw_ways hL (by omega) fun co' => yw_ways hL (by omega) fun st' => ⟨rfl, xw_mk _ hL hN hlk hps hw⟩
theorem i_vc_best {k : Nat} {u : SX} {v : SY} (I : i_Rel k u v) (hk : k + 4 ≤ 2049) : wpX_best (fun r u' => wpY_best (fun r' v' => r' = r ∧ i_Rel (k + 4) u' v') v) u := by
  obtain ⟨L, N, lk, ps, wd, ah, be, co, sc, ti, bs, sz, c, l, st, rfl, rfl, hL, hN, hlk, hps, hw⟩ := I
  unfold wpX_best wpY_best
  dsimp only
  refine xw_fillScores (g := 1) (Or.inl ⟨rfl, rfl⟩) hL (by omega) hw hlk hps fun sc' ti' hV => ?_
  have hv : ph_V L N (ph_s lk ps wd) 1 0 0 0 (sc' 0) (ti' 0) := hV 0 0 0 (by omega) (by omega) (by omega) (by omega)
  refine yw_greatest hL (by omega) hw hlk hps (-1) fun st' => ?_
  exact ⟨yw_best_eq hL (by omega) hlk hps hv, xw_mk _ hL hN hlk hps hw⟩
theorem i_vc_bestStep {k : Nat} {u : SX} {v : SY} (I : i_Rel k u v) (hk : k + 4 ≤ 2049) (v1 : Int32) : wpX_bestStep (fun r u' => wpY_bestStep (fun r' v' => r' = r ∧ i_Rel (k + 4) u' v') v v1) u v1 := by
  obtain ⟨L, N, lk, ps, wd, ah, be, co, sc, ti, bs, sz, c, l, st, rfl, rfl, hL, hN, hlk, hps, hw⟩ := I
  unfold wpX_bestStep
  dsimp only
  refine xw_fillScores (g := 1) (Or.inl ⟨rfl, rfl⟩) hL (by omega) hw hlk hps fun sc' ti' hV => ?_
  have hMN : ∀ a b c, a ≤ N → b ≤ L → c < 3 → ph_MN (fun w => (ph_sc (ph_s lk ps wd) a b c w : Int)) (ph_wy L N a b) (sc' (ph_at a b c)) := by
    intro a b c h1 h2 h3
    have h4 : ph_V L N (ph_s lk ps wd) 1 a b c (sc' (ph_at a b c)) (ti' (ph_at a b c)) := hV a b c (by omega) h1 h2 h3
    exact ph_MN_1 h4.1
  have hv : ph_V L N (ph_s lk ps wd) 1 0 0 0 (sc' 0) (ti' 0) := hV 0 0 0 (by omega) (by omega) (by omega) (by omega)
  have h0 : ph_MN (fun w => (ph_sc (ph_s lk ps wd) 0 0 0 w : Int)) (ph_wy L N 0 0) (sc' 0) := hMN 0 0 0 (by omega) (by omega) (by omega)
  obtain ⟨y, hy, hym⟩ := ph_fd_some h0
  have hlen := (ph_vw_len y 0 0 (ph_vw_of 0 0 y hym)).2.2
  have hf : ∀ m, m = (ph_wy L N 0 0).foldl (yw_gf lk ps wd (-1)) (-4) → (ph_wy L N 0 0).find? (fun w => decide (m ≤ nI (ph_sc (ph_s lk ps wd) 0 0 0 w))) = some y := by
    intro m hm
    rw [yw_best_eq hL (by omega) hlk hps hv] at hm
    rw [hm, yw_fd_eq hL (by omega) hlk hps h0, hy]
  dsimp only
  by_cases z : 0 ≤ v1
  · have z' : ¬ v1 < 0 := Int32.not_lt.mpr z
    obtain ⟨t, ht, rfl⟩ := nI_of z'
    refine br_t z ⟨13, xw_b22 hL (by omega) hw hlk hps hMN t ht y 13 0 0 0 0 (by omega) (by omega) (by omega) (by omega) (by omega) hy ?_⟩
    refine yw_bestStep hL (by omega) hw hlk hps (nI t) y hf fun st' hst => ?_
    have hfw := ph_fw_0 hst
    rw [List.reverse_reverse] at hfw
    have ean : xw_an t 0 0 y = match y[t]? with | some q => nI q | none => -4 := rfl
    refine br_f z' (pk_le y.length t (fun a => ⟨?_, xw_mk _ hL hN hlk hps hw⟩) (fun a => ⟨vp_in_nI (by omega) (by omega), ?_, xw_mk _ hL hN hlk hps hw⟩))
    · rw [ean, List.getElem?_eq_none a]
    · have eg : y[t]? = some (y[t]'a) := List.getElem?_eq_getElem a
      have := ph_fw_get y 0 t _ hfw eg
      rw [Nat.zero_add] at this
      rw [ean, eg, nI_clamp ht, this]
  · have z' : v1 < 0 := Int32.not_le.mp z
    refine br_f z ?_
    refine yw_bestStep hL (by omega) hw hlk hps v1 y hf fun st' hst => ?_
    exact br_t z' ⟨rfl, xw_mk _ hL hN hlk hps hw⟩
theorem i_vc_bestOf {k : Nat} {u : SX} {v : SY} (I : i_Rel k u v) (hk : k + 4 ≤ 2049) (v1 : Int32) : wpX_bestOf (fun r u' => wpY_bestOf (fun r' v' => r' = r ∧ i_Rel (k + 4) u' v') v v1) u v1 := by
  obtain ⟨L, N, lk, ps, wd, ah, be, co, sc, ti, bs, sz, c, l, st, rfl, rfl, hL, hN, hlk, hps, hw⟩ := I
  by_cases z : v1 < 0
  · have z' : ¬ 0 ≤ v1 := Int32.not_le.mpr z
    exact br_t z (br_f z' ⟨rfl, xw_mk _ hL hN hlk hps hw⟩)
  have z' : 0 ≤ v1 := Int32.not_lt.mp z
  obtain ⟨t, ht, rfl⟩ := nI_of z
  by_cases h12 : t ≤ 12
  · refine br_f z (br_t (nI_le (b := 12) h12 (by omega)) ?_)
    refine xw_fillBySteps hL (by omega) hw hlk hps fun bs' hS => ?_
    have hx : ph_MX (fun w => (ph_sc (ph_s lk ps wd) 0 0 0 w : Int)) (ph_fs (ph_wy L N 0 0) t) (bs' t) := by
      have := hS t (by omega)
      rw [show ph_at 0 0 0 * 13 + t = t from Nat.zero_add t] at this
      exact this
    have hY := yw_of_eq hL (by omega) hlk hps ht hx
    have hin : vp_in (nI t) 1755 := vp_in_nI (by omega) (by omega)
    dsimp only
    rw [nI_clamp ht]
    refine ⟨hin, br_c (fun a => br_t z' ?_) (fun a => ⟨hin, br_t z' ?_⟩)⟩
    · refine yw_greatest hL (by omega) hw hlk hps (nI t) fun st' => ⟨?_, xw_mk _ hL hN hlk hps hw⟩
      rw [hY, if_pos a]
    · refine yw_greatest hL (by omega) hw hlk hps (nI t) fun st' => ⟨?_, xw_mk _ hL hN hlk hps hw⟩
      rw [hY, if_neg a]
  · refine br_f z (br_f (nI_ge (a := 12) (by omega) ht) (br_t z' ?_))
    refine yw_greatest hL (by omega) hw hlk hps (nI t) fun st' => ⟨?_, xw_mk _ hL hN hlk hps hw⟩
    exact yw_of_big hL (by omega) t ht (by omega)
theorem i_vc_ties {k : Nat} {u : SX} {v : SY} (I : i_Rel k u v) (hk : k + 4 ≤ 2049) : wpX_ties (fun r u' => wpY_ties (fun r' v' => r' = r ∧ i_Rel (k + 4) u' v') v) u := by
  obtain ⟨L, N, lk, ps, wd, ah, be, co, sc, ti, bs, sz, c, l, st, rfl, rfl, hL, hN, hlk, hps, hw⟩ := I
  unfold wpX_ties
  dsimp only
  refine xw_fillScores (g := 1) (Or.inl ⟨rfl, rfl⟩) hL (by omega) hw hlk hps fun sc' ti' hV => ?_
  have hv : ph_V L N (ph_s lk ps wd) 1 0 0 0 (sc' 0) (ti' 0) := hV 0 0 0 (by omega) (by omega) (by omega) (by omega)
  refine yw_ties1 hL (by omega) hw hlk hps fun m hm st' => ?_
  rw [yw_best_eq hL (by omega) hlk hps hv] at hm
  rw [hm]
  exact ⟨yw_ties_eq hL (by omega) hlk hps hv, xw_mk _ hL hN hlk hps hw⟩
theorem i_vc_worst {k : Nat} {u : SX} {v : SY} (I : i_Rel k u v) (hk : k + 4 ≤ 2049) : wpX_worst (fun r u' => wpY_worst (fun r' v' => r' = r ∧ i_Rel (k + 4) u' v') v) u := by
  obtain ⟨L, N, lk, ps, wd, ah, be, co, sc, ti, bs, sz, c, l, st, rfl, rfl, hL, hN, hlk, hps, hw⟩ := I
  unfold wpX_worst
  dsimp only
  refine xw_fillScores (g := -1) (Or.inr ⟨rfl, rfl⟩) hL (by omega) hw hlk hps fun sc' ti' hV => ?_
  have hv : ph_V L N (ph_s lk ps wd) (-1) 0 0 0 (sc' 0) (ti' 0) := hV 0 0 0 (by omega) (by omega) (by omega) (by omega)
  refine yw_worst hL (by omega) hw hlk hps fun st' => ?_
  exact ⟨yw_worst_eq hL (by omega) hlk hps hv, xw_mk _ hL hN hlk hps hw⟩
theorem i_vc_next {k : Nat} {u : SX} {v : SY} (I : i_Rel k u v) (hk : k + 4 ≤ 2049) : wpX_next (fun r u' => wpY_next (fun r' v' => r' = r ∧ i_Rel (k + 4) u' v') v) u := by
  obtain ⟨L, N, lk, ps, wd, ah, be, co, sc, ti, bs, sz, c, l, st, rfl, rfl, hL, hN, hlk, hps, hw⟩ := I
  exact xw_next hL hN hw hlk hps fun be' => yw_nextL hL hN hw fun st' => ⟨rfl, xw_mk _ hL hN hlk hps (ph_bd_ww hw N 4 (by omega))⟩
end
