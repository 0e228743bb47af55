section
/-! rows pasted from the kit (kit/rows, PURE-ROWS) -/
theorem pk_us {f : Nat → Int32} {k : Nat} {x : Int32} : upd f k x k = x := if_pos rfl
theorem pk_un {f : Nat → Int32} {k j : Nat} {x : Int32} (h : j ≠ k) : upd f k x j = f j := if_neg h
theorem pk_sub {a b : Nat} (h : b ≤ a) : nI a - nI b = nI (a - b) := by
  obtain ⟨c, rfl⟩ : ∃ c, a = c + b := ⟨a - b, by omega⟩
  rw [← nI_add, Int32.add_sub_cancel, Nat.add_sub_cancel]
theorem pk_m1 (n : Nat) : nI (n + 1) + (-1) = nI n := by
  rw [← nI_1, Int32.add_assoc, show (1 : Int32) + (-1) = 0 from rfl, Int32.add_zero]
theorem pk_mul (a b : Nat) : nI a * nI b = nI (a * b) := (Int32.ofNat_mul a b).symm
theorem pk_div {a d : Nat} (ha : a < 2 ^ 31) (h0 : 0 < d) (hd : d < 2 ^ 31) : nI a / nI d = nI (a / d) := by
  apply Int32.toInt_inj.mp
  rw [lg_idiv_nonneg (by rw [nI_toInt ha]; omega) (by rw [nI_toInt hd]; omega), nI_toInt ha, nI_toInt hd, nI_toInt (Nat.lt_of_le_of_lt (Nat.div_le_self a d) ha)]
  first | rfl | exact (Int.natCast_ediv _ _).symm
theorem pk_rem {a d : Nat} (ha : a < 2 ^ 31) (h0 : 0 < d) (hd : d < 2 ^ 31) : nI a - nI a / nI d * nI d = nI (a % d) := by
  rw [pk_div ha h0 hd, pk_mul, pk_sub (Nat.div_mul_le_self a d)]
  exact congrArg nI (by have := Nat.div_add_mod' a d; omega)
theorem pk_ix (x : Int32) {n : Nat} (hn : n < 2 ^ 31) : x < 0 ∨ nI n ≤ x ∨ ∃ j : Nat, j < n ∧ x = nI j := by
  by_cases h : x < 0
  · exact Or.inl h
  · obtain ⟨j, hj, rfl⟩ := nI_of h
    by_cases h2 : j < n
    · exact Or.inr (Or.inr ⟨j, h2, rfl⟩)
    · exact Or.inr (Or.inl (nI_le (by omega) hj))
theorem pk_le {x y : Int32} {A B : Prop} (a b : Nat) (f : a ≤ b → A) (g : b < a → B) (hx : x = nI a := by rfl) (hy : y = nI b := by rfl) (ha : a < 2 ^ 31 := by omega) (hb : b < 2 ^ 31 := by omega) : (x ≤ y → A) ∧ (¬ x ≤ y → B) := by
  subst hx hy
  rw [nI_leI ha hb]
  exact ⟨f, fun z => g (by omega)⟩
theorem pk_lt {x y : Int32} {A B : Prop} (a b : Nat) (f : a < b → A) (g : b ≤ a → B) (hx : x = nI a := by rfl) (hy : y = nI b := by rfl) (ha : a < 2 ^ 31 := by omega) (hb : b < 2 ^ 31 := by omega) : (x < y → A) ∧ (¬ x < y → B) := by
  subst hx hy
  rw [nI_ltI ha hb]
  exact ⟨f, fun z => g (by omega)⟩
theorem pk_eq {x y : Int32} {A B : Prop} (a b : Nat) (f : a = b → A) (g : a ≠ b → B) (hx : x = nI a := by rfl) (hy : y = nI b := by rfl) (ha : a < 2 ^ 31 := by omega) (hb : b < 2 ^ 31 := by omega) : (x = y → A) ∧ (¬ x = y → B) := by
  subst hx hy
  rw [nI_eq ha hb]
  exact ⟨f, g⟩
theorem pk_in {x : Int32} (n N : Nat) (h : n < N) (hx : x = nI n := by rfl) (hN : N < 2 ^ 31 := by omega) : vp_in x N := by
  subst hx
  exact vp_in_nI h hN
theorem pk_cl {x : Int32} (n : Nat) (hx : x = nI n := by rfl) (h : n < 2 ^ 31 := by omega) : x.toNatClampNeg = n := by
  subst hx
  exact nI_clamp h
theorem pk_vb (z : Int32) : vp_nar .byte z.toInt8.toInt32 = z.toInt8.toInt32 := by rw [vp_nar_byte]; simp
end
section
/-! paths of columns, counted by score: no program in sight -/
section
variable (g : Nat → Nat → Int) (o l : Int)
/-- the cost of a column of sort b behind one of sort a -/
def aa_cs (a b : Nat) : Int := if b = 0 then 0 else if a = b then l else o + l
def aa_d (i j a p q b : Nat) (v : Int) : Nat := if i = p ∧ j = q ∧ a = b ∧ v = 0 then 1 else 0
/-- how many runs of less than t columns lead from place (i, j) behind a column of sort a to place (p, q) behind one of sort b, with score v -/
def aa_pc : Nat → Nat → Nat → Nat → Nat → Nat → Nat → Int → Nat
  | 0 => fun _ _ _ _ _ _ _ => 0
  | t + 1 => fun i j a p q b v => aa_d i j a p q b v + aa_pc t (i + 1) (j + 1) 0 p q b (v - g i j) + aa_pc t (i + 1) j 1 p q b (v + aa_cs o l a 1) + aa_pc t i (j + 1) 2 p q b (v + aa_cs o l a 2)
/-- one column more at the end -/
def aa_R (f : Nat → Nat → Nat → Int → Nat) (p q b : Nat) (v : Int) : Nat :=
  (if b = 0 ∧ 0 < p ∧ 0 < q then f (p - 1) (q - 1) 0 (v - g (p - 1) (q - 1)) + f (p - 1) (q - 1) 1 (v - g (p - 1) (q - 1)) + f (p - 1) (q - 1) 2 (v - g (p - 1) (q - 1)) else 0)
  + (if b = 1 ∧ 0 < p then f (p - 1) q 0 (v + aa_cs o l 0 1) + f (p - 1) q 1 (v + aa_cs o l 1 1) + f (p - 1) q 2 (v + aa_cs o l 2 1) else 0)
  + (if b = 2 ∧ 0 < q then f p (q - 1) 0 (v + aa_cs o l 0 2) + f p (q - 1) 1 (v + aa_cs o l 1 2) + f p (q - 1) 2 (v + aa_cs o l 2 2) else 0)
theorem aa_R_add (f h : Nat → Nat → Nat → Int → Nat) (p q b : Nat) (v : Int) : aa_R g o l (fun p q b v => f p q b v + h p q b v) p q b v = aa_R g o l f p q b v + aa_R g o l h p q b v := by
  simp only [aa_R]
  by_cases h0 : b = 0 ∧ 0 < p ∧ 0 < q
  · have h1 : ¬ (b = 1 ∧ 0 < p) := by omega
    have h2 : ¬ (b = 2 ∧ 0 < q) := by omega
    simp only [if_pos h0, if_neg h1, if_neg h2]
    omega
  · by_cases h1 : b = 1 ∧ 0 < p
    · have h2 : ¬ (b = 2 ∧ 0 < q) := by omega
      simp only [if_neg h0, if_pos h1, if_neg h2]
      omega
    · by_cases h2 : b = 2 ∧ 0 < q
      · simp only [if_neg h0, if_neg h1, if_pos h2]
        omega
      · simp only [if_neg h0, if_neg h1, if_neg h2]
theorem aa_R_sh (f : Nat → Nat → Nat → Int → Nat) (d : Int) (p q b : Nat) (v : Int) : aa_R g o l (fun p q b v => f p q b (v + d)) p q b v = aa_R g o l f p q b (v + d) := by
  have e : ∀ c : Int, v + d + c = v + c + d := fun c => by omega
  have e' : ∀ c : Int, v + d - c = v - c + d := fun c => by omega
  simp only [aa_R, e, e']
theorem aa_R_sub (f : Nat → Nat → Nat → Int → Nat) (d : Int) (p q b : Nat) (v : Int) : aa_R g o l (fun p q b v => f p q b (v - d)) p q b v = aa_R g o l f p q b (v - d) := by
  have e : ∀ c : Int, v - d + c = v + c - d := fun c => by omega
  have e' : ∀ c : Int, v - d - c = v - c - d := fun c => by omega
  simp only [aa_R, e, e']
theorem aa_R_d (i j a : Nat) (ha : a < 3) (p q b : Nat) (v : Int) : aa_R g o l (aa_d i j a) p q b v = aa_d (i + 1) (j + 1) 0 p q b (v - g i j) + aa_d (i + 1) j 1 p q b (v + aa_cs o l a 1) + aa_d i (j + 1) 2 p q b (v + aa_cs o l a 2) := by
  obtain rfl | rfl | rfl : a = 0 ∨ a = 1 ∨ a = 2 := by omega
  all_goals
    by_cases b0 : b = 0
    · subst b0
      by_cases h : i + 1 = p ∧ j + 1 = q
      · obtain ⟨rfl, rfl⟩ := h
        simp [aa_R, aa_d]
      · have h' : ∀ c (w : Int), aa_d i j c p q 0 w = aa_d i j c p q 0 w := fun _ _ => rfl
        have k1 : 0 < p ∧ 0 < q → ¬ (i = p - 1 ∧ j = q - 1) := by omega
        simp only [aa_R, aa_d]
        grind
    · by_cases b1 : b = 1
      · subst b1
        by_cases h : i + 1 = p ∧ j = q
        · obtain ⟨rfl, rfl⟩ := h
          simp [aa_R, aa_d]
        · have k1 : 0 < p → ¬ (i = p - 1 ∧ j = q) := by omega
          simp only [aa_R, aa_d]
          grind
      · by_cases b2 : b = 2
        · subst b2
          by_cases h : i = p ∧ j + 1 = q
          · obtain ⟨rfl, rfl⟩ := h
            simp [aa_R, aa_d]
          · have k1 : 0 < q → ¬ (i = p ∧ j = q - 1) := by omega
            simp only [aa_R, aa_d]
            grind
        · simp only [aa_R, aa_d]
          grind
theorem aa_pc_r : ∀ (t i j a p q b : Nat) (v : Int), a < 3 → aa_pc g o l (t + 1) i j a p q b v = aa_d i j a p q b v + aa_R g o l (aa_pc g o l t i j a) p q b v := by
  intro t
  induction t with
  | zero =>
    intro i j a p q b v ha
    simp [aa_pc, aa_R]
  | succ t ih =>
    intro i j a p q b v ha
    have e : aa_pc g o l (t + 1) i j a = fun p q b v => aa_d i j a p q b v + aa_pc g o l t (i + 1) (j + 1) 0 p q b (v - g i j) + aa_pc g o l t (i + 1) j 1 p q b (v + aa_cs o l a 1) + aa_pc g o l t i (j + 1) 2 p q b (v + aa_cs o l a 2) := rfl
    have e2 : aa_pc g o l (t + 1 + 1) i j a p q b v = aa_d i j a p q b v + aa_pc g o l (t + 1) (i + 1) (j + 1) 0 p q b (v - g i j) + aa_pc g o l (t + 1) (i + 1) j 1 p q b (v + aa_cs o l a 1) + aa_pc g o l (t + 1) i (j + 1) 2 p q b (v + aa_cs o l a 2) := rfl
    rw [e2, ih (i + 1) (j + 1) 0 p q b _ (by decide), ih (i + 1) j 1 p q b _ (by decide), ih i (j + 1) 2 p q b _ (by decide), e]
    rw [aa_R_add, aa_R_add, aa_R_add, aa_R_sub g o l (aa_pc g o l t (i + 1) (j + 1) 0) (g i j), aa_R_sh g o l (aa_pc g o l t (i + 1) j 1) (aa_cs o l a 1), aa_R_sh g o l (aa_pc g o l t i (j + 1) 2) (aa_cs o l a 2), aa_R_d g o l i j a ha]
    omega
theorem aa_pc_0 : ∀ (t i j a p q b : Nat) (v : Int), p < i ∨ q < j → aa_pc g o l t i j a p q b v = 0 := by
  intro t
  induction t with
  | zero => intros; rfl
  | succ t ih =>
    intro i j a p q b v h
    have e : aa_d i j a p q b v = 0 := if_neg (by omega)
    show aa_d i j a p q b v + aa_pc g o l t (i + 1) (j + 1) 0 p q b (v - g i j) + aa_pc g o l t (i + 1) j 1 p q b (v + aa_cs o l a 1) + aa_pc g o l t i (j + 1) 2 p q b (v + aa_cs o l a 2) = 0
    rw [e, ih _ _ _ _ _ _ _ (by omega), ih _ _ _ _ _ _ _ (by omega), ih _ _ _ _ _ _ _ (by omega)]
end
/-- the numbers are small -/
def aa_Sm (g : Nat → Nat → Int) (o l : Int) : Prop := (∀ i j, -9 ≤ g i j ∧ g i j ≤ 9) ∧ (0 ≤ o ∧ o ≤ 9) ∧ (0 ≤ l ∧ l ≤ 9)
section
variable {g : Nat → Nat → Int} {o l : Int}
theorem aa_cs_b (h : aa_Sm g o l) (a b : Nat) : 0 ≤ aa_cs o l a b ∧ aa_cs o l a b ≤ 18 := by
  obtain ⟨_, h1, h2⟩ := h
  unfold aa_cs
  split
  · omega
  · split <;> omega
theorem aa_pc_b (h : aa_Sm g o l) : ∀ (t i j a p q b : Nat) (v : Int), aa_pc g o l t i j a p q b v ≠ 0 → -18 * (t : Int) ≤ v ∧ v ≤ 18 * (t : Int) := by
  intro t
  induction t with
  | zero => intro i j a p q b v hn; exact absurd rfl hn
  | succ t ih =>
    intro i j a p q b v hn
    have hn' : aa_d i j a p q b v + aa_pc g o l t (i + 1) (j + 1) 0 p q b (v - g i j) + aa_pc g o l t (i + 1) j 1 p q b (v + aa_cs o l a 1) + aa_pc g o l t i (j + 1) 2 p q b (v + aa_cs o l a 2) ≠ 0 := hn
    have i0 := ih (i + 1) (j + 1) 0 p q b (v - g i j)
    have i1 := ih (i + 1) j 1 p q b (v + aa_cs o l a 1)
    have i2 := ih i (j + 1) 2 p q b (v + aa_cs o l a 2)
    have c1 := aa_cs_b h a 1
    have c2 := aa_cs_b h a 2
    have c0 := h.1 i j
    by_cases z0 : aa_pc g o l t (i + 1) (j + 1) 0 p q b (v - g i j) = 0
    · by_cases z1 : aa_pc g o l t (i + 1) j 1 p q b (v + aa_cs o l a 1) = 0
      · by_cases z2 : aa_pc g o l t i (j + 1) 2 p q b (v + aa_cs o l a 2) = 0
        · have hd : aa_d i j a p q b v ≠ 0 := by omega
          have hv : v = 0 := by
            unfold aa_d at hd
            split at hd
            · rename_i hh; exact hh.2.2.2
            · exact absurd rfl hd
          omega
        · have := i2 z2
          omega
      · have := i1 z1
        omega
    · have := i0 z0
      omega
/-- from every place there is a way to every later one -/
theorem aa_pc_n : ∀ (t i j a p q : Nat), a < 3 → i ≤ p → j ≤ q → (p - i) + (q - j) < t → ∃ b, b < 3 ∧ ∃ v, aa_pc g o l t i j a p q b v ≠ 0 := by
  intro t
  induction t with
  | zero => intro i j a p q _ _ _ h; omega
  | succ t ih =>
    intro i j a p q ha hi hj h
    have e : ∀ b v, aa_pc g o l (t + 1) i j a p q b v = aa_d i j a p q b v + aa_pc g o l t (i + 1) (j + 1) 0 p q b (v - g i j) + aa_pc g o l t (i + 1) j 1 p q b (v + aa_cs o l a 1) + aa_pc g o l t i (j + 1) 2 p q b (v + aa_cs o l a 2) := fun _ _ => rfl
    by_cases h1 : i < p
    · obtain ⟨b, hb, v, hv⟩ := ih (i + 1) j 1 p q (by decide) (by omega) hj (by omega)
      refine ⟨b, hb, v - aa_cs o l a 1, ?_⟩
      rw [e, show v - aa_cs o l a 1 + aa_cs o l a 1 = v by omega]
      omega
    · by_cases h2 : j < q
      · obtain ⟨b, hb, v, hv⟩ := ih i (j + 1) 2 p q (by decide) hi (by omega) (by omega)
        refine ⟨b, hb, v - aa_cs o l a 2, ?_⟩
        rw [e, show v - aa_cs o l a 2 + aa_cs o l a 2 = v by omega]
        omega
      · refine ⟨a, ha, 0, ?_⟩
        have hd : aa_d i j a p q a 0 = 1 := if_pos ⟨by omega, by omega, rfl, rfl⟩
        rw [e, hd]
        omega
end
end
section
/-! the tables from the front and from behind, and the runs of gaps -/
section
variable (g : Nat → Nat → Int) (o l : Int)
/-- paths that begin where be says and end at (p, q) with a last column of sort b -/
def aa_fw (be : Nat → Nat → Bool) : Nat → Nat → Nat → Nat → Int → Nat
  | 0 => fun _ _ _ _ => 0
  | t + 1 => fun p q b v => (if b = 0 ∧ be p q = true ∧ v = 0 then 1 else 0) + aa_R g o l (aa_fw be t) p q b v
/-- paths from (i, j) behind a column of sort a that end where en says, within n and m -/
def aa_bk (n m : Nat) (en : Nat → Nat → Bool) : Nat → Nat → Nat → Nat → Int → Nat
  | 0 => fun _ _ _ _ => 0
  | t + 1 => fun i j a v => (if en i j = true ∧ v = 0 then 1 else 0) + (if i < n ∧ j < m then aa_bk n m en t (i + 1) (j + 1) 0 (v - g i j) else 0) + (if i < n then aa_bk n m en t (i + 1) j 1 (v + aa_cs o l a 1) else 0) + (if j < m then aa_bk n m en t i (j + 1) 2 (v + aa_cs o l a 2) else 0)
end
section
variable {g : Nat → Nat → Int} {o l : Int}
theorem aa_R_c {f h : Nat → Nat → Nat → Int → Nat} {p q b : Nat} {v : Int} (e : ∀ p' q' b' w, p' + q' < p + q → f p' q' b' w = h p' q' b' w) : aa_R g o l f p q b v = aa_R g o l h p q b v := by
  unfold aa_R
  by_cases h0 : b = 0 ∧ 0 < p ∧ 0 < q
  · have h1 : ¬ (b = 1 ∧ 0 < p) := by omega
    have h2 : ¬ (b = 2 ∧ 0 < q) := by omega
    simp only [if_pos h0, if_neg h1, if_neg h2]
    rw [e _ _ 0 _ (by omega), e _ _ 1 _ (by omega), e _ _ 2 _ (by omega)]
  · by_cases h1 : b = 1 ∧ 0 < p
    · have h2 : ¬ (b = 2 ∧ 0 < q) := by omega
      simp only [if_neg h0, if_pos h1, if_neg h2]
      rw [e _ _ 0 _ (by omega), e _ _ 1 _ (by omega), e _ _ 2 _ (by omega)]
    · by_cases h2 : b = 2 ∧ 0 < q
      · simp only [if_neg h0, if_neg h1, if_pos h2]
        rw [e _ _ 0 _ (by omega), e _ _ 1 _ (by omega), e _ _ 2 _ (by omega)]
      · simp only [if_neg h0, if_neg h1, if_neg h2]
theorem aa_fw_s (be : Nat → Nat → Bool) : ∀ (t p q b : Nat) (v : Int), p + q < t → aa_fw g o l be t p q b v = aa_fw g o l be (t + 1) p q b v := by
  intro t
  induction t with
  | zero => intro p q b v h; omega
  | succ t ih =>
    intro p q b v h
    show (if b = 0 ∧ be p q = true ∧ v = 0 then 1 else 0) + aa_R g o l (aa_fw g o l be t) p q b v = (if b = 0 ∧ be p q = true ∧ v = 0 then 1 else 0) + aa_R g o l (aa_fw g o l be (t + 1)) p q b v
    rw [aa_R_c (h := aa_fw g o l be (t + 1)) (fun p' q' b' w hl => ih p' q' b' w (by omega))]
theorem aa_fw_0 {be : Nat → Nat → Bool} (hb : ∀ p q, be p q = true ↔ (p = 0 ∧ q = 0)) : ∀ (t p q b : Nat) (v : Int), aa_fw g o l be t p q b v = aa_pc g o l t 0 0 0 p q b v := by
  intro t
  induction t with
  | zero => intros; rfl
  | succ t ih =>
    intro p q b v
    rw [aa_pc_r g o l t 0 0 0 p q b v (by decide)]
    show (if b = 0 ∧ be p q = true ∧ v = 0 then 1 else 0) + aa_R g o l (aa_fw g o l be t) p q b v = _
    rw [aa_R_c (h := aa_pc g o l t 0 0 0) (fun p' q' b' w _ => ih p' q' b' w)]
    congr 1
    unfold aa_d
    have := hb p q
    by_cases h : b = 0 ∧ be p q = true ∧ v = 0
    · rw [if_pos h, if_pos]
      obtain ⟨h1, h2, h3⟩ := h
      have := this.mp h2
      exact ⟨by omega, by omega, by omega, h3⟩
    · rw [if_neg h, if_neg]
      intro h'
      exact h ⟨by omega, this.mpr ⟨by omega, by omega⟩, h'.2.2.2⟩
theorem aa_R_n {f : Nat → Nat → Nat → Int → Nat} {p q b : Nat} {v : Int} : aa_R g o l f p q b v ≠ 0 ↔ ((b = 0 ∧ 0 < p ∧ 0 < q) ∧ ∃ c, c < 3 ∧ f (p - 1) (q - 1) c (v - g (p - 1) (q - 1)) ≠ 0) ∨ ((b = 1 ∧ 0 < p) ∧ ∃ c, c < 3 ∧ f (p - 1) q c (v + aa_cs o l c 1) ≠ 0) ∨ ((b = 2 ∧ 0 < q) ∧ ∃ c, c < 3 ∧ f p (q - 1) c (v + aa_cs o l c 2) ≠ 0) := by
  have key : ∀ F : Nat → Nat, F 0 + F 1 + F 2 ≠ 0 ↔ ∃ c, c < 3 ∧ F c ≠ 0 := by
    intro F
    constructor
    · intro h
      by_cases h0 : F 0 = 0
      · by_cases h1 : F 1 = 0
        · exact ⟨2, by decide, by omega⟩
        · exact ⟨1, by decide, h1⟩
      · exact ⟨0, by decide, h0⟩
    · rintro ⟨c, hc, h⟩
      obtain rfl | rfl | rfl : c = 0 ∨ c = 1 ∨ c = 2 := by omega
      all_goals omega
  rw [← key (fun c => f (p - 1) (q - 1) c (v - g (p - 1) (q - 1))), ← key (fun c => f (p - 1) q c (v + aa_cs o l c 1)), ← key (fun c => f p (q - 1) c (v + aa_cs o l c 2))]
  unfold aa_R
  by_cases h0 : b = 0 ∧ 0 < p ∧ 0 < q
  · have h1 : ¬ (b = 1 ∧ 0 < p) := by omega
    have h2 : ¬ (b = 2 ∧ 0 < q) := by omega
    simp only [if_pos h0, if_neg h1, if_neg h2]
    constructor
    · intro h; exact Or.inl ⟨h0, h⟩
    · rintro (h | h | h)
      · exact h.2
      · exact absurd h.1 h1
      · exact absurd h.1 h2
  · by_cases h1 : b = 1 ∧ 0 < p
    · have h2 : ¬ (b = 2 ∧ 0 < q) := by omega
      simp only [if_neg h0, if_pos h1, if_neg h2]
      constructor
      · intro h; exact Or.inr (Or.inl ⟨h1, by omega⟩)
      · rintro (h | h | h)
        · exact absurd h.1 h0
        · have := h.2; omega
        · exact absurd h.1 h2
    · by_cases h2 : b = 2 ∧ 0 < q
      · simp only [if_neg h0, if_neg h1, if_pos h2]
        constructor
        · intro h; exact Or.inr (Or.inr ⟨h2, by omega⟩)
        · rintro (h | h | h)
          · exact absurd h.1 h0
          · exact absurd h.1 h1
          · have := h.2; omega
      · simp only [if_neg h0, if_neg h1, if_neg h2]
        constructor
        · intro h; exact absurd rfl h
        · rintro (h | h | h)
          · exact absurd h.1 h0
          · exact absurd h.1 h1
          · exact absurd h.1 h2
theorem aa_R_x {f : Nat → Nat → Nat → Int → Nat} {be : Nat → Nat → Bool} {k : Nat → Nat → Nat → Nat → Nat → Int → Nat} (e : ∀ p q b v, f p q b v ≠ 0 ↔ ∃ i j, be i j = true ∧ k i j p q b v ≠ 0) (p q b : Nat) (v : Int) : aa_R g o l f p q b v ≠ 0 ↔ ∃ i j, be i j = true ∧ aa_R g o l (k i j) p q b v ≠ 0 := by
  simp only [aa_R_n]
  constructor
  · rintro (⟨h, c, hc, hf⟩ | ⟨h, c, hc, hf⟩ | ⟨h, c, hc, hf⟩)
    · obtain ⟨i, j, hb, hk⟩ := (e _ _ _ _).mp hf
      exact ⟨i, j, hb, Or.inl ⟨h, c, hc, hk⟩⟩
    · obtain ⟨i, j, hb, hk⟩ := (e _ _ _ _).mp hf
      exact ⟨i, j, hb, Or.inr (Or.inl ⟨h, c, hc, hk⟩)⟩
    · obtain ⟨i, j, hb, hk⟩ := (e _ _ _ _).mp hf
      exact ⟨i, j, hb, Or.inr (Or.inr ⟨h, c, hc, hk⟩)⟩
  · rintro ⟨i, j, hb, ⟨h, c, hc, hf⟩ | ⟨h, c, hc, hf⟩ | ⟨h, c, hc, hf⟩⟩
    · exact Or.inl ⟨h, c, hc, (e _ _ _ _).mpr ⟨i, j, hb, hf⟩⟩
    · exact Or.inr (Or.inl ⟨h, c, hc, (e _ _ _ _).mpr ⟨i, j, hb, hf⟩⟩)
    · exact Or.inr (Or.inr ⟨h, c, hc, (e _ _ _ _).mpr ⟨i, j, hb, hf⟩⟩)
theorem aa_fw_x (be : Nat → Nat → Bool) : ∀ (t p q b : Nat) (v : Int), aa_fw g o l be t p q b v ≠ 0 ↔ ∃ i j, be i j = true ∧ aa_pc g o l t i j 0 p q b v ≠ 0 := by
  intro t
  induction t with
  | zero =>
    intro p q b v
    constructor
    · intro h; exact absurd rfl h
    · rintro ⟨i, j, _, h⟩; exact absurd rfl h
  | succ t ih =>
    intro p q b v
    have hr := aa_R_x (g := g) (o := o) (l := l) (f := aa_fw g o l be t) (be := be) (k := fun i j => aa_pc g o l t i j 0) ih p q b v
    have e : aa_fw g o l be (t + 1) p q b v = (if b = 0 ∧ be p q = true ∧ v = 0 then 1 else 0) + aa_R g o l (aa_fw g o l be t) p q b v := rfl
    rw [e]
    constructor
    · intro h
      by_cases hi : b = 0 ∧ be p q = true ∧ v = 0
      · refine ⟨p, q, hi.2.1, ?_⟩
        rw [aa_pc_r g o l t p q 0 p q b v (by decide)]
        have : aa_d p q 0 p q b v = 1 := if_pos ⟨rfl, rfl, hi.1.symm, hi.2.2⟩
        omega
      · rw [if_neg hi] at h
        obtain ⟨i, j, hb, hk⟩ := hr.mp (by omega)
        refine ⟨i, j, hb, ?_⟩
        rw [aa_pc_r g o l t i j 0 p q b v (by decide)]
        omega
    · rintro ⟨i, j, hb, hk⟩
      rw [aa_pc_r g o l t i j 0 p q b v (by decide)] at hk
      by_cases hd : aa_d i j 0 p q b v = 0
      · have := hr.mpr ⟨i, j, hb, by omega⟩
        omega
      · unfold aa_d at hd
        split at hd
        · rename_i hh
          obtain ⟨rfl, rfl, rfl, rfl⟩ := hh
          rw [if_pos ⟨rfl, hb, rfl⟩]
          omega
        · exact absurd rfl hd
theorem aa_bk_s (n m : Nat) (en : Nat → Nat → Bool) : ∀ (t i j a : Nat) (v : Int), (n - i) + (m - j) < t → aa_bk g o l n m en t i j a v = aa_bk g o l n m en (t + 1) i j a v := by
  intro t
  induction t with
  | zero => intro i j a v h; omega
  | succ t ih =>
    intro i j a v h
    have e0 : (if i < n ∧ j < m then aa_bk g o l n m en t (i + 1) (j + 1) 0 (v - g i j) else 0) = (if i < n ∧ j < m then aa_bk g o l n m en (t + 1) (i + 1) (j + 1) 0 (v - g i j) else 0) := by
      split
      · exact ih _ _ _ _ (by omega)
      · rfl
    have e1 : (if i < n then aa_bk g o l n m en t (i + 1) j 1 (v + aa_cs o l a 1) else 0) = (if i < n then aa_bk g o l n m en (t + 1) (i + 1) j 1 (v + aa_cs o l a 1) else 0) := by
      split
      · exact ih _ _ _ _ (by omega)
      · rfl
    have e2 : (if j < m then aa_bk g o l n m en t i (j + 1) 2 (v + aa_cs o l a 2) else 0) = (if j < m then aa_bk g o l n m en (t + 1) i (j + 1) 2 (v + aa_cs o l a 2) else 0) := by
      split
      · exact ih _ _ _ _ (by omega)
      · rfl
    show (if en i j = true ∧ v = 0 then 1 else 0) + (if i < n ∧ j < m then aa_bk g o l n m en t (i + 1) (j + 1) 0 (v - g i j) else 0) + (if i < n then aa_bk g o l n m en t (i + 1) j 1 (v + aa_cs o l a 1) else 0) + (if j < m then aa_bk g o l n m en t i (j + 1) 2 (v + aa_cs o l a 2) else 0) = (if en i j = true ∧ v = 0 then 1 else 0) + (if i < n ∧ j < m then aa_bk g o l n m en (t + 1) (i + 1) (j + 1) 0 (v - g i j) else 0) + (if i < n then aa_bk g o l n m en (t + 1) (i + 1) j 1 (v + aa_cs o l a 1) else 0) + (if j < m then aa_bk g o l n m en (t + 1) i (j + 1) 2 (v + aa_cs o l a 2) else 0)
    rw [e0, e1, e2]
/-- ends at both ends alone: the paths to the corner -/
theorem aa_bk_0 {n m : Nat} {en : Nat → Nat → Bool} (he : ∀ i j, en i j = true ↔ (i = n ∧ j = m)) : ∀ (t i j a : Nat) (v : Int), i ≤ n → j ≤ m → a < 3 → aa_bk g o l n m en t i j a v = aa_pc g o l t i j a n m 0 v + aa_pc g o l t i j a n m 1 v + aa_pc g o l t i j a n m 2 v := by
  intro t
  induction t with
  | zero => intros; rfl
  | succ t ih =>
    intro i j a v hi hj ha
    have e : ∀ b, aa_pc g o l (t + 1) i j a n m b v = aa_d i j a n m b v + aa_pc g o l t (i + 1) (j + 1) 0 n m b (v - g i j) + aa_pc g o l t (i + 1) j 1 n m b (v + aa_cs o l a 1) + aa_pc g o l t i (j + 1) 2 n m b (v + aa_cs o l a 2) := fun _ => rfl
    have eb : aa_bk g o l n m en (t + 1) i j a v = (if en i j = true ∧ v = 0 then 1 else 0) + (if i < n ∧ j < m then aa_bk g o l n m en t (i + 1) (j + 1) 0 (v - g i j) else 0) + (if i < n then aa_bk g o l n m en t (i + 1) j 1 (v + aa_cs o l a 1) else 0) + (if j < m then aa_bk g o l n m en t i (j + 1) 2 (v + aa_cs o l a 2) else 0) := rfl
    have hd : (if en i j = true ∧ v = 0 then 1 else 0) = aa_d i j a n m 0 v + aa_d i j a n m 1 v + aa_d i j a n m 2 v := by
      have := he i j
      unfold aa_d
      obtain rfl | rfl | rfl : a = 0 ∨ a = 1 ∨ a = 2 := by omega
      all_goals
        by_cases h : i = n ∧ j = m
        · have h1 : en n m = true := (he n m).mpr ⟨rfl, rfl⟩
          simp [h1, h.1, h.2]
        · have h' : ¬ (en i j = true ∧ v = 0) := fun z => h (this.mp z.1)
          have h2 : ∀ c : Prop, ¬ (i = n ∧ j = m ∧ c) := fun c z => h ⟨z.1, z.2.1⟩
          rw [if_neg h', if_neg (h2 _), if_neg (h2 _), if_neg (h2 _)]
    have h0 : (if i < n ∧ j < m then aa_bk g o l n m en t (i + 1) (j + 1) 0 (v - g i j) else 0) = aa_pc g o l t (i + 1) (j + 1) 0 n m 0 (v - g i j) + aa_pc g o l t (i + 1) (j + 1) 0 n m 1 (v - g i j) + aa_pc g o l t (i + 1) (j + 1) 0 n m 2 (v - g i j) := by
      split
      · exact ih _ _ _ _ (by omega) (by omega) (by decide)
      · rw [aa_pc_0 _ _ _ _ _ _ _ _ _ _ _ (by omega), aa_pc_0 _ _ _ _ _ _ _ _ _ _ _ (by omega), aa_pc_0 _ _ _ _ _ _ _ _ _ _ _ (by omega)]
    have h1 : (if i < n then aa_bk g o l n m en t (i + 1) j 1 (v + aa_cs o l a 1) else 0) = aa_pc g o l t (i + 1) j 1 n m 0 (v + aa_cs o l a 1) + aa_pc g o l t (i + 1) j 1 n m 1 (v + aa_cs o l a 1) + aa_pc g o l t (i + 1) j 1 n m 2 (v + aa_cs o l a 1) := by
      split
      · exact ih _ _ _ _ (by omega) (by omega) (by decide)
      · rw [aa_pc_0 _ _ _ _ _ _ _ _ _ _ _ (by omega), aa_pc_0 _ _ _ _ _ _ _ _ _ _ _ (by omega), aa_pc_0 _ _ _ _ _ _ _ _ _ _ _ (by omega)]
    have h2 : (if j < m then aa_bk g o l n m en t i (j + 1) 2 (v + aa_cs o l a 2) else 0) = aa_pc g o l t i (j + 1) 2 n m 0 (v + aa_cs o l a 2) + aa_pc g o l t i (j + 1) 2 n m 1 (v + aa_cs o l a 2) + aa_pc g o l t i (j + 1) 2 n m 2 (v + aa_cs o l a 2) := by
      split
      · exact ih _ _ _ _ (by omega) (by omega) (by decide)
      · rw [aa_pc_0 _ _ _ _ _ _ _ _ _ _ _ (by omega), aa_pc_0 _ _ _ _ _ _ _ _ _ _ _ (by omega), aa_pc_0 _ _ _ _ _ _ _ _ _ _ _ (by omega)]
    rw [eb, hd, h0, h1, h2, e, e, e]
    omega
theorem aa_bk_x {n m : Nat} (en : Nat → Nat → Bool) : ∀ (t i j a : Nat) (v : Int), i ≤ n → j ≤ m → a < 3 → (aa_bk g o l n m en t i j a v ≠ 0 ↔ ∃ p q b, p ≤ n ∧ q ≤ m ∧ b < 3 ∧ en p q = true ∧ aa_pc g o l t i j a p q b v ≠ 0) := by
  intro t
  induction t with
  | zero =>
    intro i j a v _ _ _
    constructor
    · intro h; exact absurd rfl h
    · rintro ⟨p, q, b, _, _, _, _, h⟩; exact absurd rfl h
  | succ t ih =>
    intro i j a v hi hj ha
    have e : ∀ p q b, aa_pc g o l (t + 1) i j a p q b v = aa_d i j a p q b v + aa_pc g o l t (i + 1) (j + 1) 0 p q b (v - g i j) + aa_pc g o l t (i + 1) j 1 p q b (v + aa_cs o l a 1) + aa_pc g o l t i (j + 1) 2 p q b (v + aa_cs o l a 2) := fun _ _ _ => rfl
    have eb : aa_bk g o l n m en (t + 1) i j a v = (if en i j = true ∧ v = 0 then 1 else 0) + (if i < n ∧ j < m then aa_bk g o l n m en t (i + 1) (j + 1) 0 (v - g i j) else 0) + (if i < n then aa_bk g o l n m en t (i + 1) j 1 (v + aa_cs o l a 1) else 0) + (if j < m then aa_bk g o l n m en t i (j + 1) 2 (v + aa_cs o l a 2) else 0) := rfl
    constructor
    · intro h
      rw [eb] at h
      by_cases c0 : en i j = true ∧ v = 0
      · refine ⟨i, j, a, hi, hj, ha, c0.1, ?_⟩
        have : aa_d i j a i j a v = 1 := if_pos ⟨rfl, rfl, rfl, c0.2⟩
        rw [e]; omega
      · rw [if_neg c0] at h
        by_cases c1 : (if i < n ∧ j < m then aa_bk g o l n m en t (i + 1) (j + 1) 0 (v - g i j) else 0) = 0
        · by_cases c2 : (if i < n then aa_bk g o l n m en t (i + 1) j 1 (v + aa_cs o l a 1) else 0) = 0
          · have c3 : (if j < m then aa_bk g o l n m en t i (j + 1) 2 (v + aa_cs o l a 2) else 0) ≠ 0 := by omega
            by_cases hc : j < m
            · rw [if_pos hc] at c3
              obtain ⟨p, q, b, hp, hq, hb, hn, hk⟩ := (ih i (j + 1) 2 _ (by omega) (by omega) (by decide)).mp c3
              exact ⟨p, q, b, hp, hq, hb, hn, by rw [e]; omega⟩
            · rw [if_neg hc] at c3; exact absurd rfl c3
          · by_cases hc : i < n
            · rw [if_pos hc] at c2
              obtain ⟨p, q, b, hp, hq, hb, hn, hk⟩ := (ih (i + 1) j 1 _ (by omega) (by omega) (by decide)).mp c2
              exact ⟨p, q, b, hp, hq, hb, hn, by rw [e]; omega⟩
            · rw [if_neg hc] at c2; exact absurd rfl c2
        · by_cases hc : i < n ∧ j < m
          · rw [if_pos hc] at c1
            obtain ⟨p, q, b, hp, hq, hb, hn, hk⟩ := (ih (i + 1) (j + 1) 0 _ (by omega) (by omega) (by decide)).mp c1
            exact ⟨p, q, b, hp, hq, hb, hn, by rw [e]; omega⟩
          · rw [if_neg hc] at c1; exact absurd rfl c1
    · rintro ⟨p, q, b, hp, hq, hb, hn, hk⟩
      rw [e] at hk
      rw [eb]
      by_cases d0 : aa_d i j a p q b v = 0
      · by_cases d1 : aa_pc g o l t (i + 1) (j + 1) 0 p q b (v - g i j) = 0
        · by_cases d2 : aa_pc g o l t (i + 1) j 1 p q b (v + aa_cs o l a 1) = 0
          · have d3 : aa_pc g o l t i (j + 1) 2 p q b (v + aa_cs o l a 2) ≠ 0 := by omega
            have hc : j < m := by
              apply Classical.byContradiction; intro hc
              exact d3 (aa_pc_0 _ _ _ _ _ _ _ _ _ _ _ (by omega))
            rw [if_pos hc]
            have := (ih i (j + 1) 2 (v + aa_cs o l a 2) (by omega) (by omega) (by decide)).mpr ⟨p, q, b, hp, hq, hb, hn, d3⟩
            omega
          · have hc : i < n := by
              apply Classical.byContradiction; intro hc
              exact d2 (aa_pc_0 _ _ _ _ _ _ _ _ _ _ _ (by omega))
            rw [if_pos hc]
            have := (ih (i + 1) j 1 (v + aa_cs o l a 1) (by omega) (by omega) (by decide)).mpr ⟨p, q, b, hp, hq, hb, hn, d2⟩
            omega
        · have hc : i < n ∧ j < m := by
            apply Classical.byContradiction; intro hc
            exact d1 (aa_pc_0 _ _ _ _ _ _ _ _ _ _ _ (by omega))
          rw [if_pos hc]
          have := (ih (i + 1) (j + 1) 0 (v - g i j) (by omega) (by omega) (by decide)).mpr ⟨p, q, b, hp, hq, hb, hn, d1⟩
          omega
      · unfold aa_d at d0
        split at d0
        · rename_i hh
          obtain ⟨rfl, rfl, rfl, rfl⟩ := hh
          rw [if_pos ⟨hn, rfl⟩]
          omega
        · exact absurd rfl d0
end
end
section
/-! tables for at most 10 letters on each side; the greatest score and its count; runs of gaps -/
section
variable (g : Nat → Nat → Int) (o l : Int)
def aa_F (be : Nat → Nat → Bool) (p q b : Nat) (v : Int) : Nat := aa_fw g o l be 21 p q b v
def aa_B (n m : Nat) (en : Nat → Nat → Bool) (i j a : Nat) (v : Int) : Nat := aa_bk g o l n m en 21 i j a v
/-- the same where no gap of sort a may begin -/
def aa_S (n m : Nat) (en : Nat → Nat → Bool) (i j a : Nat) (v : Int) : Nat :=
  (if en i j = true ∧ v = 0 then 1 else 0) + (if i < n ∧ j < m then aa_B g o l n m en (i + 1) (j + 1) 0 (v - g i j) else 0) + (if a = 1 then 0 else if i < n then aa_B g o l n m en (i + 1) j 1 (v + o + l) else 0) + (if a = 2 then 0 else if j < m then aa_B g o l n m en i (j + 1) 2 (v + o + l) else 0)
end
def aa_rn (l : Int) (f : Nat → Int → Nat) : Nat → Int → Nat
  | 0 => fun _ => 0
  | q + 1 => fun v => aa_rn l f q v + f (q + 1) (v + ((q + 1 : Nat) : Int) * l)
theorem aa_rn_f (l : Int) : ∀ (q : Nat) (f : Nat → Int → Nat) (v : Int), aa_rn l f (q + 1) v = f 1 (v + l) + aa_rn l (fun k w => f (k + 1) w) q (v + l) := by
  intro q
  induction q with
  | zero =>
    intro f v
    show 0 + f (0 + 1) (v + ((0 + 1 : Nat) : Int) * l) = f 1 (v + l) + 0
    rw [show ((0 + 1 : Nat) : Int) * l = l from Int.one_mul l, Nat.zero_add]
    rfl
  | succ q ih =>
    intro f v
    show aa_rn l f (q + 1) v + f (q + 1 + 1) (v + ((q + 1 + 1 : Nat) : Int) * l) = f 1 (v + l) + (aa_rn l (fun k w => f (k + 1) w) q (v + l) + f (q + 1 + 1) (v + l + ((q + 1 : Nat) : Int) * l))
    have e : v + ((q + 1 + 1 : Nat) : Int) * l = v + l + ((q + 1 : Nat) : Int) * l := by
      rw [show ((q + 1 + 1 : Nat) : Int) = ((q + 1 : Nat) : Int) + 1 from rfl, Int.add_mul, Int.one_mul]
      omega
    rw [ih, e]
    omega
section
variable {g : Nat → Nat → Int} {o l : Int} {n m : Nat} {en : Nat → Nat → Bool} {be : Nat → Nat → Bool}
theorem aa_F_e {p q : Nat} (h : p + q ≤ 20) (b : Nat) (v : Int) : aa_F g o l be p q b v = (if b = 0 ∧ be p q = true ∧ v = 0 then 1 else 0) + aa_R g o l (aa_F g o l be) p q b v := aa_fw_s be 21 p q b v (by omega)
theorem aa_B_e (h : n + m ≤ 20) (i j a : Nat) (v : Int) : aa_B g o l n m en i j a v = (if en i j = true ∧ v = 0 then 1 else 0) + (if i < n ∧ j < m then aa_B g o l n m en (i + 1) (j + 1) 0 (v - g i j) else 0) + (if i < n then aa_B g o l n m en (i + 1) j 1 (v + aa_cs o l a 1) else 0) + (if j < m then aa_B g o l n m en i (j + 1) 2 (v + aa_cs o l a 2) else 0) := aa_bk_s n m en 21 i j a v (by omega)
theorem aa_F_b (hs : aa_Sm g o l) {p q b : Nat} {v : Int} (h : aa_F g o l be p q b v ≠ 0) : -400 ≤ v ∧ v ≤ 400 := by
  obtain ⟨i, j, _, hk⟩ := (aa_fw_x be 21 p q b v).mp h
  have := aa_pc_b hs 21 _ _ _ _ _ _ _ hk
  omega
theorem aa_B_b (hs : aa_Sm g o l) {i j a : Nat} (hi : i ≤ n) (hj : j ≤ m) (ha : a < 3) {v : Int} (h : aa_B g o l n m en i j a v ≠ 0) : -400 ≤ v ∧ v ≤ 400 := by
  obtain ⟨p, q, b, _, _, _, _, hk⟩ := (aa_bk_x en 21 i j a v hi hj ha).mp h
  have := aa_pc_b hs 21 _ _ _ _ _ _ _ hk
  omega
theorem aa_S_0 (h : n + m ≤ 20) (i j : Nat) (v : Int) : aa_S g o l n m en i j 0 v = aa_B g o l n m en i j 0 v := by
  rw [aa_B_e h]
  have e1 : aa_cs o l 0 1 = o + l := rfl
  have e2 : aa_cs o l 0 2 = o + l := rfl
  have e3 : v + o + l = v + (o + l) := by omega
  simp only [aa_S, e1, e2, e3]
  rfl
theorem aa_S_1 (h : n + m ≤ 20) (i j : Nat) (v : Int) : aa_B g o l n m en i j 1 v = aa_S g o l n m en i j 1 v + (if i < n then aa_B g o l n m en (i + 1) j 1 (v + l) else 0) := by
  rw [aa_B_e h]
  have e1 : aa_cs o l 1 1 = l := rfl
  have e2 : aa_cs o l 1 2 = o + l := rfl
  have e3 : v + o + l = v + (o + l) := by omega
  have c1 : ¬ (1 : Nat) = 2 := by decide
  simp only [aa_S, e1, e2, e3, if_pos, if_neg c1]
  omega
theorem aa_S_2 (h : n + m ≤ 20) (i j : Nat) (v : Int) : aa_B g o l n m en i j 2 v = aa_S g o l n m en i j 2 v + (if j < m then aa_B g o l n m en i (j + 1) 2 (v + l) else 0) := by
  rw [aa_B_e h]
  have e1 : aa_cs o l 2 1 = o + l := rfl
  have e2 : aa_cs o l 2 2 = l := rfl
  have e3 : v + o + l = v + (o + l) := by omega
  have c1 : ¬ (2 : Nat) = 1 := by decide
  simp only [aa_S, e1, e2, e3, if_pos, if_neg c1]
  omega
theorem aa_S_le (h : n + m ≤ 20) {i j a : Nat} (ha : a < 3) {v : Int} (hv : aa_S g o l n m en i j a v ≠ 0) : aa_B g o l n m en i j a v ≠ 0 := by
  obtain rfl | rfl | rfl : a = 0 ∨ a = 1 ∨ a = 2 := by omega
  · rw [← aa_S_0 h]; exact hv
  · rw [aa_S_1 h]; omega
  · rw [aa_S_2 h]; omega
theorem aa_run1 (h : n + m ≤ 20) (j : Nat) : ∀ (d i : Nat) (v : Int), i + d = n → (if i < n then aa_B g o l n m en (i + 1) j 1 (v + l) else 0) = aa_rn l (fun k w => aa_S g o l n m en (i + k) j 1 w) d v := by
  intro d
  induction d with
  | zero =>
    intro i v hd
    rw [if_neg (by omega)]
    rfl
  | succ d ih =>
    intro i v hd
    rw [if_pos (by omega), aa_S_1 h, aa_rn_f, ih (i + 1) (v + l) (by omega)]
    have e : (fun k w => aa_S g o l n m en (i + 1 + k) j 1 w) = (fun k w => aa_S g o l n m en (i + (k + 1)) j 1 w) := by
      funext k w
      rw [show i + 1 + k = i + (k + 1) by omega]
    rw [e]
theorem aa_run2 (h : n + m ≤ 20) (i : Nat) : ∀ (d j : Nat) (v : Int), j + d = m → (if j < m then aa_B g o l n m en i (j + 1) 2 (v + l) else 0) = aa_rn l (fun k w => aa_S g o l n m en i (j + k) 2 w) d v := by
  intro d
  induction d with
  | zero =>
    intro j v hd
    rw [if_neg (by omega)]
    rfl
  | succ d ih =>
    intro j v hd
    rw [if_pos (by omega), aa_S_2 h, aa_rn_f, ih (j + 1) (v + l) (by omega)]
    have e : (fun k w => aa_S g o l n m en i (j + 1 + k) 2 w) = (fun k w => aa_S g o l n m en i (j + (k + 1)) 2 w) := by
      funext k w
      rw [show j + 1 + k = j + (k + 1) by omega]
    rw [e]
/-- what the reference adds up in a cell -/
theorem aa_S_run (h : n + m ≤ 20) {i j : Nat} (hi : i ≤ n) (hj : j ≤ m) (a : Nat) (v : Int) : aa_S g o l n m en i j a v = (if en i j = true ∧ v = 0 then 1 else 0) + (if i < n ∧ j < m then aa_S g o l n m en (i + 1) (j + 1) 0 (v - g i j) else 0) + (if a = 1 then 0 else aa_rn l (fun k w => aa_S g o l n m en (i + k) j 1 w) (n - i) (v + o)) + (if a = 2 then 0 else aa_rn l (fun k w => aa_S g o l n m en i (j + k) 2 w) (m - j) (v + o)) := by
  rw [← aa_run1 h j (n - i) i (v + o) (by omega), ← aa_run2 h i (m - j) j (v + o) (by omega), aa_S_0 h]
  rfl
end
/-- s is the greatest score with a count -/
def aa_Bs (N : Int → Nat) (s : Int) : Prop := N s ≠ 0 ∧ ∀ v, s < v → N v = 0
theorem aa_Bs_u {N : Int → Nat} {s s' : Int} (h : aa_Bs N s) (h' : aa_Bs N s') : s = s' := by
  have a := h.2 s'
  have b := h'.2 s
  have c := h.1
  have d := h'.1
  apply Classical.byContradiction
  intro e
  rcases Int.lt_or_gt_of_ne e with z | z
  · exact d (a z)
  · exact c (b z)
theorem aa_Bs_c {N M : Int → Nat} {s : Int} (e : ∀ v, N v = M v) (h : aa_Bs N s) : aa_Bs M s := ⟨by rw [← e]; exact h.1, fun v hv => by rw [← e]; exact h.2 v hv⟩
theorem aa_Bs_sh {N : Int → Nat} {s : Int} (h : aa_Bs N s) (d : Int) : aa_Bs (fun v => N (v + d)) (s - d) := by
  refine ⟨?_, fun v hv => h.2 _ (by omega)⟩
  show N (s - d + d) ≠ 0
  rw [show s - d + d = s by omega]
  exact h.1
/-- the greatest score of N, or, where there is none, a number not above u -/
def aa_WC (N : Int → Nat) (u : Int) (s : Int) : Prop := ((∀ v, N v = 0) ∧ -100000 ≤ s ∧ s ≤ u) ∨ (aa_Bs N s ∧ -1000 ≤ s ∧ s ≤ 1000)
/-- the same of an offer -/
def aa_OC (N : Int → Nat) (u : Int) (s : Int) : Prop := ((∀ v, N v = 0) ∧ s ≤ u) ∨ (aa_Bs N s ∧ -1000 ≤ s ∧ s ≤ 1000)
section
variable {N M : Int → Nat} {u s c : Int}
theorem aa_WC_O (h : aa_WC N u s) : aa_OC N u s := h.elim (fun z => Or.inl ⟨z.1, z.2.2⟩) Or.inr
theorem aa_WC_c {N' : Int → Nat} (e : ∀ v, N v = N' v) (h : aa_WC N u s) : aa_WC N' u s := h.elim (fun z => Or.inl ⟨fun v => by rw [← e]; exact z.1 v, z.2⟩) (fun z => Or.inr ⟨aa_Bs_c e z.1, z.2⟩)
theorem aa_OC_c {N' : Int → Nat} (e : ∀ v, N v = N' v) (h : aa_OC N u s) : aa_OC N' u s := h.elim (fun z => Or.inl ⟨fun v => by rw [← e]; exact z.1 v, z.2⟩) (fun z => Or.inr ⟨aa_Bs_c e z.1, z.2⟩)
theorem aa_WC_le (hu : u ≤ -60000) (h : aa_WC N u s) (hM : aa_OC M u c) (hc : c ≤ s) : aa_WC (fun v => N v + M v) u s := by
  rcases h with ⟨hN, h1, h2⟩ | ⟨⟨hN, hN'⟩, h1, h2⟩
  · rcases hM with ⟨hM, m1⟩ | ⟨⟨hM, hM'⟩, m1, m2⟩
    · exact Or.inl ⟨fun v => by show N v + M v = 0; rw [hN, hM], h1, h2⟩
    · omega
  · refine Or.inr ⟨⟨by show N s + M s ≠ 0; omega, fun v hv => ?_⟩, h1, h2⟩
    show N v + M v = 0
    rw [hN' v hv]
    rcases hM with ⟨hM, m1⟩ | ⟨⟨hM, hM'⟩, m1, m2⟩
    · rw [hM]
    · rw [hM' v (by omega)]
theorem aa_WC_gt (hu : u ≤ -60000) (h : aa_WC N u s) (hM : aa_OC M u c) (hc : s < c) : aa_WC (fun v => N v + M v) u c := by
  rcases hM with ⟨hM, m1⟩ | ⟨⟨hM, hM'⟩, m1, m2⟩
  · rcases h with ⟨hN, h1, h2⟩ | ⟨⟨hN, hN'⟩, h1, h2⟩
    · exact Or.inl ⟨fun v => by show N v + M v = 0; rw [hN, hM], by omega, m1⟩
    · omega
  · refine Or.inr ⟨⟨by show N c + M c ≠ 0; omega, fun v hv => ?_⟩, m1, m2⟩
    show N v + M v = 0
    rw [hM' v hv]
    rcases h with ⟨hN, h1, h2⟩ | ⟨⟨hN, hN'⟩, h1, h2⟩
    · rw [hN]
    · rw [hN' v (by omega)]
theorem aa_WC_z (h : aa_WC N u s) (hc : s < c) : N c = 0 := by
  rcases h with ⟨hN, _⟩ | ⟨⟨hN, hN'⟩, h1, h2⟩
  · exact hN c
  · exact hN' c hc
theorem aa_OC_z (h : aa_OC N u s) (hc : s < c) : N c = 0 := by
  rcases h with ⟨hN, _⟩ | ⟨⟨hN, hN'⟩, h1, h2⟩
  · exact hN c
  · exact hN' c hc
theorem aa_OC_low (h : aa_OC N u s) (hc : s ≤ -50000) (v : Int) : N v = 0 := by
  rcases h with ⟨hN, _⟩ | ⟨⟨hN, hN'⟩, h1, h2⟩
  · exact hN v
  · omega
theorem aa_WC_Bs (h : aa_WC N u s) (hn : ∃ v, N v ≠ 0) : aa_Bs N s := by
  obtain ⟨v, hv⟩ := hn
  rcases h with ⟨hN, _⟩ | ⟨hB, _⟩
  · exact absurd (hN v) hv
  · exact hB
theorem aa_WC_0 (h : -100000 ≤ u) : aa_WC (fun _ => 0) u (-100000) := Or.inl ⟨fun _ => rfl, by omega, h⟩
/-- an offer made of a cell: the score lessened by d -/
theorem aa_OC_sh {u' : Int} (h : aa_WC N u s) (hb : ∀ v, N v ≠ 0 → -400 ≤ v ∧ v ≤ 400) (d : Int) (hd : -500 ≤ d ∧ d ≤ 500) (hu : u - d ≤ u') : aa_OC (fun v => N (v + d)) u' (s - d) := by
  rcases h with ⟨hN, h1, h2⟩ | ⟨hB, h1, h2⟩
  · exact Or.inl ⟨fun v => hN _, by omega⟩
  · have := hb s hB.1
    exact Or.inr ⟨aa_Bs_sh hB d, by omega, by omega⟩
end
end
section
/-! scores and counts as ints of the machine; indices -/
theorem aa_gt {c s : Int32} (h : ¬ c ≤ s) : s.toInt < c.toInt := Int.not_le.mp (fun z => h (Int32.le_iff_toInt_le.mpr z))
theorem aa_ngt {c s : Int32} (h : ¬ c < s) : s.toInt ≤ c.toInt := Int.not_lt.mp (fun z => h (Int32.lt_iff_toInt_lt.mpr z))
def aa_XC (N : Int → Nat) (u : Int) (s w : Int32) : Prop := aa_WC N u s.toInt ∧ w = nI (N s.toInt)
def aa_OX (M : Int → Nat) (u : Int) (c d : Int32) : Prop := aa_OC M u c.toInt ∧ d = nI (M c.toInt)
section
variable {N M : Int → Nat} {u : Int} {s w c d : Int32}
theorem aa_XC_c {N' : Int → Nat} (e : ∀ v, N v = N' v) (h : aa_XC N u s w) : aa_XC N' u s w := ⟨aa_WC_c e h.1, by rw [← e]; exact h.2⟩
theorem aa_OX_c {N' : Int → Nat} (e : ∀ v, N v = N' v) (h : aa_OX N u s w) : aa_OX N' u s w := ⟨aa_OC_c e h.1, by rw [← e]; exact h.2⟩
theorem aa_x_keep (hu : u ≤ -60000) (h : aa_XC N u s w) (hM : aa_OX M u c d) (hc : c ≤ s) (hn : ¬ c = s) : aa_XC (fun v => N v + M v) u s w := by
  have hc' := Int32.le_iff_toInt_le.mp hc
  have hn' : c.toInt ≠ s.toInt := fun z => hn (Int32.toInt_inj.mp z)
  refine ⟨aa_WC_le hu h.1 hM.1 hc', ?_⟩
  show w = nI (N s.toInt + M s.toInt)
  rw [aa_OC_z (c := s.toInt) hM.1 (by omega), Nat.add_zero]
  exact h.2
theorem aa_x_eq (hu : u ≤ -60000) (h : aa_XC N u s w) (hM : aa_OX M u c d) (hc : c = s) : aa_XC (fun v => N v + M v) u s (w + d) := by
  subst hc
  refine ⟨aa_WC_le hu h.1 hM.1 (Int.le_refl _), ?_⟩
  show w + d = nI (N c.toInt + M c.toInt)
  rw [← nI_add, ← h.2, ← hM.2]
theorem aa_x_low (hu : u ≤ -60000) (h : aa_XC N u s w) (hM : aa_OX M u c d) (hc : c ≤ s) (hl : c.toInt ≤ -50000) : aa_XC (fun v => N v + M v) u s w := by
  refine ⟨aa_WC_le hu h.1 hM.1 (Int32.le_iff_toInt_le.mp hc), ?_⟩
  show w = nI (N s.toInt + M s.toInt)
  rw [aa_OC_low hM.1 hl, Nat.add_zero]
  exact h.2
theorem aa_x_new (hu : u ≤ -60000) (h : aa_XC N u s w) (hM : aa_OX M u c d) (hc : ¬ c ≤ s) : aa_XC (fun v => N v + M v) u c (0 + d) := by
  have hc' : s.toInt < c.toInt := by
    have := aa_gt hc
    omega
  refine ⟨aa_WC_gt hu h.1 hM.1 hc', ?_⟩
  show 0 + d = nI (N c.toInt + M c.toInt)
  rw [aa_WC_z h.1 hc', Nat.zero_add, Int32.zero_add]
  exact hM.2
theorem aa_x_new0 (hu : u ≤ -60000) (h : aa_XC N u s w) (hM : aa_OX M u c d) (hc : ¬ c ≤ s) (hl : c.toInt ≤ -50000) : aa_XC (fun v => N v + M v) u c 0 := by
  have e := aa_x_new hu h hM hc
  have hd : d = 0 := by rw [hM.2, aa_OC_low hM.1 hl]; rfl
  rw [hd] at e
  exact e
theorem aa_XC_O (h : aa_XC N u s w) : aa_OX N u s w := ⟨aa_WC_O h.1, h.2⟩
theorem aa_m1e5 : (-100000 : Int32).toInt = -100000 := by decide
theorem aa_m5e4 : (-50000 : Int32).toInt = -50000 := by decide
theorem aa_XC_0 (h : -100000 ≤ u) : aa_XC (fun _ => 0) u (-100000) 0 := ⟨by rw [aa_m1e5]; exact aa_WC_0 h, rfl⟩
/-- an offer made of a cell -/
theorem aa_OX_sh {u' : Int} (h : aa_XC N u s w) (hb : ∀ v, N v ≠ 0 → -400 ≤ v ∧ v ≤ 400) (k : Int) (hk : -500 ≤ k ∧ k ≤ 500) (hu : u - k ≤ u') (e : c.toInt = s.toInt - k) : aa_OX (fun v => N (v + k)) u' c w := by
  refine ⟨by rw [e]; exact aa_OC_sh h.1 hb k hk hu, ?_⟩
  show w = nI (N (c.toInt + k))
  rw [e, show s.toInt - k + k = s.toInt by omega]
  exact h.2
end
/-- equal but at k -/
def aa_Eq (k : Nat) (f f' : Nat → Int32) : Prop := ∀ p, p ≠ k → f' p = f p
theorem aa_Eq_u (k : Nat) (f : Nat → Int32) (x : Int32) : aa_Eq k f (upd f k x) := fun _ hp => pk_un hp
theorem aa_Eq_r (k : Nat) (f : Nat → Int32) : aa_Eq k f f := fun _ _ => rfl
theorem aa_Eq_t {k : Nat} {f f' f'' : Nat → Int32} (h : aa_Eq k f f') (h' : aa_Eq k f' f'') : aa_Eq k f f'' := fun p hp => (h' p hp).trans (h p hp)
theorem ai_c3 (s c : Nat) : (121 : Int32) * nI s + nI c = nI (121 * s + c) := by
  rw [show (121 : Int32) = nI 121 from rfl, pk_mul, nI_add]
theorem ai_c (i j : Nat) : (11 : Int32) * nI i + nI j = nI (11 * i + j) := by
  rw [show (11 : Int32) = nI 11 from rfl, pk_mul, nI_add]
theorem ai_b3 (a i j : Nat) : ((121 : Int32) * nI a + 11 * nI i) + nI j = nI (121 * a + (11 * i + j)) := by
  rw [show (121 : Int32) = nI 121 from rfl, show (11 : Int32) = nI 11 from rfl, pk_mul, pk_mul, nI_add, nI_add, Nat.add_assoc]
theorem ai_p (i j : Nat) : ((11 : Int32) * (nI i + 1) + nI j) + 1 = nI (11 * (i + 1) + (j + 1)) := by
  rw [show (11 : Int32) = nI 11 from rfl, nI_1, pk_mul, nI_add, nI_1, Nat.add_assoc]
theorem ai_10 (j : Nat) : (10 : Int32) + nI j = nI (10 + j) := by
  rw [show (10 : Int32) = nI 10 from rfl, nI_add]
theorem ai_121 (j : Nat) : (121 : Int32) + nI j = nI (121 * 1 + j) := by
  rw [show (121 : Int32) = nI 121 from rfl, nI_add]
theorem ai_242 (j : Nat) : (242 : Int32) + nI j = nI (121 * 2 + j) := by
  rw [show (242 : Int32) = nI 242 from rfl, nI_add]
theorem ai_y (i j a : Nat) : ((nI i * 11 + nI j) * 3) + nI a = nI ((i * 11 + j) * 3 + a) := by
  rw [show (11 : Int32) = nI 11 from rfl, show (3 : Int32) = nI 3 from rfl, pk_mul, nI_add, pk_mul, nI_add]
theorem ai_y0 (i j : Nat) : ((nI i * 11 + nI j) * 3) = nI ((i * 11 + j) * 3) := by
  rw [show (11 : Int32) = nI 11 from rfl, show (3 : Int32) = nI 3 from rfl, pk_mul, nI_add, pk_mul]
theorem ai_yd (i j : Nat) : ((((nI i + 1) * 11) + nI j) + 1) * 3 = nI (((i + 1) * 11 + (j + 1)) * 3 + 0) := by
  rw [show (11 : Int32) = nI 11 from rfl, show (3 : Int32) = nI 3 from rfl, nI_1, pk_mul, nI_add, nI_1, pk_mul, Nat.add_assoc]
  rfl
theorem ai_y1 (i k j : Nat) : ((((nI i + nI k) * 11) + nI j) * 3) + 1 = nI (((i + k) * 11 + j) * 3 + 1) := by
  rw [show (11 : Int32) = nI 11 from rfl, show (3 : Int32) = nI 3 from rfl, nI_add, pk_mul, nI_add, pk_mul, nI_1]
theorem ai_y2 (i j k : Nat) : ((((nI i * 11) + nI j) + nI k) * 3) + 2 = nI ((i * 11 + (j + k)) * 3 + 2) := by
  rw [show (11 : Int32) = nI 11 from rfl, show (3 : Int32) = nI 3 from rfl, show (2 : Int32) = nI 2 from rfl, pk_mul, nI_add, nI_add, pk_mul, nI_add, Nat.add_assoc]
/-- the gain of a pair of letters; the cost of a column -/
def aa_gv (ge gu : Int32) (lt : Nat → Int32) (i j : Nat) : Int32 := if lt i = lt (10 + j) then ge else gu
def aa_g (ge gu : Int32) (lt : Nat → Int32) (i j : Nat) : Int := (aa_gv ge gu lt i j).toInt
def aa_cv (op le : Int32) (a b : Nat) : Int32 := if b = 0 then 0 else if a = b then le else op + le
/-- the rules are small -/
def aa_Ru (ge gu op le : Int32) : Prop := (-9 ≤ ge.toInt ∧ ge.toInt ≤ 9) ∧ (-9 ≤ gu.toInt ∧ gu.toInt ≤ 9) ∧ (0 ≤ op.toInt ∧ op.toInt ≤ 9) ∧ (0 ≤ le.toInt ∧ le.toInt ≤ 9)
theorem aa_Ru_s {ge gu op le : Int32} (h : aa_Ru ge gu op le) (lt : Nat → Int32) : aa_Sm (aa_g ge gu lt) op.toInt le.toInt := by
  refine ⟨fun i j => ?_, h.2.2.1, h.2.2.2⟩
  unfold aa_g aa_gv
  split
  · exact h.1
  · exact h.2.1
theorem aa_cv_t {ge gu op le : Int32} (h : aa_Ru ge gu op le) (a b : Nat) : (aa_cv op le a b).toInt = aa_cs op.toInt le.toInt a b := by
  obtain ⟨_, _, h1, h2⟩ := h
  unfold aa_cv aa_cs
  split
  · rfl
  · split
    · rfl
    · exact Jvm.Kit.i32_add (by omega) (by omega)
theorem aa_add {x y : Int32} (hx : -1000000 ≤ x.toInt ∧ x.toInt ≤ 1000000) (hy : -1000000 ≤ y.toInt ∧ y.toInt ≤ 1000000) : (x + y).toInt = x.toInt + y.toInt := Jvm.Kit.i32_add (by omega) (by omega)
theorem aa_sub {x y : Int32} (hx : -1000000 ≤ x.toInt ∧ x.toInt ≤ 1000000) (hy : -1000000 ≤ y.toInt ∧ y.toInt ≤ 1000000) : (x - y).toInt = x.toInt - y.toInt := Jvm.Kit.i32_sub (by omega) (by omega)
/-- where alignments may begin, where they may end -/
def aa_be (h i j : Nat) : Bool := decide (h = 3 ∨ (h = 1 ∧ i = 0) ∨ (h = 2 ∧ j = 0) ∨ (h = 0 ∧ i = 0 ∧ j = 0))
def aa_en (h n m i j : Nat) : Bool := decide ((i = n ∧ j = m) ∨ h = 1 ∨ (h = 2 ∧ i = n))
end
section
/-! the component's tables from the front -/
def aa_C3 (fr fw : Nat → Int32) (c : Nat) (N : Nat → Int → Nat) : Prop := ∀ b, b < 3 → aa_XC (N b) (-100000) (fr (121 * b + c)) (fw (121 * b + c))
/-- equal but in the three entries of cell c -/
def aa_Ch (c : Nat) (f f' : Nat → Int32) : Prop := ∀ p, (∀ b, b < 3 → p ≠ 121 * b + c) → f' p = f p
theorem aa_Ch_r (c : Nat) (f : Nat → Int32) : aa_Ch c f f := fun _ _ => rfl
theorem aa_Ch_t {c : Nat} {f f' f'' : Nat → Int32} (h : aa_Ch c f f') (h' : aa_Ch c f' f'') : aa_Ch c f f'' := fun p hp => (h' p hp).trans (h p hp)
theorem aa_Ch_E {c s : Nat} {f f' : Nat → Int32} (hs : s < 3) (h : aa_Eq (121 * s + c) f f') : aa_Ch c f f' := fun p hp => h p (hp s hs)
theorem aa_C3_c {fr fw : Nat → Int32} {c : Nat} {N N' : Nat → Int → Nat} (e : ∀ b, b < 3 → ∀ v, N b v = N' b v) (h : aa_C3 fr fw c N) : aa_C3 fr fw c N' := fun b hb => aa_XC_c (e b hb) (h b hb)
theorem aa_C3_k {fr fw fr' fw' : Nat → Int32} {c k : Nat} {N : Nat → Int → Nat} (hc : c < 121) (hk : k < 121) (hn : k ≠ c) (h1 : aa_Ch c fr fr') (h2 : aa_Ch c fw fw') (h : aa_C3 fr fw k N) : aa_C3 fr' fw' k N := by
  intro b hb
  rw [h1 (121 * b + k) (fun b' hb' => by omega), h2 (121 * b + k) (fun b' hb' => by omega)]
  exact h b hb
theorem aa_XC_u {N : Int → Nat} {s w : Int32} (h : aa_XC N (-100000) s w) (hs : -100000 < s.toInt) : aa_XC N (-200000) s w ∧ -1000 ≤ s.toInt ∧ s.toInt ≤ 1000 := by
  refine ⟨⟨?_, h.2⟩, ?_⟩
  · rcases h.1 with z | z
    · omega
    · exact Or.inr z
  · rcases h.1 with z | z
    · omega
    · exact z.2
theorem aa_XC_e {N : Int → Nat} {s w : Int32} (h : aa_XC N (-100000) s w) (hs : s.toInt ≤ -100000) (v : Int) : N v = 0 := by
  rcases h.1 with z | z
  · exact z.1 v
  · omega
def aa_ex (N M : Nat → Int → Nat) (k o l : Int) (s : Nat) (b : Nat) (v : Int) : Nat := if b = s then N b v + M 0 (v - k + aa_cs o l 0 s) + M 1 (v - k + aa_cs o l 1 s) + M 2 (v - k + aa_cs o l 2 s) else N b v
section
variable {ge gu op le fd cc : Int32} {ct lt fr fw bh so : Nat → Int32}
theorem ax_gain {post : Int32 → Prop} {i j : Nat} (hi : i < 10) (hj : j < 10) (hp : post (aa_gv ge gu lt i j)) : wpX_gain post (ge, gu, op, le, fd, cc, ct, lt, fr, fw, bh, so) (nI i) (nI j) := by
  unfold wpX_gain
  dsimp only
  rw [ai_10, nI_clamp (by omega), nI_clamp (by omega)]
  refine ⟨vp_in_nI (by omega) (by decide), vp_in_nI (by omega) (by decide), ?_⟩
  unfold aa_gv at hp
  by_cases h : lt i = lt (10 + j)
  · rw [if_pos h] at hp; exact br_t h hp
  · rw [if_neg h] at hp; exact br_f h hp
theorem ax_cost {post : Int32 → Prop} {a b : Nat} (ha : a < 3) (hb : b < 3) (hp : post (aa_cv op le a b)) : wpX_costOf post (ge, gu, op, le, fd, cc, ct, lt, fr, fw, bh, so) (nI a) (nI b) := by
  unfold wpX_costOf
  dsimp only
  unfold aa_cv at hp
  refine pk_eq b 0 (fun h => ?_) (fun h => pk_eq a b (fun h' => ?_) (fun h' => ?_))
  · rw [if_pos h] at hp; exact hp
  · rw [if_neg h, if_pos h'] at hp; exact hp
  · rw [if_neg h, if_neg h'] at hp; exact hp
theorem ax_may {post : Int32 → Prop} {h i j : Nat} (hh : h ≤ 3) (hi : i ≤ 10) (hj : j ≤ 10) (hp : post (if aa_be h i j = true then 1 else 0)) : wpX_mayBegin post (ge, gu, op, le, nI h, cc, ct, lt, fr, fw, bh, so) (nI i) (nI j) := by
  have b : aa_be h i j = true ↔ (h = 3 ∨ (h = 1 ∧ i = 0) ∨ (h = 2 ∧ j = 0) ∨ (h = 0 ∧ i = 0 ∧ j = 0)) := decide_eq_true_iff
  have t : (h = 3 ∨ (h = 1 ∧ i = 0) ∨ (h = 2 ∧ j = 0) ∨ (h = 0 ∧ i = 0 ∧ j = 0)) → post 1 := fun z => by rw [if_pos (b.mpr z)] at hp; exact hp
  have f : ¬ (h = 3 ∨ (h = 1 ∧ i = 0) ∨ (h = 2 ∧ j = 0) ∨ (h = 0 ∧ i = 0 ∧ j = 0)) → post 0 := fun z => by rw [if_neg (fun y => z (b.mp y))] at hp; exact hp
  unfold wpX_mayBegin
  dsimp only
  exact pk_eq h 3 (fun e => t (by omega)) (fun e => pk_eq h 1 (fun e1 => pk_eq i 0 (fun e2 => t (by omega)) (fun e2 => f (by omega))) (fun e1 => pk_eq h 2 (fun e2 => pk_eq j 0 (fun e3 => t (by omega)) (fun e3 => f (by omega))) (fun e2 => pk_eq i 0 (fun e3 => pk_eq j 0 (fun e4 => t (by omega)) (fun e4 => f (by omega))) (fun e3 => f (by omega)))))
theorem ax_offer {post : SX → Prop} {N M : Int → Nat} {cell sort : Nat} {c d : Int32} (hk : 121 * sort + cell < 363) (h : aa_XC N (-100000) (fr (121 * sort + cell)) (fw (121 * sort + cell))) (hM : aa_OX M (-100000) c d) (hp : ∀ fr' fw' : Nat → Int32, aa_Eq (121 * sort + cell) fr fr' → aa_Eq (121 * sort + cell) fw fw' → aa_XC (fun v => N v + M v) (-100000) (fr' (121 * sort + cell)) (fw' (121 * sort + cell)) → post (ge, gu, op, le, fd, cc, ct, lt, fr', fw', bh, so)) : wpX_offer post (ge, gu, op, le, fd, cc, ct, lt, fr, fw, bh, so) (nI cell) (nI sort) c d := by
  unfold wpX_offer
  dsimp only
  rw [ai_c3]
  intro x hx
  subst hx
  generalize 121 * sort + cell = k at *
  have cl : (nI k).toNatClampNeg = k := nI_clamp (by omega)
  have hin : vp_in (nI k) 363 := vp_in_nI hk (by decide)
  rw [cl]
  refine ⟨hin, br_c (fun h1 => ⟨hin, br_c (fun h2 => ?_) (fun h2 => ⟨hin, fun w ew => ?_⟩)⟩) (fun h1 => ?_)⟩
  · unfold wX_offer_39
    rw [cl]
    refine ⟨hin, fun a ea => ⟨hin, hin, fun b eb => ?_⟩⟩
    subst ea eb
    have e : c = fr k := by
      have a1 := Int32.le_iff_toInt_le.mp h1
      have a2 := Int32.le_iff_toInt_le.mp h2
      exact Int32.toInt_inj.mp (by omega)
    refine hp _ _ (aa_Eq_u k fr c) (aa_Eq_u k fw _) ?_
    rw [pk_us, pk_us]
    have z := aa_x_eq (by decide) h hM e
    rw [← e] at z
    exact z
  · subst ew
    unfold wX_offer_39
    rw [cl]
    refine ⟨hin, fun a ea => ⟨hin, hin, fun b eb => ?_⟩⟩
    subst ea eb
    refine hp _ _ (aa_Eq_u k fr c) (aa_Eq_t (aa_Eq_u k fw 0) (aa_Eq_u k _ _)) ?_
    rw [pk_us, pk_us, pk_us]
    exact aa_x_new (by decide) h hM h2
  · have a1 := aa_gt h1
    refine hp fr fw (aa_Eq_r k fr) (aa_Eq_r k fw) (aa_x_keep (by decide) h hM (Int32.le_iff_toInt_le.mpr (by omega)) ?_)
    intro z
    rw [z] at a1
    omega
theorem ax_ext1 {post : SX → Prop} {N : Int → Nat} {M : Int → Nat} {cell frm sort b n : Nat} {y : Int32} {k : Int} (hr : aa_Ru ge gu op le) (hc : cell < 121) (hf : frm < 121) (hs : sort < 3) (hb : b < 3) (hy : y.toInt = k) (hk : -9 ≤ k ∧ k ≤ 9) (hM : aa_XC M (-100000) (fr (121 * b + frm)) (fw (121 * b + frm))) (hB : ∀ v, M v ≠ 0 → -400 ≤ v ∧ v ≤ 400) (hN : aa_XC N (-100000) (fr (121 * sort + cell)) (fw (121 * sort + cell))) (hp : ∀ fr' fw' : Nat → Int32, aa_Eq (121 * sort + cell) fr fr' → aa_Eq (121 * sort + cell) fw fw' → aa_XC (fun v => N v + M (v - k + aa_cs op.toInt le.toInt b sort)) (-100000) (fr' (121 * sort + cell)) (fw' (121 * sort + cell)) → wX_extend_3 post (nI cell) (nI frm) (nI sort) y n (nI (b + 1)) ge gu op le fd cc ct lt fr' fw' bh so) : wX_extend_3 post (nI cell) (nI frm) (nI sort) y (n + 1) (nI b) ge gu op le fd cc ct lt fr fw bh so := by
  rw [wX_extend_3]
  dsimp only
  have cl : (nI (121 * b + frm)).toNatClampNeg = 121 * b + frm := nI_clamp (by omega)
  have hin : vp_in (nI (121 * b + frm)) 363 := vp_in_nI (by omega) (by decide)
  rw [ai_c3, cl]
  refine br_f (nI_ge (b := 3) hb (by decide)) ⟨hin, fun x hx => ?_⟩
  subst hx
  refine br_c (fun h1 => ?_) (fun h1 => ?_)
  · have h1' := Int32.lt_iff_toInt_lt.mp h1
    rw [aa_m1e5] at h1'
    obtain ⟨hX, b1, b2⟩ := aa_XC_u hM h1'
    refine ax_cost hb hs ?_
    intro z hz
    refine ⟨hin, ?_⟩
    have cb := aa_cs_b (aa_Ru_s hr lt) b sort
    have ce := aa_cv_t hr b sort
    have ez : z.toInt = (fr (121 * b + frm)).toInt - (aa_cs op.toInt le.toInt b sort - k) := by
      have s1 : (fr (121 * b + frm) + y).toInt = (fr (121 * b + frm)).toInt + y.toInt := aa_add (by omega) (by omega)
      rw [hz, aa_sub (by omega) (by omega), s1, ce, hy]
      omega
    refine ax_offer (N := N) (M := fun v => M (v - k + aa_cs op.toInt le.toInt b sort)) (by omega) hN ?_ ?_
    · refine aa_OX_c (fun v => ?_) (aa_OX_sh (u' := -100000) hX hB (aa_cs op.toInt le.toInt b sort - k) (by omega) (by omega) ez)
      rw [show v + (aa_cs op.toInt le.toInt b sort - k) = v - k + aa_cs op.toInt le.toInt b sort by omega]
    · intro fr' fw' e1 e2 e3
      intro x5 h5
      rw [h5, nI_1]
      exact hp fr' fw' e1 e2 e3
  · have h1' : (fr (121 * b + frm)).toInt ≤ -100000 := by
      have := aa_ngt h1
      rw [aa_m1e5] at this
      omega
    intro x5 h5
    rw [h5, nI_1]
    refine hp fr fw (aa_Eq_r _ fr) (aa_Eq_r _ fw) (aa_XC_c (fun v => ?_) hN)
    rw [aa_XC_e hM h1']
    rfl
theorem ax_extend {post : SX → Prop} {N M : Nat → Int → Nat} {cell frm sort : Nat} {y : Int32} {k : Int} (hr : aa_Ru ge gu op le) (hc : cell < 121) (hf : frm < 121) (hne : frm ≠ cell) (hs : sort < 3) (hy : y.toInt = k) (hk : -9 ≤ k ∧ k ≤ 9) (hM : aa_C3 fr fw frm M) (hB : ∀ b v, M b v ≠ 0 → -400 ≤ v ∧ v ≤ 400) (hN : aa_C3 fr fw cell N) (hp : ∀ fr' fw' : Nat → Int32, aa_Ch cell fr fr' → aa_Ch cell fw fw' → aa_C3 fr' fw' cell (aa_ex N M k op.toInt le.toInt sort) → post (ge, gu, op, le, fd, cc, ct, lt, fr', fw', bh, so)) : wpX_extend post (ge, gu, op, le, fd, cc, ct, lt, fr, fw, bh, so) (nI cell) (nI frm) (nI sort) y := by
  unfold wpX_extend
  dsimp only
  refine ⟨4, ?_⟩
  refine ax_ext1 (b := 0) (M := M 0) (N := N sort) hr hc hf hs (by decide) hy hk (hM 0 (by decide)) (hB 0) (hN sort hs) fun fr1 fw1 a1 b1 c1 => ?_
  have m1 : aa_XC (M 1) (-100000) (fr1 (121 * 1 + frm)) (fw1 (121 * 1 + frm)) := by
    rw [a1 _ (by omega), b1 _ (by omega)]
    exact hM 1 (by decide)
  refine ax_ext1 (b := 1) (M := M 1) hr hc hf hs (by decide) hy hk m1 (hB 1) c1 fun fr2 fw2 a2 b2 c2 => ?_
  have m2 : aa_XC (M 2) (-100000) (fr2 (121 * 2 + frm)) (fw2 (121 * 2 + frm)) := by
    rw [a2 _ (by omega), b2 _ (by omega), a1 _ (by omega), b1 _ (by omega)]
    exact hM 2 (by decide)
  refine ax_ext1 (b := 2) (M := M 2) hr hc hf hs (by decide) hy hk m2 (hB 2) c2 fun fr3 fw3 a3 b3 c3 => ?_
  have A := aa_Eq_t a1 (aa_Eq_t a2 a3)
  have B := aa_Eq_t b1 (aa_Eq_t b2 b3)
  rw [wX_extend_3]
  dsimp only
  refine br_t (nI_le (a := 3) (b := 3) (by decide) (by decide)) (hp fr3 fw3 (aa_Ch_E hs A) (aa_Ch_E hs B) ?_)
  intro b hb
  by_cases e : b = sort
  · subst e
    refine aa_XC_c (fun v => ?_) c3
    unfold aa_ex
    rw [if_pos rfl]
  · rw [A _ (by omega), B _ (by omega)]
    refine aa_XC_c (fun v => ?_) (hN b hb)
    unfold aa_ex
    rw [if_neg e]
end
end
section
/-! the component fills a cell, and its table from the front -/
section
variable {ge gu op le fd cc : Int32} {ct lt fr fw bh so : Nat → Int32} {Fx : Nat → Nat → Nat → Int → Nat} {N : Nat → Int → Nat} {i j : Nat}
theorem ax_fc127 {post : SX → Prop} (hr : aa_Ru ge gu op le) (hi : i ≤ 10) (hj : j ≤ 10) (hB : ∀ p q b v, Fx p q b v ≠ 0 → -400 ≤ v ∧ v ≤ 400) (h2 : 0 < j → aa_C3 fr fw (11 * i + (j - 1)) (Fx i (j - 1))) (hN : aa_C3 fr fw (11 * i + j) N) (hp : ∀ fr' fw' : Nat → Int32, aa_Ch (11 * i + j) fr fr' → aa_Ch (11 * i + j) fw fw' → aa_C3 fr' fw' (11 * i + j) (fun b v => N b v + (if b = 2 ∧ 0 < j then Fx i (j - 1) 0 (v + aa_cs op.toInt le.toInt 0 2) + Fx i (j - 1) 1 (v + aa_cs op.toInt le.toInt 1 2) + Fx i (j - 1) 2 (v + aa_cs op.toInt le.toInt 2 2) else 0)) → post (ge, gu, op, le, fd, cc, ct, lt, fr', fw', bh, so)) : wX_fillCell_127 post (nI j) (nI (11 * i + j)) ge gu op le fd cc ct lt fr fw bh so := by
  unfold wX_fillCell_127
  refine pk_le j 0 (fun h => ?_) (fun h => ?_)
  · refine hp fr fw (aa_Ch_r _ _) (aa_Ch_r _ _) (aa_C3_c (fun b _ v => ?_) hN)
    rw [if_neg (by omega)]
    rfl
  · have e : nI (11 * i + j) - 1 = nI (11 * i + (j - 1)) := by
      rw [show (1 : Int32) = nI 1 from rfl, pk_sub (by omega), show 11 * i + j - 1 = 11 * i + (j - 1) by omega]
    rw [e]
    refine ax_extend (N := N) (M := Fx i (j - 1)) (sort := 2) (k := 0) hr (by omega) (by omega) (by omega) (by decide) (by decide) (by decide) (h2 h) (hB _ _) hN fun fr' fw' a b c => hp fr' fw' a b (aa_C3_c (fun b _ v => ?_) c)
    unfold aa_ex
    by_cases hb : b = 2
    · rw [if_pos hb, if_pos ⟨hb, h⟩, Int.sub_zero, Nat.add_assoc, Nat.add_assoc, Nat.add_assoc]
    · rw [if_neg hb, if_neg (fun z => hb z.1)]
      rfl
theorem ax_fc112 {post : SX → Prop} (hr : aa_Ru ge gu op le) (hi : i ≤ 10) (hj : j ≤ 10) (hB : ∀ p q b v, Fx p q b v ≠ 0 → -400 ≤ v ∧ v ≤ 400) (h1 : 0 < i → aa_C3 fr fw (11 * (i - 1) + j) (Fx (i - 1) j)) (h2 : 0 < j → aa_C3 fr fw (11 * i + (j - 1)) (Fx i (j - 1))) (hN : aa_C3 fr fw (11 * i + j) N) (hp : ∀ fr' fw' : Nat → Int32, aa_Ch (11 * i + j) fr fr' → aa_Ch (11 * i + j) fw fw' → aa_C3 fr' fw' (11 * i + j) (fun b v => N b v + (if b = 1 ∧ 0 < i then Fx (i - 1) j 0 (v + aa_cs op.toInt le.toInt 0 1) + Fx (i - 1) j 1 (v + aa_cs op.toInt le.toInt 1 1) + Fx (i - 1) j 2 (v + aa_cs op.toInt le.toInt 2 1) else 0) + (if b = 2 ∧ 0 < j then Fx i (j - 1) 0 (v + aa_cs op.toInt le.toInt 0 2) + Fx i (j - 1) 1 (v + aa_cs op.toInt le.toInt 1 2) + Fx i (j - 1) 2 (v + aa_cs op.toInt le.toInt 2 2) else 0)) → post (ge, gu, op, le, fd, cc, ct, lt, fr', fw', bh, so)) : wX_fillCell_112 post (nI i) (nI j) (nI (11 * i + j)) ge gu op le fd cc ct lt fr fw bh so := by
  unfold wX_fillCell_112
  refine pk_le i 0 (fun h => ?_) (fun h => ?_)
  · refine ax_fc127 (N := N) (Fx := Fx) hr hi hj hB h2 hN fun fr' fw' a b c => hp fr' fw' a b (aa_C3_c (fun b _ v => ?_) c)
    rw [if_neg (c := b = 1 ∧ 0 < i) (by omega), Nat.add_zero]
  · have e : nI (11 * i + j) - 11 = nI (11 * (i - 1) + j) := by
      rw [show (11 : Int32) = nI 11 from rfl, pk_sub (by omega), show 11 * i + j - 11 = 11 * (i - 1) + j by omega]
    rw [e]
    refine ax_extend (N := N) (M := Fx (i - 1) j) (sort := 1) (k := 0) hr (by omega) (by omega) (by omega) (by decide) (by decide) (by decide) (h1 h) (hB _ _) hN fun fr' fw' a b c => ?_
    refine ax_fc127 (Fx := Fx) hr hi hj hB (fun hj0 => aa_C3_k (by omega) (by omega) (by omega) a b (h2 hj0)) c fun fr2 fw2 a2 b2 c2 => hp fr2 fw2 (aa_Ch_t a a2) (aa_Ch_t b b2) (aa_C3_c (fun b _ v => ?_) c2)
    unfold aa_ex
    by_cases hb : b = 1
    · rw [if_pos hb, if_pos (c := b = 1 ∧ 0 < i) ⟨hb, h⟩, Int.sub_zero, Nat.add_assoc (N b v), Nat.add_assoc (N b v)]
    · rw [if_neg hb, if_neg (c := b = 1 ∧ 0 < i) (fun z => hb z.1), Nat.add_zero]
theorem ax_fc88 {post : SX → Prop} {y : Int32} (hr : aa_Ru ge gu op le) (hi : i ≤ 10) (hj : j ≤ 10) (hy : 0 < i → 0 < j → y = aa_gv ge gu lt (i - 1) (j - 1)) (hB : ∀ p q b v, Fx p q b v ≠ 0 → -400 ≤ v ∧ v ≤ 400) (h0 : 0 < i → 0 < j → aa_C3 fr fw (11 * (i - 1) + (j - 1)) (Fx (i - 1) (j - 1))) (h1 : 0 < i → aa_C3 fr fw (11 * (i - 1) + j) (Fx (i - 1) j)) (h2 : 0 < j → aa_C3 fr fw (11 * i + (j - 1)) (Fx i (j - 1))) (hN : aa_C3 fr fw (11 * i + j) N) (hp : ∀ fr' fw' : Nat → Int32, aa_Ch (11 * i + j) fr fr' → aa_Ch (11 * i + j) fw fw' → aa_C3 fr' fw' (11 * i + j) (fun b v => N b v + aa_R (aa_g ge gu lt) op.toInt le.toInt Fx i j b v) → post (ge, gu, op, le, fd, cc, ct, lt, fr', fw', bh, so)) : wX_fillCell_88 post (nI i) (nI j) (nI (11 * i + j)) y ge gu op le fd cc ct lt fr fw bh so := by
  have key : ¬ (0 < i ∧ 0 < j) → wX_fillCell_112 post (nI i) (nI j) (nI (11 * i + j)) ge gu op le fd cc ct lt fr fw bh so := by
    intro h
    refine ax_fc112 (N := N) (Fx := Fx) hr hi hj hB h1 h2 hN fun fr' fw' a b c => hp fr' fw' a b (aa_C3_c (fun b _ v => ?_) c)
    unfold aa_R
    rw [if_neg (c := b = 0 ∧ 0 < i ∧ 0 < j) (fun z => h z.2), Nat.zero_add, Nat.add_assoc]
  unfold wX_fillCell_88
  refine pk_le i 0 (fun h => key (by omega)) (fun h => pk_le j 0 (fun h' => key (by omega)) (fun h' => ?_))
  have e : nI (11 * i + j) - 11 - 1 = nI (11 * (i - 1) + (j - 1)) := by
    rw [show (11 : Int32) = nI 11 from rfl, show (1 : Int32) = nI 1 from rfl, pk_sub (by omega), pk_sub (by omega), show 11 * i + j - 11 - 1 = 11 * (i - 1) + (j - 1) by omega]
  rw [e]
  have hy' : y.toInt = aa_g ge gu lt (i - 1) (j - 1) := by rw [hy h h']; rfl
  refine ax_extend (N := N) (M := Fx (i - 1) (j - 1)) (sort := 0) (k := aa_g ge gu lt (i - 1) (j - 1)) hr (by omega) (by omega) (by omega) (by decide) hy' ((aa_Ru_s hr lt).1 _ _) (h0 h h') (hB _ _) hN fun fr' fw' a b c => ?_
  refine ax_fc112 (Fx := Fx) hr hi hj hB (fun hi0 => aa_C3_k (by omega) (by omega) (by omega) a b (h1 hi0)) (fun hj0 => aa_C3_k (by omega) (by omega) (by omega) a b (h2 hj0)) c fun fr2 fw2 a2 b2 c2 => hp fr2 fw2 (aa_Ch_t a a2) (aa_Ch_t b b2) (aa_C3_c (fun b _ v => ?_) c2)
  unfold aa_ex aa_R
  have z : ∀ c, aa_cs op.toInt le.toInt c 0 = 0 := fun c => rfl
  by_cases hb : b = 0
  · rw [if_pos hb, if_pos (c := b = 0 ∧ 0 < i ∧ 0 < j) ⟨hb, h, h'⟩, z, z, z, Int.add_zero]
    omega
  · rw [if_neg hb, if_neg (c := b = 0 ∧ 0 < i ∧ 0 < j) (fun z => hb z.1)]
    omega
theorem ax_fc66 {post : SX → Prop} (hr : aa_Ru ge gu op le) (hi : i ≤ 10) (hj : j ≤ 10) (hB : ∀ p q b v, Fx p q b v ≠ 0 → -400 ≤ v ∧ v ≤ 400) (h0 : 0 < i → 0 < j → aa_C3 fr fw (11 * (i - 1) + (j - 1)) (Fx (i - 1) (j - 1))) (h1 : 0 < i → aa_C3 fr fw (11 * (i - 1) + j) (Fx (i - 1) j)) (h2 : 0 < j → aa_C3 fr fw (11 * i + (j - 1)) (Fx i (j - 1))) (hN : aa_C3 fr fw (11 * i + j) N) (hp : ∀ fr' fw' : Nat → Int32, aa_Ch (11 * i + j) fr fr' → aa_Ch (11 * i + j) fw fw' → aa_C3 fr' fw' (11 * i + j) (fun b v => N b v + aa_R (aa_g ge gu lt) op.toInt le.toInt Fx i j b v) → post (ge, gu, op, le, fd, cc, ct, lt, fr', fw', bh, so)) : wX_fillCell_66 post (nI i) (nI j) (nI (11 * i + j)) ge gu op le fd cc ct lt fr fw bh so := by
  have key : ∀ y, (0 < i → 0 < j → y = aa_gv ge gu lt (i - 1) (j - 1)) → wX_fillCell_88 post (nI i) (nI j) (nI (11 * i + j)) y ge gu op le fd cc ct lt fr fw bh so := fun y hy => ax_fc88 (N := N) (Fx := Fx) hr hi hj hy hB h0 h1 h2 hN hp
  unfold wX_fillCell_66 wX_fillCell_87
  refine pk_le i 0 (fun h => key 0 (by omega)) (fun h => pk_le j 0 (fun h' => key 0 (by omega)) (fun h' => ?_))
  rw [show (1 : Int32) = nI 1 from rfl, pk_sub (by omega), pk_sub (by omega)]
  exact ax_gain (by omega) (by omega) (key _ (fun _ _ => rfl))
theorem ax_fc10 {post : SX → Prop} {b n c : Nat} {x1 x2 : Int32} (hb : b < 3) (hc : c < 121) (hp : wX_fillCell_10 post x1 x2 (nI c) ge gu op le fd cc n (nI (b + 1)) ct lt (upd fr (121 * b + c) (-100000)) (upd fw (121 * b + c) 0) bh so) : wX_fillCell_10 post x1 x2 (nI c) ge gu op le fd cc (n + 1) (nI b) ct lt fr fw bh so := by
  rw [wX_fillCell_10]
  dsimp only
  have cl : (nI (121 * b + c)).toNatClampNeg = 121 * b + c := nI_clamp (by omega)
  have hin : vp_in (nI (121 * b + c)) 363 := vp_in_nI (by omega) (by decide)
  rw [ai_c3, cl, nI_1]
  refine br_f (nI_ge (b := 3) hb (by decide)) ⟨hin, fun a ea => ⟨hin, fun e ee => fun x hx => ?_⟩⟩
  subst ea ee hx
  exact hp
theorem ax_fillCell {post : SX → Prop} {h : Nat} (hh : h ≤ 3) (hr : aa_Ru ge gu op le) (hi : i ≤ 10) (hj : j ≤ 10) (h0 : 0 < i → 0 < j → aa_C3 fr fw (11 * (i - 1) + (j - 1)) (aa_F (aa_g ge gu lt) op.toInt le.toInt (aa_be h) (i - 1) (j - 1))) (h1 : 0 < i → aa_C3 fr fw (11 * (i - 1) + j) (aa_F (aa_g ge gu lt) op.toInt le.toInt (aa_be h) (i - 1) j)) (h2 : 0 < j → aa_C3 fr fw (11 * i + (j - 1)) (aa_F (aa_g ge gu lt) op.toInt le.toInt (aa_be h) i (j - 1))) (hp : ∀ fr' fw' : Nat → Int32, aa_Ch (11 * i + j) fr fr' → aa_Ch (11 * i + j) fw fw' → aa_C3 fr' fw' (11 * i + j) (aa_F (aa_g ge gu lt) op.toInt le.toInt (aa_be h) i j) → post (ge, gu, op, le, nI h, cc, ct, lt, fr', fw', bh, so)) : wpX_fillCell post (ge, gu, op, le, nI h, cc, ct, lt, fr, fw, bh, so) (nI i) (nI j) := by
  unfold wpX_fillCell
  dsimp only
  rw [ai_c]
  intro x hx
  subst hx
  refine ⟨4, ?_⟩
  have hc : 11 * i + j < 121 := by omega
  refine ax_fc10 (b := 0) (by decide) hc (ax_fc10 (b := 1) (by decide) hc (ax_fc10 (b := 2) (by decide) hc ?_))
  have hB : ∀ p q b v, aa_F (aa_g ge gu lt) op.toInt le.toInt (aa_be h) p q b v ≠ 0 → -400 ≤ v ∧ v ≤ 400 := fun p q b v hv => aa_F_b (aa_Ru_s hr lt) hv
  have A1 : aa_Ch (11 * i + j) fr (upd (upd (upd fr (121 * 0 + (11 * i + j)) (-100000)) (121 * 1 + (11 * i + j)) (-100000)) (121 * 2 + (11 * i + j)) (-100000)) := aa_Ch_t (aa_Ch_E (s := 0) (by decide) (aa_Eq_u _ _ _)) (aa_Ch_t (aa_Ch_E (s := 1) (by decide) (aa_Eq_u _ _ _)) (aa_Ch_E (s := 2) (by decide) (aa_Eq_u _ _ _)))
  have A2 : aa_Ch (11 * i + j) fw (upd (upd (upd fw (121 * 0 + (11 * i + j)) 0) (121 * 1 + (11 * i + j)) 0) (121 * 2 + (11 * i + j)) 0) := aa_Ch_t (aa_Ch_E (s := 0) (by decide) (aa_Eq_u _ _ _)) (aa_Ch_t (aa_Ch_E (s := 1) (by decide) (aa_Eq_u _ _ _)) (aa_Ch_E (s := 2) (by decide) (aa_Eq_u _ _ _)))
  have Z : aa_C3 (upd (upd (upd fr (121 * 0 + (11 * i + j)) (-100000)) (121 * 1 + (11 * i + j)) (-100000)) (121 * 2 + (11 * i + j)) (-100000)) (upd (upd (upd fw (121 * 0 + (11 * i + j)) 0) (121 * 1 + (11 * i + j)) 0) (121 * 2 + (11 * i + j)) 0) (11 * i + j) (fun _ _ => 0) := by
    intro b hb
    have hz := aa_XC_0 (u := -100000) (by decide)
    obtain rfl | rfl | rfl : b = 0 ∨ b = 1 ∨ b = 2 := by omega
    · rw [pk_un (by omega), pk_un (by omega), pk_us, pk_un (by omega), pk_un (by omega), pk_us]; exact hz
    · rw [pk_un (by omega), pk_us, pk_un (by omega), pk_us]; exact hz
    · rw [pk_us, pk_us]; exact hz
  have P0 := fun hi hj => aa_C3_k (c := 11 * i + j) (by omega) (by omega) (by omega) A1 A2 (h0 hi hj)
  have P1 := fun hi => aa_C3_k (c := 11 * i + j) (by omega) (by omega) (by omega) A1 A2 (h1 hi)
  have P2 := fun hj => aa_C3_k (c := 11 * i + j) (by omega) (by omega) (by omega) A1 A2 (h2 hj)
  revert A1 A2 Z P0 P1 P2
  generalize upd (upd (upd fr (121 * 0 + (11 * i + j)) (-100000)) (121 * 1 + (11 * i + j)) (-100000)) (121 * 2 + (11 * i + j)) (-100000) = fr3
  generalize upd (upd (upd fw (121 * 0 + (11 * i + j)) 0) (121 * 1 + (11 * i + j)) 0) (121 * 2 + (11 * i + j)) 0 = fw3
  intro A1 A2 Z P0 P1 P2
  rw [wX_fillCell_10]
  dsimp only
  refine br_t (nI_le (a := 3) (b := 3) (by decide) (by decide)) ?_
  refine ax_may hh hi hj ?_
  have fe := fun b v => aa_F_e (g := aa_g ge gu lt) (o := op.toInt) (l := le.toInt) (be := aa_be h) (p := i) (q := j) (by omega) b v
  by_cases hb : aa_be h i j = true
  · rw [if_pos hb]
    refine br_f (by decide) ?_
    refine ax_offer (sort := 0) (cell := 11 * i + j) (N := fun _ => 0) (M := fun v => if v = 0 then 1 else 0) (by omega) (Z 0 (by decide)) ?_ ?_
    · refine ⟨Or.inr ⟨⟨by decide, fun v hv => ?_⟩, by decide, by decide⟩, by decide⟩
      have hv' : (0 : Int) < v := hv
      exact if_neg (by omega)
    · intro fr' fw' a b c
      have C3 : aa_C3 fr' fw' (11 * i + j) (fun b v => if b = 0 ∧ aa_be h i j = true ∧ v = 0 then 1 else 0) := by
        intro d hd
        by_cases d0 : d = 0
        · subst d0
          refine aa_XC_c (fun v => ?_) c
          dsimp only
          by_cases hv : v = 0
          · rw [if_pos hv, if_pos (c := 0 = 0 ∧ aa_be h i j = true ∧ v = 0) ⟨rfl, hb, hv⟩]
          · rw [if_neg hv, if_neg (c := 0 = 0 ∧ aa_be h i j = true ∧ v = 0) (fun z => hv z.2.2)]
        · rw [a _ (by omega), b _ (by omega)]
          refine aa_XC_c (fun v => ?_) (Z d hd)
          dsimp only
          rw [if_neg (c := d = 0 ∧ aa_be h i j = true ∧ v = 0) (fun z => d0 z.1)]
      have a' := aa_Ch_E (s := 0) (by decide) a
      have b' := aa_Ch_E (s := 0) (by decide) b
      exact ax_fc66 (Fx := aa_F (aa_g ge gu lt) op.toInt le.toInt (aa_be h)) hr hi hj hB (fun hi hj => aa_C3_k (by omega) (by omega) (by omega) a' b' (P0 hi hj)) (fun hi => aa_C3_k (by omega) (by omega) (by omega) a' b' (P1 hi)) (fun hj => aa_C3_k (by omega) (by omega) (by omega) a' b' (P2 hj)) C3 fun fr2 fw2 a2 b2 c2 => hp fr2 fw2 (aa_Ch_t A1 (aa_Ch_t a' a2)) (aa_Ch_t A2 (aa_Ch_t b' b2)) (aa_C3_c (fun b _ v => (fe b v).symm) c2)
  · rw [if_neg hb]
    refine br_t rfl ?_
    refine ax_fc66 (Fx := aa_F (aa_g ge gu lt) op.toInt le.toInt (aa_be h)) hr hi hj hB P0 P1 P2 Z fun fr2 fw2 a2 b2 c2 => hp fr2 fw2 (aa_Ch_t A1 a2) (aa_Ch_t A2 b2) (aa_C3_c (fun b _ v => ?_) c2)
    rw [fe b v, if_neg (fun z => hb z.2.1)]
end
/-- the cells ahead of (i, j) hold what they should -/
def aa_K (fr fw : Nat → Int32) (Fx : Nat → Nat → Nat → Int → Nat) (n m i j : Nat) : Prop := ∀ p q, p ≤ n → q ≤ m → (p < i ∨ (p = i ∧ q < j)) → aa_C3 fr fw (11 * p + q) (Fx p q)
section
variable {ge gu op le fd cc : Int32} {ct lt bh so : Nat → Int32} {n m h : Nat}
theorem ax_ff19 {post : SX → Prop} {J : Int32 → Int32 → Int32 → Int32 → Int32 → Int32 → Int32 → (Nat → Int32) → (Nat → Int32) → (Nat → Int32) → (Nat → Int32) → (Nat → Int32) → (Nat → Int32) → Prop} (hh : h ≤ 3) (hr : aa_Ru ge gu op le) (hn : n ≤ 10) (hm : m ≤ 10) (h1 : ct 1 = nI m) {i : Nat} (hi : i ≤ n) (hp : ∀ fr fw : Nat → Int32, aa_K fr fw (aa_F (aa_g ge gu lt) op.toInt le.toInt (aa_be h)) n m (i + 1) 0 → J (nI (i + 1)) ge gu op le (nI h) cc ct lt fr fw bh so) : ∀ (d j : Nat) (fr fw : Nat → Int32), j + d = m + 1 → aa_K fr fw (aa_F (aa_g ge gu lt) op.toInt le.toInt (aa_be h)) n m i j → wX_fillFront_19 post J (nI i) (d + 1) (nI j) ge gu op le (nI h) cc ct lt fr fw bh so := by
  intro d
  induction d with
  | zero =>
    intro j fr fw hd hK
    rw [wX_fillFront_19]
    dsimp only
    rw [h1]
    refine br_t (nI_lt (by omega) (by omega)) fun x hx => ?_
    rw [hx, nI_1]
    exact hp fr fw fun p q hp hq hpq => hK p q hp hq (by omega)
  | succ d ih =>
    intro j fr fw hd hK
    rw [wX_fillFront_19]
    dsimp only
    rw [h1]
    refine br_f (nI_nlt (by omega) (by omega)) ?_
    refine ax_fillCell hh hr (by omega) (by omega) (fun a b => hK _ _ (by omega) (by omega) (by omega)) (fun a => hK _ _ (by omega) (by omega) (by omega)) (fun a => hK _ _ (by omega) (by omega) (by omega)) fun fr' fw' a b c => ?_
    intro x hx
    rw [hx, nI_1]
    refine ih (j + 1) fr' fw' (by omega) fun p q hp hq hpq => ?_
    by_cases e : p = i ∧ q = j
    · obtain ⟨rfl, rfl⟩ := e
      exact c
    · exact aa_C3_k (by omega) (by omega) (by omega) a b (hK p q hp hq (by omega))
theorem ax_ff7 {post : SX → Prop} (hh : h ≤ 3) (hr : aa_Ru ge gu op le) (hn : n ≤ 10) (hm : m ≤ 10) (h0 : ct 0 = nI n) (h1 : ct 1 = nI m) (hp : ∀ fr fw : Nat → Int32, (∀ p q, p ≤ n → q ≤ m → aa_C3 fr fw (11 * p + q) (aa_F (aa_g ge gu lt) op.toInt le.toInt (aa_be h) p q)) → post (ge, gu, op, le, nI h, cc, ct, lt, fr, fw, bh, so)) : ∀ (d i : Nat) (fr fw : Nat → Int32), i + d = n + 1 → aa_K fr fw (aa_F (aa_g ge gu lt) op.toInt le.toInt (aa_be h)) n m i 0 → wX_fillFront_7 post (d + 1) (nI i) ge gu op le (nI h) cc ct lt fr fw bh so := by
  intro d
  induction d with
  | zero =>
    intro i fr fw hd hK
    rw [wX_fillFront_7]
    dsimp only
    rw [h0]
    exact br_t (nI_lt (by omega) (by omega)) (hp fr fw fun p q hp hq => hK p q hp hq (by omega))
  | succ d ih =>
    intro i fr fw hd hK
    rw [wX_fillFront_7]
    dsimp only
    rw [h0]
    refine br_f (nI_nlt (by omega) (by omega)) ⟨m + 1 + 1, ?_⟩
    exact ax_ff19 hh hr hn hm h1 (by omega) (fun fr' fw' hK' => ih (i + 1) fr' fw' (by omega) hK') (m + 1) 0 fr fw (by omega) hK
theorem ax_fillFront {post : SX → Prop} {fr fw : Nat → Int32} (hh : h ≤ 3) (hr : aa_Ru ge gu op le) (hn : n ≤ 10) (hm : m ≤ 10) (h0 : ct 0 = nI n) (h1 : ct 1 = nI m) (hp : ∀ fr fw : Nat → Int32, (∀ p q, p ≤ n → q ≤ m → aa_C3 fr fw (11 * p + q) (aa_F (aa_g ge gu lt) op.toInt le.toInt (aa_be h) p q)) → post (ge, gu, op, le, nI h, cc, ct, lt, fr, fw, bh, so)) : wpX_fillFront post (ge, gu, op, le, fd, cc, ct, lt, fr, fw, bh, so) (nI h) := by
  unfold wpX_fillFront
  dsimp only
  exact ⟨n + 1 + 1, ax_ff7 hh hr hn hm h0 h1 hp (n + 1) 0 fr fw (by omega) fun p q hp hq hpq => by omega⟩
theorem ax_bestAt {post : Int32 → Prop} {fr fw : Nat → Int32} {N : Nat → Int → Nat} {i j : Nat} (hi : i ≤ 10) (hj : j ≤ 10) (hC : aa_C3 fr fw (11 * i + j) N) (hp : ∀ r : Int32, aa_WC (fun v => N 0 v + N 1 v + N 2 v) (-100000) r.toInt → post r) : wpX_bestAt post (ge, gu, op, le, fd, cc, ct, lt, fr, fw, bh, so) (nI i) (nI j) := by
  unfold wpX_bestAt
  dsimp only
  rw [ai_c]
  intro x hx
  subst hx
  have i0 : vp_in (nI (11 * i + j)) 363 := vp_in_nI (by omega) (by decide)
  have i1 : vp_in (nI (121 * 1 + (11 * i + j))) 363 := vp_in_nI (by omega) (by decide)
  have i2 : vp_in (nI (121 * 2 + (11 * i + j))) 363 := vp_in_nI (by omega) (by decide)
  have c0 : (nI (11 * i + j)).toNatClampNeg = 11 * i + j := nI_clamp (by omega)
  have c1 : (nI (121 * 1 + (11 * i + j))).toNatClampNeg = 121 * 1 + (11 * i + j) := nI_clamp (by omega)
  have c2 : (nI (121 * 2 + (11 * i + j))).toNatClampNeg = 121 * 2 + (11 * i + j) := nI_clamp (by omega)
  have z0 : aa_WC (N 0) (-100000) (fr (11 * i + j)).toInt := by
    have := (hC 0 (by decide)).1
    rw [show 121 * 0 + (11 * i + j) = 11 * i + j by omega] at this
    exact this
  have z1 := (hC 1 (by decide)).1
  have z2 := (hC 2 (by decide)).1
  have last : ∀ r : Int32, aa_WC (fun v => N 0 v + N 1 v) (-100000) r.toInt → wX_bestAt_40 post (nI (11 * i + j)) r ge gu op le fd cc ct lt fr fw bh so := by
    intro r h
    unfold wX_bestAt_40
    rw [ai_242, c2]
    refine ⟨i2, br_c (fun e => hp r ?_) (fun e => ⟨i2, fun y hy => ?_⟩)⟩
    · exact aa_WC_le (by decide) h (aa_WC_O z2) (Int32.le_iff_toInt_le.mp e)
    · rw [hy]
      refine hp _ (aa_WC_gt (by decide) h (aa_WC_O z2) ?_)
      have := aa_gt e
      omega
  rw [ai_121, c0, c1]
  refine ⟨i0, fun y hy => ⟨i1, br_c (fun e => last _ ?_) (fun e => ⟨i1, fun w hw => ?_⟩)⟩⟩
  · rw [hy] at e ⊢
    exact aa_WC_le (by decide) z0 (aa_WC_O z1) (Int32.le_iff_toInt_le.mp e)
  · rw [hw]
    rw [hy] at e
    refine last _ (aa_WC_gt (by decide) z0 (aa_WC_O z1) ?_)
    have := aa_gt e
    omega
end
end
section
/-! the component's table from behind -/
def aa_ni (s i : Nat) : Nat := if s = 2 then i else i + 1
def aa_nj (s j : Nat) : Nat := if s = 1 then j else j + 1
/-- the greatest score if the next column is of sort s, as the component reckons it -/
def aa_wcv (ge gu op le : Int32) (lt bh : Nat → Int32) (n m i j a s : Nat) : Int32 := if aa_ni s i ≤ n ∧ aa_nj s j ≤ m then ((if s = 0 then aa_gv ge gu lt i j else 0) - aa_cv op le a s) + bh (121 * s + (11 * aa_ni s i + aa_nj s j)) else -100000
/-- paths whose next column is of sort s -/
def aa_T (g : Nat → Nat → Int) (o l : Int) (n m : Nat) (en : Nat → Nat → Bool) (i j a s : Nat) (v : Int) : Nat := if aa_ni s i ≤ n ∧ aa_nj s j ≤ m then aa_B g o l n m en (aa_ni s i) (aa_nj s j) s (v + (aa_cs o l a s - (if s = 0 then g i j else 0))) else 0
theorem aa_B_T {g : Nat → Nat → Int} {o l : Int} {n m : Nat} {en : Nat → Nat → Bool} (h : n + m ≤ 20) {i j : Nat} (hi : i ≤ n) (hj : j ≤ m) (a : Nat) (v : Int) : aa_B g o l n m en i j a v = (if en i j = true ∧ v = 0 then 1 else 0) + aa_T g o l n m en i j a 0 v + aa_T g o l n m en i j a 1 v + aa_T g o l n m en i j a 2 v := by
  rw [aa_B_e h]
  have e0 : (if i < n ∧ j < m then aa_B g o l n m en (i + 1) (j + 1) 0 (v - g i j) else 0) = aa_T g o l n m en i j a 0 v := by
    show _ = if i + 1 ≤ n ∧ j + 1 ≤ m then aa_B g o l n m en (i + 1) (j + 1) 0 (v + (0 - g i j)) else 0
    rw [show v + (0 - g i j) = v - g i j by omega]
    rfl
  have e1 : (if i < n then aa_B g o l n m en (i + 1) j 1 (v + aa_cs o l a 1) else 0) = aa_T g o l n m en i j a 1 v := by
    show _ = if i + 1 ≤ n ∧ j ≤ m then aa_B g o l n m en (i + 1) j 1 (v + (aa_cs o l a 1 - 0)) else 0
    rw [Int.sub_zero]
    by_cases hc : i < n
    · rw [if_pos hc, if_pos ⟨hc, hj⟩]
    · rw [if_neg hc, if_neg (fun z => hc z.1)]
  have e2 : (if j < m then aa_B g o l n m en i (j + 1) 2 (v + aa_cs o l a 2) else 0) = aa_T g o l n m en i j a 2 v := by
    show _ = if i ≤ n ∧ j + 1 ≤ m then aa_B g o l n m en i (j + 1) 2 (v + (aa_cs o l a 2 - 0)) else 0
    rw [Int.sub_zero]
    by_cases hc : j < m
    · rw [if_pos hc, if_pos ⟨hi, hc⟩]
    · rw [if_neg hc, if_neg (fun z => hc z.2)]
  rw [e0, e1, e2]
theorem aa_en0 (n m i j : Nat) : aa_en 0 n m i j = true ↔ (i = n ∧ j = m) := by
  unfold aa_en
  rw [decide_eq_true_iff]
  omega
theorem aa_B_n {g : Nat → Nat → Int} {o l : Int} {n m h : Nat} (hs : n + m ≤ 20) {i j a : Nat} (hi : i ≤ n) (hj : j ≤ m) (ha : a < 3) : ∃ v, aa_B g o l n m (aa_en h n m) i j a v ≠ 0 := by
  obtain ⟨b, hb, v, hv⟩ := aa_pc_n (g := g) (o := o) (l := l) 21 i j a n m ha hi hj (by omega)
  exact ⟨v, (aa_bk_x _ 21 i j a v hi hj ha).mpr ⟨n, m, b, Nat.le_refl n, Nat.le_refl m, hb, by unfold aa_en; rw [decide_eq_true_iff]; exact Or.inl ⟨rfl, rfl⟩, hv⟩⟩
theorem aa_WC_r {N : Int → Nat} {u s : Int} (h : aa_WC N u s) (hn : ∃ v, N v ≠ 0) : aa_WC N (-200000) s := by
  rcases h with z | z
  · obtain ⟨v, hv⟩ := hn
    exact absurd (z.1 v) hv
  · exact Or.inr z
theorem aa_WC_rr {N : Int → Nat} {s : Int} (h : aa_WC N (-200000) s) : aa_Bs N s ∧ -1000 ≤ s ∧ s ≤ 1000 := by
  rcases h with z | z
  · omega
  · exact z
/-- the cells behind (i, j) hold what they should -/
def aa_Kb (g : Nat → Nat → Int) (o l : Int) (bh : Nat → Int32) (n m i j : Nat) : Prop := ∀ p q, p ≤ n → q ≤ m → (i < p ∨ (p = i ∧ j ≤ q)) → ∀ b, b < 3 → aa_WC (aa_B g o l n m (aa_en 0 n m) p q b) (-200000) (bh (121 * b + (11 * p + q))).toInt
section
variable {ge gu op le fd cc : Int32} {ct lt fr fw bh so : Nat → Int32} {n m i j a s : Nat}
theorem aa_T_oc (hr : aa_Ru ge gu op le) (hs : s < 3) (hc : aa_ni s i ≤ n → aa_nj s j ≤ m → aa_WC (aa_B (aa_g ge gu lt) op.toInt le.toInt n m (aa_en 0 n m) (aa_ni s i) (aa_nj s j) s) (-200000) (bh (121 * s + (11 * aa_ni s i + aa_nj s j))).toInt) : aa_OC (aa_T (aa_g ge gu lt) op.toInt le.toInt n m (aa_en 0 n m) i j a s) (-100000) (aa_wcv ge gu op le lt bh n m i j a s).toInt := by
  unfold aa_wcv
  by_cases h : aa_ni s i ≤ n ∧ aa_nj s j ≤ m
  · rw [if_pos h]
    have hw := hc h.1 h.2
    have cb := aa_cs_b (aa_Ru_s hr lt) a s
    have ce := aa_cv_t hr a s
    have b2 := (aa_WC_rr hw).2
    have sm := aa_Ru_s hr lt
    have hg : (if s = 0 then aa_gv ge gu lt i j else 0).toInt = (if s = 0 then aa_g ge gu lt i j else 0) := by
      split
      · rfl
      · rfl
    have gb : -9 ≤ (if s = 0 then aa_g ge gu lt i j else 0) ∧ (if s = 0 then aa_g ge gu lt i j else 0) ≤ 9 := by
      split
      · exact sm.1 i j
      · decide
    have e : (((if s = 0 then aa_gv ge gu lt i j else 0) - aa_cv op le a s) + bh (121 * s + (11 * aa_ni s i + aa_nj s j))).toInt = (bh (121 * s + (11 * aa_ni s i + aa_nj s j))).toInt - (aa_cs op.toInt le.toInt a s - (if s = 0 then aa_g ge gu lt i j else 0)) := by
      revert hg gb
      generalize (if s = 0 then aa_gv ge gu lt i j else 0) = x
      generalize (if s = 0 then aa_g ge gu lt i j else 0) = y
      intro hg gb
      have s1 : (x - aa_cv op le a s).toInt = x.toInt - (aa_cv op le a s).toInt := aa_sub (by omega) (by omega)
      rw [aa_add (by omega) (by omega), s1, hg, ce]
      omega
    rw [e]
    refine aa_OC_c (fun v => ?_) (aa_OC_sh (u' := -100000) hw (fun v hv => aa_B_b sm h.1 h.2 hs hv) (aa_cs op.toInt le.toInt a s - (if s = 0 then aa_g ge gu lt i j else 0)) (by omega) (by omega))
    unfold aa_T
    rw [if_pos h]
  · rw [if_neg h, aa_m1e5]
    refine Or.inl ⟨fun v => ?_, Int.le_refl _⟩
    unfold aa_T
    rw [if_neg h]
theorem ax_wc70 {post : Int32 → Prop} {ni nj : Nat} {y : Int32} (ha : a < 3) (hs : s < 3) (hni : ni ≤ 10) (hnj : nj ≤ 10) (hp : post ((y - aa_cv op le a s) + bh (121 * s + (11 * ni + nj)))) : wX_withColumn_70 post (nI a) (nI s) (nI ni) (nI nj) y ge gu op le fd cc ct lt fr fw bh so := by
  unfold wX_withColumn_70
  rw [ai_b3, nI_clamp (by omega)]
  exact ax_cost ha hs ⟨vp_in_nI (by omega) (by decide), hp⟩
theorem ax_wc28 {post : Int32 → Prop} {ni nj : Nat} (hn : n ≤ 10) (hm : m ≤ 10) (h0 : ct 0 = nI n) (h1 : ct 1 = nI m) (ha : a < 3) (hs : s < 3) (hni : ni ≤ 11) (hnj : nj ≤ 11) (hz : s = 0 → ni = i + 1 ∧ nj = j + 1) (hp : post (if ni ≤ n ∧ nj ≤ m then ((if s = 0 then aa_gv ge gu lt i j else 0) - aa_cv op le a s) + bh (121 * s + (11 * ni + nj)) else -100000)) : wX_withColumn_28 post (nI i) (nI j) (nI a) (nI s) (nI ni) (nI nj) ge gu op le fd cc ct lt fr fw bh so := by
  unfold wX_withColumn_28
  rw [h0, h1]
  refine pk_lt n ni (fun h => ?_) (fun h => pk_le nj m (fun h' => ?_) (fun h' => ?_))
  · rw [if_neg (c := ni ≤ n ∧ nj ≤ m) (by omega)] at hp
    exact hp
  · rw [if_pos (c := ni ≤ n ∧ nj ≤ m) ⟨h, h'⟩] at hp
    refine pk_eq s 0 (fun e => ?_) (fun e => ?_)
    · have := hz e
      rw [if_pos e] at hp
      exact ax_gain (by omega) (by omega) (ax_wc70 ha hs (by omega) (by omega) hp)
    · rw [if_neg e] at hp
      exact ax_wc70 ha hs (by omega) (by omega) hp
  · rw [if_neg (c := ni ≤ n ∧ nj ≤ m) (by omega)] at hp
    exact hp
theorem ax_wc {post : Int32 → Prop} (hn : n ≤ 10) (hm : m ≤ 10) (h0 : ct 0 = nI n) (h1 : ct 1 = nI m) (hi : i ≤ 10) (hj : j ≤ 10) (ha : a < 3) (hs : s < 3) (hp : post (aa_wcv ge gu op le lt bh n m i j a s)) : wpX_withColumn post (ge, gu, op, le, fd, cc, ct, lt, fr, fw, bh, so) (nI i) (nI j) (nI a) (nI s) := by
  unfold aa_wcv aa_ni aa_nj at hp
  unfold wpX_withColumn wX_withColumn_13
  dsimp only
  refine pk_eq s 2 (fun e => pk_eq s 1 (fun e' => by omega) (fun e' => ?_)) (fun e => pk_eq s 1 (fun e' => ?_) (fun e' => ?_))
  · rw [if_pos e, if_neg e'] at hp
    rw [nI_1]
    exact ax_wc28 hn hm h0 h1 ha hs (by omega) (by omega) (by omega) hp
  · rw [if_neg e, if_pos e'] at hp
    rw [nI_1]
    exact ax_wc28 hn hm h0 h1 ha hs (by omega) (by omega) (by omega) hp
  · rw [if_neg e, if_neg e'] at hp
    rw [nI_1, nI_1]
    exact ax_wc28 hn hm h0 h1 ha hs (by omega) (by omega) (by omega) hp
theorem ax_ra29 {post : Int32 → Prop} {k : Nat} {x : Int32} {N M : Int → Nat} (hn : n ≤ 10) (hm : m ≤ 10) (h0 : ct 0 = nI n) (h1 : ct 1 = nI m) (hi : i ≤ 10) (hj : j ≤ 10) (ha : a < 3) (hs : s < 3) (hx : aa_WC N (-100000) x.toInt) (hM : aa_OC M (-100000) (aa_wcv ge gu op le lt bh n m i j a s).toInt) (hp : ∀ y : Int32, aa_WC (fun v => N v + M v) (-100000) y.toInt → wX_restAfter_29 post (nI i) (nI j) (nI a) ge gu op le fd cc ct lt fr fw bh so k y (nI (s + 1))) : wX_restAfter_29 post (nI i) (nI j) (nI a) ge gu op le fd cc ct lt fr fw bh so (k + 1) x (nI s) := by
  rw [wX_restAfter_29]
  dsimp only
  rw [nI_1]
  refine br_f (nI_ge (b := 3) hs (by decide)) ?_
  refine ax_wc hn hm h0 h1 hi hj ha hs ?_
  refine br_c (fun e => fun y hy => ?_) (fun e => fun y hy => ?_)
  · rw [hy]
    exact hp x (aa_WC_le (by decide) hx hM (Int32.le_iff_toInt_le.mp e))
  · rw [hy]
    refine hp _ (aa_WC_gt (by decide) hx hM ?_)
    have := aa_gt e
    omega
theorem ax_restAfter {post : Int32 → Prop} (hr : aa_Ru ge gu op le) (hn : n ≤ 10) (hm : m ≤ 10) (h0 : ct 0 = nI n) (h1 : ct 1 = nI m) (hi : i ≤ n) (hj : j ≤ m) (ha : a < 3) (hK : aa_Kb (aa_g ge gu lt) op.toInt le.toInt bh n m i (j + 1)) (hp : ∀ r : Int32, aa_WC (aa_B (aa_g ge gu lt) op.toInt le.toInt n m (aa_en 0 n m) i j a) (-200000) r.toInt → post r) : wpX_restAfter post (ge, gu, op, le, fd, cc, ct, lt, fr, fw, bh, so) (nI i) (nI j) (nI a) := by
  have bt := fun v => aa_B_T (g := aa_g ge gu lt) (o := op.toInt) (l := le.toInt) (n := n) (m := m) (en := aa_en 0 n m) (by omega) hi hj a v
  have ne := aa_B_n (g := aa_g ge gu lt) (o := op.toInt) (l := le.toInt) (n := n) (m := m) (h := 0) (by omega) hi hj ha
  have toc : ∀ s, s < 3 → aa_OC (aa_T (aa_g ge gu lt) op.toInt le.toInt n m (aa_en 0 n m) i j a s) (-100000) (aa_wcv ge gu op le lt bh n m i j a s).toInt := by
    intro s hs
    refine aa_T_oc hr hs (fun c1 c2 => hK _ _ c1 c2 ?_ s hs)
    unfold aa_ni aa_nj
    obtain rfl | rfl | rfl : s = 0 ∨ s = 1 ∨ s = 2 := by omega
    · left; show i < i + 1; omega
    · left; show i < i + 1; omega
    · right; exact ⟨rfl, Nat.le_refl _⟩
  have key : ¬ (i = n ∧ j = m) → ∃ n29 : Nat, wX_restAfter_29 post (nI i) (nI j) (nI a) ge gu op le fd cc ct lt fr fw bh so n29 (-100000) 0 := by
    intro hne
    refine ⟨4, ?_⟩
    refine ax_ra29 (s := 0) (N := fun _ => 0) hn hm h0 h1 (by omega) (by omega) ha (by decide) (by rw [aa_m1e5]; exact aa_WC_0 (by decide)) (toc 0 (by decide)) fun y1 w1 => ?_
    refine ax_ra29 (s := 1) hn hm h0 h1 (by omega) (by omega) ha (by decide) w1 (toc 1 (by decide)) fun y2 w2 => ?_
    refine ax_ra29 (s := 2) hn hm h0 h1 (by omega) (by omega) ha (by decide) w2 (toc 2 (by decide)) fun y3 w3 => ?_
    rw [wX_restAfter_29]
    dsimp only
    refine br_t (nI_le (a := 3) (b := 3) (by decide) (by decide)) (hp y3 (aa_WC_r (aa_WC_c (fun v => ?_) w3) ne))
    rw [bt v, if_neg (fun z => hne ((aa_en0 n m i j).mp z.1))]
  unfold wpX_restAfter
  dsimp only
  rw [h0, h1]
  refine pk_eq i n (fun e => pk_eq j m (fun e' => ?_) (fun e' => key (fun z => e' z.2))) (fun e => key (fun z => e z.1))
  refine hp 0 (Or.inr ⟨⟨?_, fun v hv => ?_⟩, by decide, by decide⟩)
  · rw [bt, if_pos ⟨(aa_en0 n m i j).mpr ⟨e, e'⟩, rfl⟩]
    omega
  · have hv' : (0 : Int) < v := hv
    have t0 : ∀ s, s < 3 → aa_T (aa_g ge gu lt) op.toInt le.toInt n m (aa_en 0 n m) i j a s v = 0 := by
      intro s hs
      unfold aa_T aa_ni aa_nj
      obtain rfl | rfl | rfl : s = 0 ∨ s = 1 ∨ s = 2 := by omega
      · exact if_neg (fun z => by have := z.1; simp at this; omega)
      · exact if_neg (fun z => by have := z.1; simp at this; omega)
      · exact if_neg (fun z => by have := z.2; simp at this; omega)
    rw [bt, t0 0 (by decide), t0 1 (by decide), t0 2 (by decide), if_neg (fun z => by omega)]
end
end
section
/-! the component fills its table from behind and goes along the first best alignment -/
section
variable {ge gu op le fd cc : Int32} {ct lt fr fw so : Nat → Int32} {n m : Nat}
theorem ax_fb24 {post : SX → Prop} {J7 J18 : Int32 → (Nat → Int32) → (Nat → Int32) → (Nat → Int32) → (Nat → Int32) → (Nat → Int32) → (Nat → Int32) → Prop} {i j : Nat} (hr : aa_Ru ge gu op le) (hn : n ≤ 10) (hm : m ≤ 10) (h0 : ct 0 = nI n) (h1 : ct 1 = nI m) (hi : i ≤ n) (hj : j ≤ m) (hp : ∀ bh : Nat → Int32, aa_Kb (aa_g ge gu lt) op.toInt le.toInt bh n m i j → J18 (nI j + (-1)) ct lt fr fw bh so) : ∀ (d a : Nat) (bh : Nat → Int32), a + d = 3 → aa_Kb (aa_g ge gu lt) op.toInt le.toInt bh n m i (j + 1) → (∀ b, b < a → aa_WC (aa_B (aa_g ge gu lt) op.toInt le.toInt n m (aa_en 0 n m) i j b) (-200000) (bh (121 * b + (11 * i + j))).toInt) → wX_fillBehind_24 post J7 J18 (nI i) (nI j) ge gu op le fd cc (d + 1) (nI a) ct lt fr fw bh so := by
  intro d
  induction d with
  | zero =>
    intro a bh hd hK hc
    rw [wX_fillBehind_24]
    dsimp only
    refine br_t (nI_le (a := 3) (by omega) (by omega)) fun x hx => ?_
    rw [hx]
    refine hp bh fun p q hp hq hpq b hb => ?_
    by_cases e : p = i ∧ q = j
    · obtain ⟨rfl, rfl⟩ := e
      exact hc b (by omega)
    · exact hK p q hp hq (by omega) b hb
  | succ d ih =>
    intro a bh hd hK hc
    rw [wX_fillBehind_24]
    dsimp only
    rw [ai_b3, nI_clamp (by omega), nI_1]
    refine br_f (nI_ge (b := 3) (by omega) (by decide)) ?_
    refine ax_restAfter hr hn hm h0 h1 hi hj (by omega) hK fun r hw => ?_
    refine ⟨vp_in_nI (by omega) (by decide), fun bh' eb x hx => ?_⟩
    rw [hx]
    subst eb
    refine ih (a + 1) _ (by omega) (fun p q hp hq hpq b hb => ?_) (fun b hb => ?_)
    · rw [pk_un (by omega)]
      exact hK p q hp hq hpq b hb
    · by_cases e : b = a
      · subst e
        rw [pk_us]
        exact hw
      · rw [pk_un (by omega)]
        exact hc b (by omega)
theorem ax_fb18 {post : SX → Prop} {J7 : Int32 → (Nat → Int32) → (Nat → Int32) → (Nat → Int32) → (Nat → Int32) → (Nat → Int32) → (Nat → Int32) → Prop} {i : Nat} (hr : aa_Ru ge gu op le) (hn : n ≤ 10) (hm : m ≤ 10) (h0 : ct 0 = nI n) (h1 : ct 1 = nI m) (hi : i ≤ n) (hp : ∀ bh : Nat → Int32, aa_Kb (aa_g ge gu lt) op.toInt le.toInt bh n m i 0 → J7 (nI i + (-1)) ct lt fr fw bh so) : ∀ (d : Nat) (bh : Nat → Int32), d ≤ m + 1 → aa_Kb (aa_g ge gu lt) op.toInt le.toInt bh n m i d → wX_fillBehind_18 post J7 (nI i) ge gu op le fd cc (d + 1) (nI d + (-1)) ct lt fr fw bh so := by
  intro d
  induction d with
  | zero =>
    intro bh hd hK
    rw [wX_fillBehind_18]
    dsimp only
    refine br_t (by decide) fun x hx => ?_
    rw [hx]
    exact hp bh hK
  | succ d ih =>
    intro bh hd hK
    rw [wX_fillBehind_18]
    dsimp only
    rw [pk_m1]
    refine br_f (nI_pos (by omega)) ⟨3 + 1, ?_⟩
    exact ax_fb24 hr hn hm h0 h1 hi (by omega) (fun bh' hK' => ih bh' (by omega) hK') 3 0 bh rfl hK (fun b hb => by omega)
theorem ax_fb7 {post : SX → Prop} (hr : aa_Ru ge gu op le) (hn : n ≤ 10) (hm : m ≤ 10) (h0 : ct 0 = nI n) (h1 : ct 1 = nI m) (hp : ∀ bh : Nat → Int32, (∀ p q, p ≤ n → q ≤ m → ∀ b, b < 3 → aa_WC (aa_B (aa_g ge gu lt) op.toInt le.toInt n m (aa_en 0 n m) p q b) (-200000) (bh (121 * b + (11 * p + q))).toInt) → post (ge, gu, op, le, fd, cc, ct, lt, fr, fw, bh, so)) : ∀ (d : Nat) (bh : Nat → Int32), d ≤ n + 1 → aa_Kb (aa_g ge gu lt) op.toInt le.toInt bh n m d 0 → wX_fillBehind_7 post ge gu op le fd cc (d + 1) (nI d + (-1)) ct lt fr fw bh so := by
  intro d
  induction d with
  | zero =>
    intro bh hd hK
    rw [wX_fillBehind_7]
    dsimp only
    exact br_t (by decide) (hp bh fun p q hp hq b hb => hK p q hp hq (by omega) b hb)
  | succ d ih =>
    intro bh hd hK
    rw [wX_fillBehind_7]
    dsimp only
    rw [pk_m1, h1]
    refine br_f (nI_pos (by omega)) fun x hx => ⟨m + 1 + 1, ?_⟩
    rw [hx, ← pk_m1 m]
    exact ax_fb18 hr hn hm h0 h1 (by omega) (fun bh' hK' => ih bh' (by omega) hK') (m + 1) bh (by omega) fun p q hp hq hpq b hb => hK p q hp hq (by omega) b hb
theorem ax_fillBehind {post : SX → Prop} {bh : Nat → Int32} (hr : aa_Ru ge gu op le) (hn : n ≤ 10) (hm : m ≤ 10) (h0 : ct 0 = nI n) (h1 : ct 1 = nI m) (hp : ∀ bh : Nat → Int32, (∀ p q, p ≤ n → q ≤ m → ∀ b, b < 3 → aa_WC (aa_B (aa_g ge gu lt) op.toInt le.toInt n m (aa_en 0 n m) p q b) (-200000) (bh (121 * b + (11 * p + q))).toInt) → post (ge, gu, op, le, fd, cc, ct, lt, fr, fw, bh, so)) : wpX_fillBehind post (ge, gu, op, le, fd, cc, ct, lt, fr, fw, bh, so) := by
  unfold wpX_fillBehind
  dsimp only
  intro x hx
  refine ⟨n + 1 + 1, ?_⟩
  rw [hx, h0, ← pk_m1 n]
  exact ax_fb7 hr hn hm h0 h1 hp (n + 1) bh (by omega) fun p q hp hq hpq b hb => by omega
end
/-- the next column's sort; the places along the first best alignment -/
def aa_nx (ge gu op le : Int32) (lt bh : Nat → Int32) (n m i j a : Nat) : Nat := if aa_wcv ge gu op le lt bh n m i j a 0 = bh (121 * a + (11 * i + j)) then 0 else if aa_wcv ge gu op le lt bh n m i j a 1 = bh (121 * a + (11 * i + j)) then 1 else 2
def aa_st (ge gu op le : Int32) (lt bh : Nat → Int32) (n m : Nat) (t : Nat × Nat × Nat) : Nat × Nat × Nat := (aa_ni (aa_nx ge gu op le lt bh n m t.1 t.2.1 t.2.2) t.1, aa_nj (aa_nx ge gu op le lt bh n m t.1 t.2.1 t.2.2) t.2.1, aa_nx ge gu op le lt bh n m t.1 t.2.1 t.2.2)
def aa_tr (ge gu op le : Int32) (lt bh : Nat → Int32) (n m : Nat) : Nat → Nat × Nat × Nat
  | 0 => (0, 0, 0)
  | k + 1 => aa_st ge gu op le lt bh n m (aa_tr ge gu op le lt bh n m k)
/-- the table from behind is right -/
def aa_OK (ge gu op le : Int32) (lt bh : Nat → Int32) (n m : Nat) : Prop := ∀ p q, p ≤ n → q ≤ m → ∀ b, b < 3 → aa_WC (aa_B (aa_g ge gu lt) op.toInt le.toInt n m (aa_en 0 n m) p q b) (-200000) (bh (121 * b + (11 * p + q))).toInt
section
variable {ge gu op le : Int32} {lt bh : Nat → Int32} {n m : Nat}
theorem aa_nx_3 (i j a : Nat) : aa_nx ge gu op le lt bh n m i j a < 3 := by
  unfold aa_nx
  split
  · decide
  · split <;> decide
/-- a step stays within -/
theorem aa_nx_in (hr : aa_Ru ge gu op le) (hn : n ≤ 10) (hm : m ≤ 10) (hO : aa_OK ge gu op le lt bh n m) {i j a : Nat} (hi : i ≤ n) (hj : j ≤ m) (ha : a < 3) (hne : ¬ (i = n ∧ j = m)) : aa_ni (aa_nx ge gu op le lt bh n m i j a) i ≤ n ∧ aa_nj (aa_nx ge gu op le lt bh n m i j a) j ≤ m := by
  have hc := aa_WC_rr (hO i j hi hj a ha)
  have toc : ∀ s, s < 3 → aa_OC (aa_T (aa_g ge gu lt) op.toInt le.toInt n m (aa_en 0 n m) i j a s) (-100000) (aa_wcv ge gu op le lt bh n m i j a s).toInt := fun s hs => aa_T_oc hr hs (fun c1 c2 => hO _ _ c1 c2 s hs)
  have bt := aa_B_T (g := aa_g ge gu lt) (o := op.toInt) (l := le.toInt) (n := n) (m := m) (en := aa_en 0 n m) (by omega) hi hj a (bh (121 * a + (11 * i + j))).toInt
  rw [if_neg (fun z => hne ((aa_en0 n m i j).mp z.1))] at bt
  have out : ∀ s, ¬ (aa_ni s i ≤ n ∧ aa_nj s j ≤ m) → ¬ aa_wcv ge gu op le lt bh n m i j a s = bh (121 * a + (11 * i + j)) := by
    intro s hs hE
    unfold aa_wcv at hE
    rw [if_neg hs] at hE
    rw [← hE, aa_m1e5] at hc
    omega
  unfold aa_nx
  split
  · rename_i h
    exact Classical.byContradiction fun z => out 0 z h
  · rename_i h0
    split
    · rename_i h
      exact Classical.byContradiction fun z => out 1 z h
    · rename_i h1
      have up : ∀ s, s < 3 → aa_T (aa_g ge gu lt) op.toInt le.toInt n m (aa_en 0 n m) i j a s (bh (121 * a + (11 * i + j))).toInt ≠ 0 → (bh (121 * a + (11 * i + j))).toInt ≤ (aa_wcv ge gu op le lt bh n m i j a s).toInt := by
        intro s hs hz
        apply Classical.byContradiction
        intro hlt
        exact hz (aa_OC_z (toc s hs) (by omega))
      have dn : ∀ s, s < 3 → aa_T (aa_g ge gu lt) op.toInt le.toInt n m (aa_en 0 n m) i j a s (bh (121 * a + (11 * i + j))).toInt ≠ 0 → (aa_wcv ge gu op le lt bh n m i j a s).toInt ≤ (bh (121 * a + (11 * i + j))).toInt := by
        intro s hs hz
        apply Classical.byContradiction
        intro hlt
        have bt' := aa_B_T (g := aa_g ge gu lt) (o := op.toInt) (l := le.toInt) (n := n) (m := m) (en := aa_en 0 n m) (by omega) hi hj a (aa_wcv ge gu op le lt bh n m i j a s).toInt
        have zz := hc.1.2 (aa_wcv ge gu op le lt bh n m i j a s).toInt (by omega)
        rcases toc s hs with z | z
        · exact hz (z.1 _)
        · have z1 := z.1.1
          rw [zz] at bt'
          obtain rfl | rfl | rfl : s = 0 ∨ s = 1 ∨ s = 2 := by omega
          all_goals omega
      have no : ∀ s, s < 3 → ¬ aa_wcv ge gu op le lt bh n m i j a s = bh (121 * a + (11 * i + j)) → aa_T (aa_g ge gu lt) op.toInt le.toInt n m (aa_en 0 n m) i j a s (bh (121 * a + (11 * i + j))).toInt = 0 := by
        intro s hs hE
        apply Classical.byContradiction
        intro hz
        have a1 := up s hs hz
        have a2 := dn s hs hz
        exact hE (Int32.toInt_inj.mp (by omega))
      have n0 := no 0 (by decide) h0
      have n1 := no 1 (by decide) h1
      have nz := hc.1.1
      rw [bt, n0, n1] at nz
      apply Classical.byContradiction
      intro z
      apply nz
      unfold aa_T
      rw [if_neg z]
theorem aa_nn (s i j : Nat) : i + j < aa_ni s i + aa_nj s j := by
  unfold aa_ni aa_nj
  split <;> split <;> omega
/-- the alignment ends -/
theorem aa_tr_K (hr : aa_Ru ge gu op le) (hn : n ≤ 10) (hm : m ≤ 10) (hO : aa_OK ge gu op le lt bh n m) : ∃ K, K ≤ 20 ∧ ((aa_tr ge gu op le lt bh n m K).1 = n ∧ (aa_tr ge gu op le lt bh n m K).2.1 = m) ∧ (∀ k, k < K → ¬ ((aa_tr ge gu op le lt bh n m k).1 = n ∧ (aa_tr ge gu op le lt bh n m k).2.1 = m)) ∧ ∀ k, k ≤ K → (aa_tr ge gu op le lt bh n m k).1 ≤ n ∧ (aa_tr ge gu op le lt bh n m k).2.1 ≤ m ∧ (aa_tr ge gu op le lt bh n m k).2.2 < 3 := by
  have key : ∀ d k, (∀ k', k' < k → ¬ ((aa_tr ge gu op le lt bh n m k').1 = n ∧ (aa_tr ge gu op le lt bh n m k').2.1 = m)) → (∀ k', k' ≤ k → (aa_tr ge gu op le lt bh n m k').1 ≤ n ∧ (aa_tr ge gu op le lt bh n m k').2.1 ≤ m ∧ (aa_tr ge gu op le lt bh n m k').2.2 < 3) → k ≤ (aa_tr ge gu op le lt bh n m k).1 + (aa_tr ge gu op le lt bh n m k).2.1 → n + m < (aa_tr ge gu op le lt bh n m k).1 + (aa_tr ge gu op le lt bh n m k).2.1 + d → ∃ K, K ≤ 20 ∧ ((aa_tr ge gu op le lt bh n m K).1 = n ∧ (aa_tr ge gu op le lt bh n m K).2.1 = m) ∧ (∀ k, k < K → ¬ ((aa_tr ge gu op le lt bh n m k).1 = n ∧ (aa_tr ge gu op le lt bh n m k).2.1 = m)) ∧ ∀ k, k ≤ K → (aa_tr ge gu op le lt bh n m k).1 ≤ n ∧ (aa_tr ge gu op le lt bh n m k).2.1 ≤ m ∧ (aa_tr ge gu op le lt bh n m k).2.2 < 3 := by
    intro d
    induction d with
    | zero =>
      intro k h1 h2 h3 h4
      have := h2 k (Nat.le_refl k)
      omega
    | succ d ih =>
      intro k h1 h2 h3 h4
      have b := h2 k (Nat.le_refl k)
      by_cases e : (aa_tr ge gu op le lt bh n m k).1 = n ∧ (aa_tr ge gu op le lt bh n m k).2.1 = m
      · exact ⟨k, by omega, e, h1, h2⟩
      · have s := aa_nx_in hr hn hm hO b.1 b.2.1 b.2.2 e
        have t := aa_nn (aa_nx ge gu op le lt bh n m (aa_tr ge gu op le lt bh n m k).1 (aa_tr ge gu op le lt bh n m k).2.1 (aa_tr ge gu op le lt bh n m k).2.2) (aa_tr ge gu op le lt bh n m k).1 (aa_tr ge gu op le lt bh n m k).2.1
        have u := aa_nx_3 (ge := ge) (gu := gu) (op := op) (le := le) (lt := lt) (bh := bh) (n := n) (m := m) (aa_tr ge gu op le lt bh n m k).1 (aa_tr ge gu op le lt bh n m k).2.1 (aa_tr ge gu op le lt bh n m k).2.2
        have q1 : (aa_tr ge gu op le lt bh n m (k + 1)).1 = aa_ni (aa_nx ge gu op le lt bh n m (aa_tr ge gu op le lt bh n m k).1 (aa_tr ge gu op le lt bh n m k).2.1 (aa_tr ge gu op le lt bh n m k).2.2) (aa_tr ge gu op le lt bh n m k).1 := rfl
        have q2 : (aa_tr ge gu op le lt bh n m (k + 1)).2.1 = aa_nj (aa_nx ge gu op le lt bh n m (aa_tr ge gu op le lt bh n m k).1 (aa_tr ge gu op le lt bh n m k).2.1 (aa_tr ge gu op le lt bh n m k).2.2) (aa_tr ge gu op le lt bh n m k).2.1 := rfl
        have q3 : (aa_tr ge gu op le lt bh n m (k + 1)).2.2 = aa_nx ge gu op le lt bh n m (aa_tr ge gu op le lt bh n m k).1 (aa_tr ge gu op le lt bh n m k).2.1 (aa_tr ge gu op le lt bh n m k).2.2 := rfl
        refine ih (k + 1) (fun k' hk' => ?_) (fun k' hk' => ?_) (by omega) (by omega)
        · by_cases z : k' = k
          · rw [z]; exact e
          · exact h1 k' (by omega)
        · by_cases z : k' = k + 1
          · rw [z, q1, q2, q3]; exact ⟨s.1, s.2, u⟩
          · exact h2 k' (by omega)
  exact key (n + m + 1) 0 (fun k' hk' => by omega) (fun k' hk' => by
    have : k' = 0 := by omega
    subst this
    exact ⟨Nat.zero_le _, Nat.zero_le _, (by decide : 0 < 3)⟩) (by omega) (by omega)
end
section
variable {ge gu op le fd : Int32} {ct lt fr fw bh so : Nat → Int32} {n m : Nat}
theorem ax_ff82 {post : SX → Prop} {J : Int32 → Int32 → Int32 → Int32 → (Nat → Int32) → (Nat → Int32) → (Nat → Int32) → (Nat → Int32) → (Nat → Int32) → (Nat → Int32) → Prop} {i j s k : Nat} (hs : s < 3) (hk : k < 20) (hp : J (nI (aa_ni s i)) (nI (aa_nj s j)) (nI s) (nI (k + 1)) ct lt fr fw bh (upd so k (nI s))) : wX_findFirst_82 post J (nI i) (nI j) (nI s) ge gu op le fd (nI k) ct lt fr fw bh so := by
  have e8 : vp_nar .byte (nI s).toInt8.toInt32 = nI s := by
    rw [pk_vb]
    obtain rfl | rfl | rfl : s = 0 ∨ s = 1 ∨ s = 2 := by omega
    all_goals decide
  unfold wX_findFirst_82 wX_findFirst_113
  rw [e8, nI_clamp (by omega)]
  unfold aa_ni aa_nj at hp
  refine ⟨vp_in_nI hk (by decide), fun a ea c ec => ?_⟩
  subst ea
  rw [ec, nI_1]
  refine pk_eq s 2 (fun e => pk_eq s 1 (fun e' => by omega) (fun e' => ?_)) (fun e => ?_)
  · intro y hy
    rw [hy, nI_1]
    rw [if_pos e, if_neg e'] at hp
    exact hp
  · intro x hx
    rw [hx, nI_1]
    refine pk_eq s 1 (fun e' => ?_) (fun e' => ?_)
    · rw [if_neg e, if_pos e'] at hp
      exact hp
    · intro y hy
      rw [hy, nI_1]
      rw [if_neg e, if_neg e'] at hp
      exact hp
theorem ax_ff35 {post : SX → Prop} {J : Int32 → Int32 → Int32 → Int32 → (Nat → Int32) → (Nat → Int32) → (Nat → Int32) → (Nat → Int32) → (Nat → Int32) → (Nat → Int32) → Prop} {i j a k : Nat} (hn : n ≤ 10) (hm : m ≤ 10) (h0 : ct 0 = nI n) (h1 : ct 1 = nI m) (hi : i ≤ n) (hj : j ≤ m) (ha : a < 3) (hk : k < 20) (hp : J (nI (aa_ni (aa_nx ge gu op le lt bh n m i j a) i)) (nI (aa_nj (aa_nx ge gu op le lt bh n m i j a) j)) (nI (aa_nx ge gu op le lt bh n m i j a)) (nI (k + 1)) ct lt fr fw bh (upd so k (nI (aa_nx ge gu op le lt bh n m i j a)))) : wX_findFirst_35 post J (nI i) (nI j) (nI a) ge gu op le fd (nI k) ct lt fr fw bh so := by
  unfold wX_findFirst_35
  rw [ai_b3, nI_clamp (by omega)]
  refine ⟨vp_in_nI (by omega) (by decide), fun x hx => ⟨3, ?_⟩⟩
  subst hx
  unfold aa_nx at hp
  rw [wX_findFirst_56]
  dsimp only
  refine br_f (by decide) ?_
  refine ax_wc (s := 0) hn hm h0 h1 (by omega) (by omega) ha (by decide) ?_
  refine br_c (fun e => ?_) (fun e => ?_)
  · rw [if_pos e] at hp
    exact ax_ff82 (s := 0) (by decide) hk hp
  · rw [if_neg e] at hp
    intro y hy
    rw [hy, wX_findFirst_56]
    dsimp only
    refine br_f (by decide) ?_
    refine ax_wc (s := 1) hn hm h0 h1 (by omega) (by omega) ha (by decide) ?_
    refine br_c (fun e => ?_) (fun e => ?_)
    · rw [if_pos e] at hp
      exact ax_ff82 (s := 1) (by decide) hk hp
    · rw [if_neg e] at hp
      intro z hz
      rw [hz, wX_findFirst_56]
      dsimp only
      refine br_t (by decide) ?_
      exact ax_ff82 (s := 2) (by decide) hk hp
theorem ax_ff15 {post : SX → Prop} {K : Nat} (hn : n ≤ 10) (hm : m ≤ 10) (h0 : ct 0 = nI n) (h1 : ct 1 = nI m) (hK : K ≤ 20) (hE : (aa_tr ge gu op le lt bh n m K).1 = n ∧ (aa_tr ge gu op le lt bh n m K).2.1 = m) (hN : ∀ k, k < K → ¬ ((aa_tr ge gu op le lt bh n m k).1 = n ∧ (aa_tr ge gu op le lt bh n m k).2.1 = m)) (hI : ∀ k, k ≤ K → (aa_tr ge gu op le lt bh n m k).1 ≤ n ∧ (aa_tr ge gu op le lt bh n m k).2.1 ≤ m ∧ (aa_tr ge gu op le lt bh n m k).2.2 < 3) (hp : ∀ so : Nat → Int32, (∀ k, k < K → so k = nI (aa_tr ge gu op le lt bh n m (k + 1)).2.2) → post (ge, gu, op, le, fd, nI K, ct, lt, fr, fw, bh, so)) : ∀ (d k : Nat) (so : Nat → Int32), k + d = K → (∀ k', k' < k → so k' = nI (aa_tr ge gu op le lt bh n m (k' + 1)).2.2) → wX_findFirst_15 post ge gu op le fd (d + 1) (nI (aa_tr ge gu op le lt bh n m k).1) (nI (aa_tr ge gu op le lt bh n m k).2.1) (nI (aa_tr ge gu op le lt bh n m k).2.2) (nI k) ct lt fr fw bh so := by
  intro d
  induction d with
  | zero =>
    intro k so hd hs
    obtain rfl : k = K := by omega
    rw [wX_findFirst_15]
    dsimp only
    rw [h0, h1, hE.1, hE.2]
    exact br_f (nI_nlt (by omega) (by omega)) (br_t (nI_le (by omega) (by omega)) (hp so hs))
  | succ d ih =>
    intro k so hd hs
    have b := hI k (by omega)
    have next : wX_findFirst_35 post (wX_findFirst_15 post ge gu op le fd (d + 1)) (nI (aa_tr ge gu op le lt bh n m k).1) (nI (aa_tr ge gu op le lt bh n m k).2.1) (nI (aa_tr ge gu op le lt bh n m k).2.2) ge gu op le fd (nI k) ct lt fr fw bh so := by
      refine ax_ff35 hn hm h0 h1 b.1 b.2.1 b.2.2 (by omega) ?_
      refine ih (k + 1) _ (by omega) fun k' hk' => ?_
      by_cases e : k' = k
      · subst e
        rw [pk_us]
        rfl
      · rw [pk_un e]
        exact hs k' (by omega)
    have c := hN k (by omega)
    rw [wX_findFirst_15]
    dsimp only
    rw [h0, h1]
    exact pk_lt (aa_tr ge gu op le lt bh n m k).1 n (fun _ => next) (fun z => pk_le m (aa_tr ge gu op le lt bh n m k).2.1 (fun z' => absurd ⟨by omega, by omega⟩ c) (fun _ => next))
theorem ax_findFirst {post : SX → Prop} {cc : Int32} {bh : Nat → Int32} (hr : aa_Ru ge gu op le) (hn : n ≤ 10) (hm : m ≤ 10) (h0 : ct 0 = nI n) (h1 : ct 1 = nI m) (hp : ∀ (bh so : Nat → Int32) (K : Nat), aa_OK ge gu op le lt bh n m → K ≤ 20 → ((aa_tr ge gu op le lt bh n m K).1 = n ∧ (aa_tr ge gu op le lt bh n m K).2.1 = m) → (∀ k, k < K → ¬ ((aa_tr ge gu op le lt bh n m k).1 = n ∧ (aa_tr ge gu op le lt bh n m k).2.1 = m)) → (∀ k, k ≤ K → (aa_tr ge gu op le lt bh n m k).1 ≤ n ∧ (aa_tr ge gu op le lt bh n m k).2.1 ≤ m ∧ (aa_tr ge gu op le lt bh n m k).2.2 < 3) → (∀ k, k < K → so k = nI (aa_tr ge gu op le lt bh n m (k + 1)).2.2) → post (ge, gu, op, le, fd, nI K, ct, lt, fr, fw, bh, so)) : wpX_findFirst post (ge, gu, op, le, fd, cc, ct, lt, fr, fw, bh, so) := by
  unfold wpX_findFirst
  dsimp only
  refine ax_fillBehind hr hn hm h0 h1 fun bh hO => ?_
  obtain ⟨K, hK, hE, hN, hI⟩ := aa_tr_K hr hn hm hO
  exact ⟨K + 1, ax_ff15 hn hm h0 h1 hK hE hN hI (fun so hs => hp bh so K hO hK hE hN hI hs) K 0 so (by omega) (fun k' hk' => by omega)⟩
end
end
section
/-! the reference fills its tables -/
def aa_y (i j a : Nat) : Nat := (i * 11 + j) * 3 + a
def aa_u (i : Nat) : Int := -99000 - 9 * (i : Int)
/-- the cell (i, j, a) of the reference holds what it should -/
def aa_Y (g : Nat → Nat → Int) (o l : Int) (n m : Nat) (en : Nat → Nat → Bool) (sc cn : Nat → Int32) (i j a : Nat) : Prop := aa_XC (aa_S g o l n m en i j a) (aa_u i) (sc (aa_y i j a)) (cn (aa_y i j a))
theorem aa_rz (x y : Nat) (l : Int) (f : Nat → Int → Nat) (w : Int) : (if x = y then 0 else aa_rn l f (1 - 1) w) = 0 := by
  split <;> rfl
theorem aa_ql {q : Nat} {l : Int} (hq : q ≤ 10) (h0 : 0 ≤ l) (h9 : l ≤ 9) : 0 ≤ (q : Int) * l ∧ (q : Int) * l ≤ 90 := by
  refine ⟨Int.mul_nonneg (by omega) h0, ?_⟩
  have := Int.mul_le_mul (a := (q : Int)) (b := l) (c := 10) (d := 9) (by omega) h9 h0 (by omega)
  omega
theorem aa_mul {q : Nat} {x : Int32} (hq : q ≤ 10) (h0 : 0 ≤ x.toInt) (h9 : x.toInt ≤ 9) : (nI q * x).toInt = (q : Int) * x.toInt := by
  have h := aa_ql hq h0 h9
  have e : (nI q).toInt = (q : Int) := nI_toInt (by omega)
  rw [Jvm.Kit.i32_mul (by rw [e]; omega) (by rw [e]; omega), e]
theorem aa_y_ne {i j a i' j' a' : Nat} (hj : j ≤ 10) (hj' : j' ≤ 10) (ha : a < 3) (ha' : a' < 3) (h : ¬ (i = i' ∧ j = j' ∧ a = a')) : aa_y i j a ≠ aa_y i' j' a' := by
  unfold aa_y
  omega
theorem aa_y_b {i j a : Nat} (hi : i ≤ 10) (hj : j ≤ 10) (ha : a < 3) : aa_y i j a < 363 := by
  unfold aa_y
  omega
section
variable {ge gu op le : Int32} {ct lt sc cn : Nat → Int32} {n m : Nat} {en : Nat → Nat → Bool}
theorem ay_S_b (hr : aa_Ru ge gu op le) (hn : n ≤ 10) (hm : m ≤ 10) {i j a : Nat} (hi : i ≤ n) (hj : j ≤ m) (ha : a < 3) (v : Int) (h : aa_S (aa_g ge gu lt) op.toInt le.toInt n m en i j a v ≠ 0) : -400 ≤ v ∧ v ≤ 400 := aa_B_b (aa_Ru_s hr lt) hi hj ha (aa_S_le (by omega) ha h)
theorem ay_gain {post : Int32 → Prop} {i j : Nat} (hi : i < 10) (hj : j < 10) (hp : post (aa_gv ge gu lt i j)) : wpY_gain post (ge, gu, op, le, lt, ct, sc, cn) (nI i) (nI j) := by
  unfold wpY_gain
  dsimp only
  rw [ai_10, nI_clamp (by omega), nI_clamp (by omega)]
  refine ⟨vp_in_nI (by omega) (by decide), vp_in_nI (by omega) (by decide), ?_⟩
  unfold aa_gv at hp
  by_cases h : lt i = lt (10 + j)
  · rw [if_pos h] at hp; exact br_t h hp
  · rw [if_neg h] at hp; exact br_f h hp
theorem ay_offer {post : SY → Prop} {N M : Int → Nat} {u : Int} {k : Nat} {c d : Int32} (hu : u ≤ -60000) (hk : k < 363) (h : aa_XC N u (sc k) (cn k)) (hM : aa_OX M u c d) (hp : ∀ sc' cn' : Nat → Int32, aa_Eq k sc sc' → aa_Eq k cn cn' → aa_XC (fun v => N v + M v) u (sc' k) (cn' k) → post (ge, gu, op, le, lt, ct, sc', cn')) : wpY_offer post (ge, gu, op, le, lt, ct, sc, cn) (nI k) c d := by
  have cl : (nI k).toNatClampNeg = k := nI_clamp (by omega)
  have hin : vp_in (nI k) 363 := vp_in_nI hk (by decide)
  have lo : ∀ x : Int32, x ≤ -50000 → x.toInt ≤ -50000 := fun x hx => by
    have := Int32.le_iff_toInt_le.mp hx
    rw [aa_m5e4] at this
    exact this
  unfold wpY_offer
  dsimp only
  rw [cl]
  refine ⟨hin, br_c (fun h1 => ?_) (fun h1 => ⟨hin, fun a ea => ⟨hin, fun b eb => ?_⟩⟩)⟩
  · unfold wY_offer_24
    rw [cl]
    refine ⟨hin, br_c (fun h2 => br_c (fun h3 => ?_) (fun h3 => ⟨hin, hin, fun b eb => ?_⟩)) (fun h2 => ?_)⟩
    · exact hp sc cn (aa_Eq_r _ _) (aa_Eq_r _ _) (aa_x_low hu h hM h1 (lo _ h3))
    · subst eb
      refine hp sc _ (aa_Eq_r _ _) (aa_Eq_u _ _ _) ?_
      rw [pk_us]
      exact aa_x_eq hu h hM h2
    · exact hp sc cn (aa_Eq_r _ _) (aa_Eq_r _ _) (aa_x_keep hu h hM h1 h2)
  · subst ea eb
    unfold wY_offer_24
    rw [cl, pk_us]
    refine ⟨hin, br_t rfl (br_c (fun h3 => ?_) (fun h3 => ⟨hin, hin, fun b eb => ?_⟩))⟩
    · refine hp _ _ (aa_Eq_u _ _ _) (aa_Eq_u _ _ _) ?_
      rw [pk_us, pk_us]
      exact aa_x_new0 hu h hM h1 (lo _ h3)
    · subst eb
      refine hp _ _ (aa_Eq_u _ _ _) (aa_Eq_t (aa_Eq_u k cn 0) (aa_Eq_u _ _ _)) ?_
      rw [pk_us, pk_us, pk_us]
      exact aa_x_new hu h hM h1
theorem ay_off {s w c : Int32} {N : Int → Nat} {u u' : Int} {q : Nat} (hr : aa_Ru ge gu op le) (hq : q ≤ 10) (h : aa_XC N u s w) (hb : ∀ v, N v ≠ 0 → -400 ≤ v ∧ v ≤ 400) (hu : u ≤ u') (hu' : u ≤ -60000) (e : c = s - op - nI q * le) : aa_OX (fun v => N (v + op.toInt + (q : Int) * le.toInt)) u' c w := by
  obtain ⟨_, _, r1, r2⟩ := hr
  have ql := aa_ql hq r2.1 r2.2
  have mu := aa_mul hq r2.1 r2.2
  have sb : -100000 ≤ s.toInt ∧ s.toInt ≤ 1000 := by
    rcases h.1 with z | z
    · omega
    · omega
  have s1 : (s - op).toInt = s.toInt - op.toInt := aa_sub (by omega) (by omega)
  have e' : c.toInt = s.toInt - (op.toInt + (q : Int) * le.toInt) := by
    rw [e, aa_sub (by omega) (by omega), s1, mu]
    omega
  refine aa_OX_c (fun v => ?_) (aa_OX_sh (u' := u') h hb (op.toInt + (q : Int) * le.toInt) (by omega) (by omega) e')
  rw [Int.add_assoc]
theorem ay_f198 {post : SY → Prop} {N : Int → Nat} {i j a : Nat} (hr : aa_Ru ge gu op le) (hn : n ≤ 10) (hm : m ≤ 10) (hi : i ≤ n) (hj : j ≤ m) (ha : a < 3) (hp : ∀ sc' cn' : Nat → Int32, aa_Eq (aa_y i j a) sc sc' → aa_Eq (aa_y i j a) cn cn' → aa_XC (fun v => N v + (if a = 2 then 0 else aa_rn le.toInt (fun k w => aa_S (aa_g ge gu lt) op.toInt le.toInt n m en i (j + k) 2 w) (m - j) (v + op.toInt))) (aa_u i) (sc' (aa_y i j a)) (cn' (aa_y i j a)) → post (ge, gu, op, le, lt, ct, sc', cn')) : ∀ (d q : Nat) (sc' cn' : Nat → Int32), 1 ≤ q → j + q + d = m + 1 → aa_Eq (aa_y i j a) sc sc' → aa_Eq (aa_y i j a) cn cn' → (∀ k, 1 ≤ k → j + k ≤ m → aa_Y (aa_g ge gu lt) op.toInt le.toInt n m en sc cn i (j + k) 2) → aa_XC (fun v => N v + (if a = 2 then 0 else aa_rn le.toInt (fun k w => aa_S (aa_g ge gu lt) op.toInt le.toInt n m en i (j + k) 2 w) (q - 1) (v + op.toInt))) (aa_u i) (sc' (aa_y i j a)) (cn' (aa_y i j a)) → wY_fill_198 post (nI i) (nI j) (nI a) (nI m) (nI (aa_y i j a)) (d + 1) (nI q) ge gu op le lt ct sc' cn' := by
  intro d
  induction d with
  | zero =>
    intro q sc' cn' hq hd e1 e2 hC hX
    rw [wY_fill_198]
    dsimp only
    rw [nI_add]
    refine pk_eq a 2 (fun z => hp sc' cn' e1 e2 (aa_XC_c (fun v => ?_) hX)) (fun z => pk_lt m (j + q) (fun z' => hp sc' cn' e1 e2 (aa_XC_c (fun v => ?_) hX)) (fun z' => by omega))
    · rw [if_pos z, if_pos z]
    · rw [show q - 1 = m - j by omega]
  | succ d ih =>
    intro q sc' cn' hq hd e1 e2 hC hX
    rw [wY_fill_198]
    dsimp only
    rw [nI_add, ai_y2, nI_1]
    refine pk_eq a 2 (fun z => hp sc' cn' e1 e2 (aa_XC_c (fun v => ?_) hX)) (fun z => pk_lt m (j + q) (fun z' => by omega) (fun z' => ?_))
    · rw [if_pos z, if_pos z]
    · intro x hx
      subst hx
      have cl : (nI ((i * 11 + (j + q)) * 3 + 2)).toNatClampNeg = aa_y i (j + q) 2 := nI_clamp (by omega)
      have hin : vp_in (nI ((i * 11 + (j + q)) * 3 + 2)) 363 := vp_in_nI (by omega) (by decide)
      refine ⟨hin, hin, ?_⟩
      rw [cl]
      have hcell := hC q hq (by omega)
      unfold aa_Y at hcell
      rw [← e1 _ (aa_y_ne (i := i) (j := j + q) (a := 2) (by omega) (by omega) (by decide) ha (by omega)), ← e2 _ (aa_y_ne (i := i) (j := j + q) (a := 2) (by omega) (by omega) (by decide) ha (by omega))] at hcell
      have ui : aa_u i ≤ -60000 := by unfold aa_u; omega
      refine ay_offer ui (aa_y_b (by omega) (by omega) ha) hX (ay_off hr (by omega) hcell (fun v hv => ay_S_b hr hn hm hi (by omega) (by decide) v hv) (Int.le_refl _) ui rfl) fun sc2 cn2 a1 a2 a3 => ?_
      intro x hx
      rw [hx]
      refine ih (q + 1) sc2 cn2 (by omega) (by omega) (aa_Eq_t e1 a1) (aa_Eq_t e2 a2) hC (aa_XC_c (fun v => ?_) a3)
      rw [if_neg z, if_neg z]
      obtain ⟨q', rfl⟩ : ∃ q', q = q' + 1 := ⟨q - 1, by omega⟩
      exact Nat.add_assoc _ _ _
theorem ay_f127 {post : SY → Prop} {N : Int → Nat} {i j a : Nat} (hr : aa_Ru ge gu op le) (hn : n ≤ 10) (hm : m ≤ 10) (hi : i ≤ n) (hj : j ≤ m) (ha : a < 3) (hp : ∀ sc' cn' : Nat → Int32, aa_Eq (aa_y i j a) sc sc' → aa_Eq (aa_y i j a) cn cn' → aa_XC (fun v => N v + (if a = 1 then 0 else aa_rn le.toInt (fun k w => aa_S (aa_g ge gu lt) op.toInt le.toInt n m en (i + k) j 1 w) (n - i) (v + op.toInt)) + (if a = 2 then 0 else aa_rn le.toInt (fun k w => aa_S (aa_g ge gu lt) op.toInt le.toInt n m en i (j + k) 2 w) (m - j) (v + op.toInt))) (aa_u i) (sc' (aa_y i j a)) (cn' (aa_y i j a)) → post (ge, gu, op, le, lt, ct, sc', cn')) : ∀ (d q : Nat) (sc' cn' : Nat → Int32), 1 ≤ q → i + q + d = n + 1 → aa_Eq (aa_y i j a) sc sc' → aa_Eq (aa_y i j a) cn cn' → (∀ k, 1 ≤ k → i + k ≤ n → aa_Y (aa_g ge gu lt) op.toInt le.toInt n m en sc cn (i + k) j 1) → (∀ k, 1 ≤ k → j + k ≤ m → aa_Y (aa_g ge gu lt) op.toInt le.toInt n m en sc cn i (j + k) 2) → aa_XC (fun v => N v + (if a = 1 then 0 else aa_rn le.toInt (fun k w => aa_S (aa_g ge gu lt) op.toInt le.toInt n m en (i + k) j 1 w) (q - 1) (v + op.toInt))) (aa_u i) (sc' (aa_y i j a)) (cn' (aa_y i j a)) → wY_fill_127 post (nI i) (nI j) (nI a) (nI n) (nI m) (nI (aa_y i j a)) (d + 1) (nI q) ge gu op le lt ct sc' cn' := by
  have rest : ∀ sc' cn' : Nat → Int32, aa_Eq (aa_y i j a) sc sc' → aa_Eq (aa_y i j a) cn cn' → (∀ k, 1 ≤ k → j + k ≤ m → aa_Y (aa_g ge gu lt) op.toInt le.toInt n m en sc cn i (j + k) 2) → aa_XC (fun v => N v + (if a = 1 then 0 else aa_rn le.toInt (fun k w => aa_S (aa_g ge gu lt) op.toInt le.toInt n m en (i + k) j 1 w) (n - i) (v + op.toInt))) (aa_u i) (sc' (aa_y i j a)) (cn' (aa_y i j a)) → ∃ n198 : Nat, wY_fill_198 post (nI i) (nI j) (nI a) (nI m) (nI (aa_y i j a)) n198 1 ge gu op le lt ct sc' cn' := by
    intro sc' cn' e1 e2 hC2 hX
    refine ⟨m - j + 1, ay_f198 (sc := sc) (cn := cn) (en := en) (N := fun v => N v + (if a = 1 then 0 else aa_rn le.toInt (fun k w => aa_S (aa_g ge gu lt) op.toInt le.toInt n m en (i + k) j 1 w) (n - i) (v + op.toInt))) hr hn hm hi hj ha hp (m - j) 1 sc' cn' (by decide) (by omega) e1 e2 hC2 (aa_XC_c (fun v => ?_) hX)⟩
    simp only [aa_rz, Nat.add_zero]
  intro d
  induction d with
  | zero =>
    intro q sc' cn' hq hd e1 e2 hC1 hC2 hX
    rw [wY_fill_127]
    dsimp only
    rw [nI_add]
    refine pk_eq a 1 (fun z => rest sc' cn' e1 e2 hC2 (aa_XC_c (fun v => ?_) hX)) (fun z => pk_lt n (i + q) (fun z' => rest sc' cn' e1 e2 hC2 (aa_XC_c (fun v => ?_) hX)) (fun z' => by omega))
    · rw [if_pos z, if_pos z]
    · rw [show q - 1 = n - i by omega]
  | succ d ih =>
    intro q sc' cn' hq hd e1 e2 hC1 hC2 hX
    rw [wY_fill_127]
    dsimp only
    rw [ai_y1, nI_add, nI_1]
    refine pk_eq a 1 (fun z => rest sc' cn' e1 e2 hC2 (aa_XC_c (fun v => ?_) hX)) (fun z => pk_lt n (i + q) (fun z' => by omega) (fun z' => ?_))
    · rw [if_pos z, if_pos z]
    · intro x hx
      subst hx
      have cl : (nI (((i + q) * 11 + j) * 3 + 1)).toNatClampNeg = aa_y (i + q) j 1 := nI_clamp (by omega)
      have hin : vp_in (nI (((i + q) * 11 + j) * 3 + 1)) 363 := vp_in_nI (by omega) (by decide)
      refine ⟨hin, hin, ?_⟩
      rw [cl]
      have hcell := hC1 q hq (by omega)
      unfold aa_Y at hcell
      rw [← e1 _ (aa_y_ne (i := i + q) (j := j) (a := 1) (by omega) (by omega) (by decide) ha (by omega)), ← e2 _ (aa_y_ne (i := i + q) (j := j) (a := 1) (by omega) (by omega) (by decide) ha (by omega))] at hcell
      have ui : aa_u i ≤ -60000 := by unfold aa_u; omega
      have uq : aa_u (i + q) ≤ aa_u i := by unfold aa_u; omega
      refine ay_offer ui (aa_y_b (by omega) (by omega) ha) hX (ay_off hr (by omega) hcell (fun v hv => ay_S_b hr hn hm (by omega) hj (by decide) v hv) uq (by omega) rfl) fun sc2 cn2 a1 a2 a3 => ?_
      intro x hx
      rw [hx]
      refine ih (q + 1) sc2 cn2 (by omega) (by omega) (aa_Eq_t e1 a1) (aa_Eq_t e2 a2) hC1 hC2 (aa_XC_c (fun v => ?_) a3)
      rw [if_neg z, if_neg z]
      obtain ⟨q', rfl⟩ : ∃ q', q = q' + 1 := ⟨q - 1, by omega⟩
      exact Nat.add_assoc _ _ _
theorem ay_f67 {post : SY → Prop} {N : Int → Nat} {i j a : Nat} (hr : aa_Ru ge gu op le) (hn : n ≤ 10) (hm : m ≤ 10) (hi : i ≤ n) (hj : j ≤ m) (ha : a < 3) (h0 : i < n → j < m → aa_Y (aa_g ge gu lt) op.toInt le.toInt n m en sc cn (i + 1) (j + 1) 0) (h1 : ∀ k, 1 ≤ k → i + k ≤ n → aa_Y (aa_g ge gu lt) op.toInt le.toInt n m en sc cn (i + k) j 1) (h2 : ∀ k, 1 ≤ k → j + k ≤ m → aa_Y (aa_g ge gu lt) op.toInt le.toInt n m en sc cn i (j + k) 2) (hX : aa_XC N (aa_u i) (sc (aa_y i j a)) (cn (aa_y i j a))) (hp : ∀ sc' cn' : Nat → Int32, aa_Eq (aa_y i j a) sc sc' → aa_Eq (aa_y i j a) cn cn' → aa_XC (fun v => N v + (if i < n ∧ j < m then aa_S (aa_g ge gu lt) op.toInt le.toInt n m en (i + 1) (j + 1) 0 (v - aa_g ge gu lt i j) else 0) + (if a = 1 then 0 else aa_rn le.toInt (fun k w => aa_S (aa_g ge gu lt) op.toInt le.toInt n m en (i + k) j 1 w) (n - i) (v + op.toInt)) + (if a = 2 then 0 else aa_rn le.toInt (fun k w => aa_S (aa_g ge gu lt) op.toInt le.toInt n m en i (j + k) 2 w) (m - j) (v + op.toInt))) (aa_u i) (sc' (aa_y i j a)) (cn' (aa_y i j a)) → post (ge, gu, op, le, lt, ct, sc', cn')) : wY_fill_67 post (nI i) (nI j) (nI a) (nI n) (nI m) (nI (aa_y i j a)) ge gu op le lt ct sc cn := by
  have rest : ∀ sc' cn' : Nat → Int32, aa_Eq (aa_y i j a) sc sc' → aa_Eq (aa_y i j a) cn cn' → aa_XC (fun v => N v + (if i < n ∧ j < m then aa_S (aa_g ge gu lt) op.toInt le.toInt n m en (i + 1) (j + 1) 0 (v - aa_g ge gu lt i j) else 0)) (aa_u i) (sc' (aa_y i j a)) (cn' (aa_y i j a)) → ∃ n127 : Nat, wY_fill_127 post (nI i) (nI j) (nI a) (nI n) (nI m) (nI (aa_y i j a)) n127 1 ge gu op le lt ct sc' cn' := by
    intro sc' cn' e1 e2 hX'
    refine ⟨n - i + 1, ay_f127 (sc := sc) (cn := cn) (en := en) (N := fun v => N v + (if i < n ∧ j < m then aa_S (aa_g ge gu lt) op.toInt le.toInt n m en (i + 1) (j + 1) 0 (v - aa_g ge gu lt i j) else 0)) hr hn hm hi hj ha hp (n - i) 1 sc' cn' (by decide) (by omega) e1 e2 h1 h2 (aa_XC_c (fun v => ?_) hX')⟩
    simp only [aa_rz, Nat.add_zero]
  have skip : ¬ (i < n ∧ j < m) → ∃ n127 : Nat, wY_fill_127 post (nI i) (nI j) (nI a) (nI n) (nI m) (nI (aa_y i j a)) n127 1 ge gu op le lt ct sc cn := by
    intro hz
    refine rest sc cn (aa_Eq_r _ _) (aa_Eq_r _ _) (aa_XC_c (fun v => ?_) hX)
    rw [if_neg hz]
    rfl
  unfold wY_fill_67
  refine pk_le n i (fun z => skip (by omega)) (fun z => pk_le m j (fun z' => skip (by omega)) (fun z' => ?_))
  rw [ai_yd]
  intro x hx
  subst hx
  have cl : (nI (((i + 1) * 11 + (j + 1)) * 3 + 0)).toNatClampNeg = aa_y (i + 1) (j + 1) 0 := nI_clamp (by omega)
  have hin : vp_in (nI (((i + 1) * 11 + (j + 1)) * 3 + 0)) 363 := vp_in_nI (by omega) (by decide)
  refine ⟨hin, ?_⟩
  rw [cl]
  refine ay_gain (by omega) (by omega) ?_
  intro x hx
  refine ⟨hin, ?_⟩
  have hcell := h0 z z'
  unfold aa_Y at hcell
  have ui : aa_u i ≤ -60000 := by unfold aa_u; omega
  have gb := (aa_Ru_s hr lt).1 i j
  have uq : aa_u (i + 1) - -aa_g ge gu lt i j ≤ aa_u i := by unfold aa_u; omega
  have ux : aa_u (i + 1) ≤ -60000 := by unfold aa_u; omega
  have sb : -100000 ≤ (sc (aa_y (i + 1) (j + 1) 0)).toInt ∧ (sc (aa_y (i + 1) (j + 1) 0)).toInt ≤ 1000 := by
    rcases hcell.1 with z | z
    · omega
    · omega
  have ge' : (aa_gv ge gu lt i j).toInt = aa_g ge gu lt i j := rfl
  have ex : x.toInt = (sc (aa_y (i + 1) (j + 1) 0)).toInt - -aa_g ge gu lt i j := by
    rw [hx, aa_add (by omega) (by omega), ge']
    omega
  refine ay_offer (M := fun v => aa_S (aa_g ge gu lt) op.toInt le.toInt n m en (i + 1) (j + 1) 0 (v + -aa_g ge gu lt i j)) ui (aa_y_b (by omega) (by omega) ha) hX (aa_OX_sh hcell (fun v hv => ay_S_b hr hn hm (by omega) (by omega) (by decide) v hv) (-aa_g ge gu lt i j) (by omega) uq ex) fun sc2 cn2 a1 a2 a3 => ?_
  refine rest sc2 cn2 a1 a2 (aa_XC_c (fun v => ?_) a3)
  rw [if_pos ⟨z, z'⟩, Int.sub_eq_add_neg]
theorem ay_f59 {post : SY → Prop} {i j a : Nat} (hr : aa_Ru ge gu op le) (hn : n ≤ 10) (hm : m ≤ 10) (hi : i ≤ n) (hj : j ≤ m) (ha : a < 3) (he : en i j = true) (h0 : i < n → j < m → aa_Y (aa_g ge gu lt) op.toInt le.toInt n m en sc cn (i + 1) (j + 1) 0) (h1 : ∀ k, 1 ≤ k → i + k ≤ n → aa_Y (aa_g ge gu lt) op.toInt le.toInt n m en sc cn (i + k) j 1) (h2 : ∀ k, 1 ≤ k → j + k ≤ m → aa_Y (aa_g ge gu lt) op.toInt le.toInt n m en sc cn i (j + k) 2) (hX : aa_XC (fun _ => 0) (aa_u i) (sc (aa_y i j a)) (cn (aa_y i j a))) (hp : ∀ sc' cn' : Nat → Int32, aa_Eq (aa_y i j a) sc sc' → aa_Eq (aa_y i j a) cn cn' → aa_Y (aa_g ge gu lt) op.toInt le.toInt n m en sc' cn' i j a → post (ge, gu, op, le, lt, ct, sc', cn')) : wY_fill_59 post (nI i) (nI j) (nI a) (nI n) (nI m) (nI (aa_y i j a)) ge gu op le lt ct sc cn := by
  unfold wY_fill_59
  have ui : aa_u i ≤ -60000 := by unfold aa_u; omega
  refine ay_offer (N := fun _ => 0) (M := fun v => if v = 0 then 1 else 0) ui (aa_y_b (by omega) (by omega) ha) hX ?_ fun sc2 cn2 a1 a2 a3 => ?_
  · refine ⟨Or.inr ⟨⟨by decide, fun v hv => ?_⟩, by decide, by decide⟩, by decide⟩
    have hv' : (0 : Int) < v := hv
    exact if_neg (by omega)
  · have kp : ∀ {i' j' a' : Nat}, i' ≤ n → j' ≤ m → a' < 3 → ¬ (i' = i ∧ j' = j ∧ a' = a) → aa_Y (aa_g ge gu lt) op.toInt le.toInt n m en sc cn i' j' a' → aa_Y (aa_g ge gu lt) op.toInt le.toInt n m en sc2 cn2 i' j' a' := by
      intro i' j' a' hi' hj' ha' hne hY
      unfold aa_Y at hY ⊢
      rw [a1 _ (aa_y_ne (by omega) (by omega) ha' ha hne), a2 _ (aa_y_ne (by omega) (by omega) ha' ha hne)]
      exact hY
    refine ay_f67 hr hn hm hi hj ha (fun z z' => kp (by omega) (by omega) (by decide) (by omega) (h0 z z')) (fun k z z' => kp z' hj (by decide) (by omega) (h1 k z z')) (fun k z z' => kp hi z' (by decide) (by omega) (h2 k z z')) a3 fun sc3 cn3 b1 b2 b3 => hp sc3 cn3 (aa_Eq_t a1 b1) (aa_Eq_t a2 b2) (aa_XC_c (fun v => ?_) b3)
    rw [aa_S_run (by omega) hi hj a v]
    congr 3
    by_cases hv : v = 0
    · rw [if_pos hv, if_pos ⟨he, hv⟩]
    · rw [if_neg hv, if_neg (fun z => hv z.2)]
theorem ay_f67e {post : SY → Prop} {i j a : Nat} (hr : aa_Ru ge gu op le) (hn : n ≤ 10) (hm : m ≤ 10) (hi : i ≤ n) (hj : j ≤ m) (ha : a < 3) (he : ¬ en i j = true) (h0 : i < n → j < m → aa_Y (aa_g ge gu lt) op.toInt le.toInt n m en sc cn (i + 1) (j + 1) 0) (h1 : ∀ k, 1 ≤ k → i + k ≤ n → aa_Y (aa_g ge gu lt) op.toInt le.toInt n m en sc cn (i + k) j 1) (h2 : ∀ k, 1 ≤ k → j + k ≤ m → aa_Y (aa_g ge gu lt) op.toInt le.toInt n m en sc cn i (j + k) 2) (hX : aa_XC (fun _ => 0) (aa_u i) (sc (aa_y i j a)) (cn (aa_y i j a))) (hp : ∀ sc' cn' : Nat → Int32, aa_Eq (aa_y i j a) sc sc' → aa_Eq (aa_y i j a) cn cn' → aa_Y (aa_g ge gu lt) op.toInt le.toInt n m en sc' cn' i j a → post (ge, gu, op, le, lt, ct, sc', cn')) : wY_fill_67 post (nI i) (nI j) (nI a) (nI n) (nI m) (nI (aa_y i j a)) ge gu op le lt ct sc cn := by
  refine ay_f67 hr hn hm hi hj ha h0 h1 h2 hX fun sc3 cn3 b1 b2 b3 => hp sc3 cn3 b1 b2 (aa_XC_c (fun v => ?_) b3)
  rw [aa_S_run (by omega) hi hj a v, if_neg (c := en i j = true ∧ v = 0) (fun z => he z.1)]
end
section
variable {ge gu op le : Int32} {ct lt sc cn : Nat → Int32} {n m h : Nat}
theorem ay_fill {post : SY → Prop} {i j a : Nat} (hr : aa_Ru ge gu op le) (hn : n ≤ 10) (hm : m ≤ 10) (hh : h ≤ 2) (hi : i ≤ n) (hj : j ≤ m) (ha : a < 3) (h0 : i < n → j < m → aa_Y (aa_g ge gu lt) op.toInt le.toInt n m (aa_en h n m) sc cn (i + 1) (j + 1) 0) (h1 : ∀ k, 1 ≤ k → i + k ≤ n → aa_Y (aa_g ge gu lt) op.toInt le.toInt n m (aa_en h n m) sc cn (i + k) j 1) (h2 : ∀ k, 1 ≤ k → j + k ≤ m → aa_Y (aa_g ge gu lt) op.toInt le.toInt n m (aa_en h n m) sc cn i (j + k) 2) (hp : ∀ sc' cn' : Nat → Int32, aa_Eq (aa_y i j a) sc sc' → aa_Eq (aa_y i j a) cn cn' → aa_Y (aa_g ge gu lt) op.toInt le.toInt n m (aa_en h n m) sc' cn' i j a → post (ge, gu, op, le, lt, ct, sc', cn')) : wpY_fill post (ge, gu, op, le, lt, ct, sc, cn) (nI i) (nI j) (nI a) (nI n) (nI m) (nI h) := by
  have hk : aa_y i j a < 363 := aa_y_b (by omega) (by omega) ha
  have cl : (nI (aa_y i j a)).toNatClampNeg = aa_y i j a := nI_clamp (by omega)
  have hin : vp_in (nI (aa_y i j a)) 363 := vp_in_nI hk (by decide)
  unfold wpY_fill
  dsimp only
  rw [ai_y]
  intro x hx
  have hx' : x = nI (aa_y i j a) := hx
  subst hx'
  rw [cl]
  refine ⟨hin, fun s es => ⟨hin, fun c ec => ?_⟩⟩
  have E1 : aa_Eq (aa_y i j a) sc s := by rw [es]; exact aa_Eq_u _ _ _
  have E2 : aa_Eq (aa_y i j a) cn c := by rw [ec]; exact aa_Eq_u _ _ _
  have X0 : aa_XC (fun _ => 0) (aa_u i) (s (aa_y i j a)) (c (aa_y i j a)) := by
    rw [es, ec, pk_us, pk_us]
    exact aa_XC_0 (by unfold aa_u; omega)
  have kp : ∀ {i' j' a' : Nat}, i' ≤ n → j' ≤ m → a' < 3 → ¬ (i' = i ∧ j' = j ∧ a' = a) → aa_Y (aa_g ge gu lt) op.toInt le.toInt n m (aa_en h n m) sc cn i' j' a' → aa_Y (aa_g ge gu lt) op.toInt le.toInt n m (aa_en h n m) s c i' j' a' := by
    intro i' j' a' hi' hj' ha' hne hY
    unfold aa_Y at hY ⊢
    rw [E1 _ (aa_y_ne (by omega) (by omega) ha' ha hne), E2 _ (aa_y_ne (by omega) (by omega) ha' ha hne)]
    exact hY
  have b : aa_en h n m i j = true ↔ ((i = n ∧ j = m) ∨ h = 1 ∨ (h = 2 ∧ i = n)) := decide_eq_true_iff
  have yes : ((i = n ∧ j = m) ∨ h = 1 ∨ (h = 2 ∧ i = n)) → wY_fill_59 post (nI i) (nI j) (nI a) (nI n) (nI m) (nI (aa_y i j a)) ge gu op le lt ct s c := fun z => ay_f59 hr hn hm hi hj ha (b.mpr z) (fun z z' => kp (by omega) (by omega) (by decide) (by omega) (h0 z z')) (fun k z z' => kp z' hj (by decide) (by omega) (h1 k z z')) (fun k z z' => kp hi z' (by decide) (by omega) (h2 k z z')) X0 (fun sc' cn' e1 e2 e3 => hp sc' cn' (aa_Eq_t E1 e1) (aa_Eq_t E2 e2) e3)
  have no : ¬ ((i = n ∧ j = m) ∨ h = 1 ∨ (h = 2 ∧ i = n)) → wY_fill_67 post (nI i) (nI j) (nI a) (nI n) (nI m) (nI (aa_y i j a)) ge gu op le lt ct s c := fun z => ay_f67e hr hn hm hi hj ha (fun y => z (b.mp y)) (fun z z' => kp (by omega) (by omega) (by decide) (by omega) (h0 z z')) (fun k z z' => kp z' hj (by decide) (by omega) (h1 k z z')) (fun k z z' => kp hi z' (by decide) (by omega) (h2 k z z')) X0 (fun sc' cn' e1 e2 e3 => hp sc' cn' (aa_Eq_t E1 e1) (aa_Eq_t E2 e2) e3)
  have mid : ¬ (i = n ∧ j = m) → wY_fill_41 post (nI i) (nI j) (nI a) (nI n) (nI m) (nI h) (nI (aa_y i j a)) ge gu op le lt ct s c := by
    intro z
    unfold wY_fill_41
    exact pk_eq h 1 (fun e => yes (by omega)) (fun e => pk_eq h 2 (fun e1 => pk_eq i n (fun e2 => yes (by omega)) (fun e2 => no (by omega))) (fun e1 => no (by omega)))
  exact pk_eq i n (fun e => pk_eq j m (fun e1 => yes (by omega)) (fun e1 => mid (by omega))) (fun e => mid (by omega))
end
/-- the cells behind are filled -/
def aa_Ky (g : Nat → Nat → Int) (o l : Int) (n m : Nat) (en : Nat → Nat → Bool) (sc cn : Nat → Int32) (i c : Nat) : Prop := ∀ p q b, p ≤ n → q ≤ m → b < 3 → (i < p ∨ (p = i ∧ c ≤ 3 * q + b)) → aa_Y g o l n m en sc cn p q b
section
variable {ge gu op le : Int32} {ct lt : Nat → Int32} {n m h : Nat}
theorem ay_w17 {post : SY → Prop} {J : Int32 → Int32 → Int32 → Int32 → Int32 → (Nat → Int32) → (Nat → Int32) → (Nat → Int32) → (Nat → Int32) → Prop} {i : Nat} (hr : aa_Ru ge gu op le) (hn : n ≤ 10) (hm : m ≤ 10) (hh : h ≤ 2) (hi : i ≤ n) (hp : ∀ sc cn : Nat → Int32, aa_Ky (aa_g ge gu lt) op.toInt le.toInt n m (aa_en h n m) sc cn i 0 → J (nI i + (-1)) ge gu op le lt ct sc cn) : ∀ (d : Nat) (sc cn : Nat → Int32), d ≤ (m + 1) * 3 → aa_Ky (aa_g ge gu lt) op.toInt le.toInt n m (aa_en h n m) sc cn i d → wY_work_17 post J (nI n) (nI m) (nI h) (nI i) (d + 1) (nI d + (-1)) ge gu op le lt ct sc cn := by
  intro d
  induction d with
  | zero =>
    intro sc cn hd hK
    rw [wY_work_17]
    dsimp only
    refine br_t (by decide) fun x hx => ?_
    rw [hx]
    exact hp sc cn hK
  | succ d ih =>
    intro sc cn hd hK
    have q1 : nI d / 3 = nI (d / 3) := pk_div (d := 3) (by omega) (by decide) (by decide)
    have q2 : nI d - nI d / 3 * 3 = nI (d % 3) := pk_rem (d := 3) (by omega) (by decide) (by decide)
    rw [wY_work_17]
    dsimp only
    rw [pk_m1, q2, q1]
    refine br_f (nI_pos (by omega)) ⟨by decide, by decide, ?_⟩
    refine ay_fill hr hn hm hh hi (by omega) (by omega) (fun z z' => hK _ _ _ (by omega) (by omega) (by decide) (by omega)) (fun k z z' => hK _ _ _ z' (by omega) (by decide) (by omega)) (fun k z z' => hK _ _ _ hi z' (by decide) (by omega)) fun sc2 cn2 a1 a2 a3 => ?_
    intro x hx
    rw [hx]
    refine ih sc2 cn2 (by omega) fun p q b hp hq hb hpq => ?_
    by_cases e : p = i ∧ q = d / 3 ∧ b = d % 3
    · obtain ⟨rfl, rfl, rfl⟩ := e
      exact a3
    · have := hK p q b hp hq hb (by omega)
      unfold aa_Y at this ⊢
      rw [a1 _ (aa_y_ne (by omega) (by omega) hb (by omega) e), a2 _ (aa_y_ne (by omega) (by omega) hb (by omega) e)]
      exact this
theorem ay_w3 {post : SY → Prop} (hr : aa_Ru ge gu op le) (hn : n ≤ 10) (hm : m ≤ 10) (hh : h ≤ 2) (hp : ∀ sc cn : Nat → Int32, (∀ p q b, p ≤ n → q ≤ m → b < 3 → aa_Y (aa_g ge gu lt) op.toInt le.toInt n m (aa_en h n m) sc cn p q b) → post (ge, gu, op, le, lt, ct, sc, cn)) : ∀ (d : Nat) (sc cn : Nat → Int32), d ≤ n + 1 → aa_Ky (aa_g ge gu lt) op.toInt le.toInt n m (aa_en h n m) sc cn d 0 → wY_work_3 post (nI n) (nI m) (nI h) (d + 1) (nI d + (-1)) ge gu op le lt ct sc cn := by
  intro d
  induction d with
  | zero =>
    intro sc cn hd hK
    rw [wY_work_3]
    dsimp only
    exact br_t (by decide) (hp sc cn fun p q b hp hq hb => hK p q b hp hq hb (by omega))
  | succ d ih =>
    intro sc cn hd hK
    have q1 : (nI m + 1) * 3 - 1 = nI ((m + 1) * 3) + (-1) := by
      rw [nI_1, show (3 : Int32) = nI 3 from rfl, pk_mul]
      exact Int32.sub_eq_add_neg _ _
    rw [wY_work_3]
    dsimp only
    rw [pk_m1, q1]
    refine br_f (nI_pos (by omega)) fun x hx => ⟨(m + 1) * 3 + 1, ?_⟩
    rw [hx]
    exact ay_w17 hr hn hm hh (by omega) (fun sc' cn' hK' => ih sc' cn' (by omega) hK') ((m + 1) * 3) sc cn (by omega) fun p q b hp hq hb hpq => hK p q b hp hq hb (by omega)
theorem ay_work {post : SY → Prop} {sc cn : Nat → Int32} (hr : aa_Ru ge gu op le) (hn : n ≤ 10) (hm : m ≤ 10) (hh : h ≤ 2) (hp : ∀ sc cn : Nat → Int32, (∀ p q b, p ≤ n → q ≤ m → b < 3 → aa_Y (aa_g ge gu lt) op.toInt le.toInt n m (aa_en h n m) sc cn p q b) → post (ge, gu, op, le, lt, ct, sc, cn)) : wpY_work post (ge, gu, op, le, lt, ct, sc, cn) (nI n) (nI m) (nI h) := by
  unfold wpY_work
  dsimp only
  refine ⟨n + 1 + 1, ?_⟩
  rw [← pk_m1 n]
  have e : nI (n + 1) + (-1) = nI n := pk_m1 n
  have := ay_w3 (post := post) (ct := ct) hr hn hm hh hp (n + 1) sc cn (by omega) fun p q b hp hq hb hpq => by omega
  rw [e] at this ⊢
  exact this
end
end
section
/-! the reference's walk along the first best alignment -/
def aa_AY (ge gu op le : Int32) (lt : Nat → Int32) (n m h : Nat) (sc cn : Nat → Int32) : Prop := ∀ p q b, p ≤ n → q ≤ m → b < 3 → aa_Y (aa_g ge gu lt) op.toInt le.toInt n m (aa_en h n m) sc cn p q b
section
variable {ge gu op le : Int32} {ct lt sc cn : Nat → Int32} {n m : Nat}
theorem ay_off2 {s c : Int32} {N : Int → Nat} {u u' : Int} {q : Nat} (hr : aa_Ru ge gu op le) (hq : q ≤ 10) (h : aa_WC N u s.toInt) (hb : ∀ v, N v ≠ 0 → -400 ≤ v ∧ v ≤ 400) (hu : u ≤ u') (hu' : u ≤ -60000) (e : c = s - nI q * le) : aa_OC (fun v => N (v + (q : Int) * le.toInt)) u' c.toInt := by
  obtain ⟨_, _, r1, r2⟩ := hr
  have ql := aa_ql hq r2.1 r2.2
  have mu := aa_mul hq r2.1 r2.2
  have sb : -100000 ≤ s.toInt ∧ s.toInt ≤ 1000 := by
    rcases h with z | z
    · omega
    · omega
  have e' : c.toInt = s.toInt - (q : Int) * le.toInt := by
    rw [e, aa_sub (by omega) (by omega), mu]
  rw [e']
  exact aa_OC_sh h hb _ (by omega) (by omega)
theorem ay_r86 {post : Int32 → Prop} {i j : Nat} (hr : aa_Ru ge gu op le) (hn : n ≤ 10) (hm : m ≤ 10) (h1 : ct 1 = nI m) (hi : i ≤ n) (hj : j ≤ m) (hA : aa_AY ge gu op le lt n m 0 sc cn) (hp : ∀ y : Int32, aa_WC (fun v => aa_S (aa_g ge gu lt) op.toInt le.toInt n m (aa_en 0 n m) i j 2 v + aa_rn le.toInt (fun k w => aa_S (aa_g ge gu lt) op.toInt le.toInt n m (aa_en 0 n m) i (j + k) 2 w) (m - j) v) (aa_u i) y.toInt → post y) : ∀ (d q : Nat) (x : Int32), 1 ≤ q → j + q + d = m + 1 → aa_WC (fun v => aa_S (aa_g ge gu lt) op.toInt le.toInt n m (aa_en 0 n m) i j 2 v + aa_rn le.toInt (fun k w => aa_S (aa_g ge gu lt) op.toInt le.toInt n m (aa_en 0 n m) i (j + k) 2 w) (q - 1) v) (aa_u i) x.toInt → wY_rest_86 post (nI i) (nI j) (nI 2) ge gu op le lt ct sc cn (d + 1) x (nI q) := by
  intro d
  induction d with
  | zero =>
    intro q x hq hd hX
    rw [wY_rest_86]
    dsimp only
    rw [nI_add, h1]
    refine br_t rfl (br_t (nI_lt (by omega) (by omega)) (hp x ?_))
    rw [show m - j = q - 1 by omega]
    exact hX
  | succ d ih =>
    intro q x hq hd hX
    have cl : (nI ((i * 11 + (j + q)) * 3 + 2)).toNatClampNeg = aa_y i (j + q) 2 := nI_clamp (by omega)
    have hin : vp_in (nI ((i * 11 + (j + q)) * 3 + 2)) 363 := vp_in_nI (by omega) (by decide)
    rw [wY_rest_86]
    dsimp only
    rw [nI_add, ai_y2, h1, cl, nI_1]
    refine br_t rfl (br_f (nI_nlt (by omega) (by omega)) ⟨hin, fun c hc => ?_⟩)
    have ui : aa_u i ≤ -60000 := by unfold aa_u; omega
    have hcell := hA i (j + q) 2 hi (by omega) (by decide)
    have oc := ay_off2 hr (by omega) hcell.1 (fun v hv => ay_S_b hr hn hm hi (by omega) (by decide) v hv) (Int.le_refl _) ui hc
    have fe : ∀ v, (aa_S (aa_g ge gu lt) op.toInt le.toInt n m (aa_en 0 n m) i j 2 v + aa_rn le.toInt (fun k w => aa_S (aa_g ge gu lt) op.toInt le.toInt n m (aa_en 0 n m) i (j + k) 2 w) (q - 1) v) + aa_S (aa_g ge gu lt) op.toInt le.toInt n m (aa_en 0 n m) i (j + q) 2 (v + (q : Int) * le.toInt) = aa_S (aa_g ge gu lt) op.toInt le.toInt n m (aa_en 0 n m) i j 2 v + aa_rn le.toInt (fun k w => aa_S (aa_g ge gu lt) op.toInt le.toInt n m (aa_en 0 n m) i (j + k) 2 w) (q + 1 - 1) v := by
      intro v
      obtain ⟨q', rfl⟩ : ∃ q', q = q' + 1 := ⟨q - 1, by omega⟩
      exact Nat.add_assoc _ _ _
    refine br_c (fun e => fun y hy => ?_) (fun e => fun y hy => ?_)
    · rw [hy]
      exact ih (q + 1) x (by omega) (by omega) (aa_WC_c fe (aa_WC_le ui hX oc (Int32.le_iff_toInt_le.mp e)))
    · rw [hy]
      exact ih (q + 1) c (by omega) (by omega) (aa_WC_c fe (aa_WC_gt ui hX oc (aa_gt e)))
theorem ay_r20 {post : Int32 → Prop} {i j : Nat} (hr : aa_Ru ge gu op le) (hn : n ≤ 10) (hm : m ≤ 10) (h0 : ct 0 = nI n) (hi : i ≤ n) (hj : j ≤ m) (hA : aa_AY ge gu op le lt n m 0 sc cn) (hp : ∀ y : Int32, aa_WC (fun v => aa_S (aa_g ge gu lt) op.toInt le.toInt n m (aa_en 0 n m) i j 1 v + aa_rn le.toInt (fun k w => aa_S (aa_g ge gu lt) op.toInt le.toInt n m (aa_en 0 n m) (i + k) j 1 w) (n - i) v) (aa_u i) y.toInt → post y) : ∀ (d q : Nat) (x : Int32), 1 ≤ q → i + q + d = n + 1 → aa_WC (fun v => aa_S (aa_g ge gu lt) op.toInt le.toInt n m (aa_en 0 n m) i j 1 v + aa_rn le.toInt (fun k w => aa_S (aa_g ge gu lt) op.toInt le.toInt n m (aa_en 0 n m) (i + k) j 1 w) (q - 1) v) (aa_u i) x.toInt → wY_rest_20 post (nI i) (nI j) (nI 1) ge gu op le lt ct sc cn (d + 1) x (nI q) := by
  intro d
  induction d with
  | zero =>
    intro q x hq hd hX
    rw [wY_rest_20]
    dsimp only
    rw [nI_add, h0]
    refine br_t rfl (br_t (nI_lt (by omega) (by omega)) ⟨1, ?_⟩)
    rw [wY_rest_86]
    dsimp only
    refine br_f (by decide) (hp x ?_)
    rw [show n - i = q - 1 by omega]
    exact hX
  | succ d ih =>
    intro q x hq hd hX
    have cl : (nI (((i + q) * 11 + j) * 3 + 1)).toNatClampNeg = aa_y (i + q) j 1 := nI_clamp (by omega)
    have hin : vp_in (nI (((i + q) * 11 + j) * 3 + 1)) 363 := vp_in_nI (by omega) (by decide)
    rw [wY_rest_20]
    dsimp only
    rw [ai_y1, nI_add, h0, cl, nI_1]
    refine br_t rfl (br_f (nI_nlt (by omega) (by omega)) ⟨hin, fun c hc => ?_⟩)
    have ui : aa_u i ≤ -60000 := by unfold aa_u; omega
    have uq : aa_u (i + q) ≤ aa_u i := by unfold aa_u; omega
    have hcell := hA (i + q) j 1 (by omega) hj (by decide)
    have oc := ay_off2 hr (by omega) hcell.1 (fun v hv => ay_S_b hr hn hm (by omega) hj (by decide) v hv) uq (by omega) hc
    have fe : ∀ v, (aa_S (aa_g ge gu lt) op.toInt le.toInt n m (aa_en 0 n m) i j 1 v + aa_rn le.toInt (fun k w => aa_S (aa_g ge gu lt) op.toInt le.toInt n m (aa_en 0 n m) (i + k) j 1 w) (q - 1) v) + aa_S (aa_g ge gu lt) op.toInt le.toInt n m (aa_en 0 n m) (i + q) j 1 (v + (q : Int) * le.toInt) = aa_S (aa_g ge gu lt) op.toInt le.toInt n m (aa_en 0 n m) i j 1 v + aa_rn le.toInt (fun k w => aa_S (aa_g ge gu lt) op.toInt le.toInt n m (aa_en 0 n m) (i + k) j 1 w) (q + 1 - 1) v := by
      intro v
      obtain ⟨q', rfl⟩ : ∃ q', q = q' + 1 := ⟨q - 1, by omega⟩
      exact Nat.add_assoc _ _ _
    refine br_c (fun e => fun y hy => ?_) (fun e => fun y hy => ?_)
    · rw [hy]
      exact ih (q + 1) x (by omega) (by omega) (aa_WC_c fe (aa_WC_le ui hX oc (Int32.le_iff_toInt_le.mp e)))
    · rw [hy]
      exact ih (q + 1) c (by omega) (by omega) (aa_WC_c fe (aa_WC_gt ui hX oc (aa_gt e)))
theorem ay_rest {post : Int32 → Prop} {i j a : Nat} (hr : aa_Ru ge gu op le) (hn : n ≤ 10) (hm : m ≤ 10) (h0 : ct 0 = nI n) (h1 : ct 1 = nI m) (hi : i ≤ n) (hj : j ≤ m) (ha : a < 3) (hA : aa_AY ge gu op le lt n m 0 sc cn) (hp : ∀ r : Int32, aa_WC (aa_B (aa_g ge gu lt) op.toInt le.toInt n m (aa_en 0 n m) i j a) (-200000) r.toInt → post r) : wpY_rest post (ge, gu, op, le, lt, ct, sc, cn) (nI i) (nI j) (nI a) := by
  have hs : n + m ≤ 20 := by omega
  have ne := aa_B_n (g := aa_g ge gu lt) (o := op.toInt) (l := le.toInt) (h := 0) hs hi hj ha
  have cl : (nI ((i * 11 + j) * 3 + a)).toNatClampNeg = aa_y i j a := nI_clamp (by omega)
  have hin : vp_in (nI ((i * 11 + j) * 3 + a)) 363 := vp_in_nI (by omega) (by decide)
  have hc := (hA i j a hi hj ha).1
  unfold wpY_rest
  dsimp only
  rw [ai_y, cl]
  refine ⟨hin, fun x hx => ?_⟩
  rw [← hx] at hc
  obtain rfl | rfl | rfl : a = 0 ∨ a = 1 ∨ a = 2 := by omega
  · refine ⟨1, ?_⟩
    rw [wY_rest_20]
    dsimp only
    refine br_f (by decide) ⟨1, ?_⟩
    rw [wY_rest_86]
    dsimp only
    exact br_f (by decide) (hp x (aa_WC_r (aa_WC_c (fun v => aa_S_0 hs i j v) hc) ne))
  · refine ⟨n - i + 1, ay_r20 hr hn hm h0 hi hj hA (fun y hy => hp y (aa_WC_r (aa_WC_c (fun v => ?_) hy) ne)) (n - i) 1 x (by decide) (by omega) hc⟩
    rw [aa_S_1 hs, aa_run1 hs j (n - i) i v (by omega)]
  · refine ⟨1, ?_⟩
    rw [wY_rest_20]
    dsimp only
    refine br_f (by decide) ⟨m - j + 1, ay_r86 hr hn hm h1 hi hj hA (fun y hy => hp y (aa_WC_r (aa_WC_c (fun v => ?_) hy) ne)) (m - j) 1 x (by decide) (by omega) hc⟩
    rw [aa_S_2 hs, aa_run2 hs i (m - j) j v (by omega)]
end
section
variable {ge gu op le : Int32} {ct lt sc cn bh : Nat → Int32} {n m : Nat}
/-- the reference's rest is what the component's table holds -/
theorem ay_restb {post : Int32 → Prop} {i j a : Nat} (hr : aa_Ru ge gu op le) (hn : n ≤ 10) (hm : m ≤ 10) (h0 : ct 0 = nI n) (h1 : ct 1 = nI m) (hi : i ≤ n) (hj : j ≤ m) (ha : a < 3) (hA : aa_AY ge gu op le lt n m 0 sc cn) (hO : aa_OK ge gu op le lt bh n m) (hp : post (bh (121 * a + (11 * i + j)))) : wpY_rest post (ge, gu, op, le, lt, ct, sc, cn) (nI i) (nI j) (nI a) := by
  refine ay_rest hr hn hm h0 h1 hi hj ha hA fun r hw => ?_
  have e : r = bh (121 * a + (11 * i + j)) := Int32.toInt_inj.mp (aa_Bs_u (aa_WC_rr hw).1 (aa_WC_rr (hO i j hi hj a ha)).1)
  rw [e]
  exact hp
theorem ay_s76 {post : Int32 → Prop} {i j a : Nat} (hr : aa_Ru ge gu op le) (hn : n ≤ 10) (hm : m ≤ 10) (h0 : ct 0 = nI n) (h1 : ct 1 = nI m) (hi : i ≤ n) (hj : j ≤ m) (ha : a < 3) (hA : aa_AY ge gu op le lt n m 0 sc cn) (hO : aa_OK ge gu op le lt bh n m) (hp : post (nI (if aa_wcv ge gu op le lt bh n m i j a 1 = bh (121 * a + (11 * i + j)) then 1 else 2))) : wY_sort_76 post (nI i) (nI j) (nI a) (nI n) (bh (121 * a + (11 * i + j))) ge gu op le lt ct sc cn := by
  have key : ∀ z, le + z = aa_cv op le a 1 → wY_sort_93 post (nI i) (nI j) (nI n) (bh (121 * a + (11 * i + j))) z le ge gu op le lt ct sc cn := by
    intro z hz
    unfold wY_sort_93
    intro x hx
    rw [hz] at hx
    refine pk_le n i (fun e => ?_) (fun e => ?_)
    · have hb := (aa_WC_rr (hO i j hi hj a ha)).2
      have : ¬ aa_wcv ge gu op le lt bh n m i j a 1 = bh (121 * a + (11 * i + j)) := by
        intro hE
        have e1 : aa_wcv ge gu op le lt bh n m i j a 1 = -100000 := if_neg (fun z => by have h := z.1; unfold aa_ni at h; simp at h; omega)
        rw [← hE, e1, aa_m1e5] at hb
        omega
      rw [if_neg this] at hp
      exact hp
    · have e1 : aa_wcv ge gu op le lt bh n m i j a 1 = (0 - aa_cv op le a 1) + bh (121 * 1 + (11 * (i + 1) + j)) := if_pos ⟨by show i + 1 ≤ n; omega, hj⟩
      have e2 : bh (121 * 1 + (11 * (i + 1) + j)) - x = aa_wcv ge gu op le lt bh n m i j a 1 := by
        rw [e1, hx, Int32.zero_sub, Int32.add_comm, Int32.sub_eq_add_neg]
      rw [nI_1]
      refine ay_restb (a := 1) hr hn hm h0 h1 (by omega) hj (by decide) hA hO ?_
      rw [e2]
      refine br_c (fun c => ?_) (fun c => ?_)
      · rw [if_pos c] at hp
        exact hp
      · rw [if_neg c] at hp
        exact hp
  unfold wY_sort_76
  refine pk_eq a 1 (fun e => key 0 ?_) (fun e => key op ?_)
  · rw [Int32.add_zero]
    unfold aa_cv
    rw [if_neg (by decide), if_pos e]
  · unfold aa_cv
    rw [if_neg (by decide), if_neg e, Int32.add_comm]
theorem ay_sort {post : Int32 → Prop} {i j a : Nat} (hr : aa_Ru ge gu op le) (hn : n ≤ 10) (hm : m ≤ 10) (h0 : ct 0 = nI n) (h1 : ct 1 = nI m) (hi : i ≤ n) (hj : j ≤ m) (ha : a < 3) (hA : aa_AY ge gu op le lt n m 0 sc cn) (hO : aa_OK ge gu op le lt bh n m) (hne : ¬ (i = n ∧ j = m)) (hp : post (nI (aa_nx ge gu op le lt bh n m i j a))) : wpY_sort post (ge, gu, op, le, lt, ct, sc, cn) (nI i) (nI j) (nI a) := by
  have go : ¬ aa_wcv ge gu op le lt bh n m i j a 0 = bh (121 * a + (11 * i + j)) → wY_sort_76 post (nI i) (nI j) (nI a) (nI n) (bh (121 * a + (11 * i + j))) ge gu op le lt ct sc cn := by
    intro z
    refine ay_s76 hr hn hm h0 h1 hi hj ha hA hO ?_
    unfold aa_nx at hp
    rw [if_neg z] at hp
    exact hp
  have out : ¬ (i < n ∧ j < m) → wY_sort_76 post (nI i) (nI j) (nI a) (nI n) (bh (121 * a + (11 * i + j))) ge gu op le lt ct sc cn := by
    intro z
    refine go fun hE => ?_
    have hb := (aa_WC_rr (hO i j hi hj a ha)).2
    have e1 : aa_wcv ge gu op le lt bh n m i j a 0 = -100000 := if_neg (fun y => z y)
    rw [← hE, e1, aa_m1e5] at hb
    omega
  have s30 : wY_sort_30 post (nI i) (nI j) (nI a) (nI n) (nI m) ge gu op le lt ct sc cn := by
    unfold wY_sort_30
    refine ay_restb hr hn hm h0 h1 hi hj ha hA hO ?_
    refine pk_le n i (fun e => out (by omega)) (fun e => pk_le m j (fun e' => out (by omega)) (fun e' => ?_))
    rw [nI_1, nI_1]
    refine ay_restb (a := 0) hr hn hm h0 h1 (by omega) (by omega) (by decide) hA hO ?_
    refine ay_gain (by omega) (by omega) ?_
    have e1 : aa_wcv ge gu op le lt bh n m i j a 0 = (aa_gv ge gu lt i j - 0) + bh (121 * 0 + (11 * (i + 1) + (j + 1))) := if_pos ⟨e, e'⟩
    have e2 : bh (121 * 0 + (11 * (i + 1) + (j + 1))) + aa_gv ge gu lt i j = aa_wcv ge gu op le lt bh n m i j a 0 := by
      rw [e1, Int32.sub_zero, Int32.add_comm]
    rw [e2]
    refine br_c (fun c => ?_) (fun c => go c)
    unfold aa_nx at hp
    rw [if_pos c] at hp
    exact hp
  unfold wpY_sort
  dsimp only
  intro x4 e4 x5 e5
  rw [e4, e5, h0, h1]
  exact pk_eq i n (fun e => pk_eq j m (fun e' => absurd ⟨e, e'⟩ hne) (fun e' => s30)) (fun e => s30)
theorem ay_sort1 {post : Int32 → Prop} (hn : n ≤ 10) (hm : m ≤ 10) (h0 : ct 0 = nI n) (h1 : ct 1 = nI m) {x : Int32} (hp : post (-1)) : wpY_sort post (ge, gu, op, le, lt, ct, sc, cn) (nI n) (nI m) x := by
  unfold wpY_sort
  dsimp only
  intro x4 e4 x5 e5
  rw [e4, e5, h0, h1]
  exact br_t rfl (br_t rfl hp)
theorem ay_w15 {post : Int32 → SY → Prop} {K : Nat} {w : Int32} (hr : aa_Ru ge gu op le) (hn : n ≤ 10) (hm : m ≤ 10) (h0 : ct 0 = nI n) (h1 : ct 1 = nI m) (hA : aa_AY ge gu op le lt n m 0 sc cn) (hO : aa_OK ge gu op le lt bh n m) (hK : K ≤ 20) (hE : (aa_tr ge gu op le lt bh n m K).1 = n ∧ (aa_tr ge gu op le lt bh n m K).2.1 = m) (hN : ∀ k, k < K → ¬ ((aa_tr ge gu op le lt bh n m k).1 = n ∧ (aa_tr ge gu op le lt bh n m k).2.1 = m)) (hI : ∀ k, k ≤ K → (aa_tr ge gu op le lt bh n m k).1 ≤ n ∧ (aa_tr ge gu op le lt bh n m k).2.1 ≤ m ∧ (aa_tr ge gu op le lt bh n m k).2.2 < 3) : ∀ (d k : Nat), k + d = K → (∀ k', k ≤ k' → k' < K → nI k' = w → post (nI (aa_tr ge gu op le lt bh n m (k' + 1)).2.2) (ge, gu, op, le, lt, ct, sc, cn)) → ((∀ k', k ≤ k' → k' < K → ¬ nI k' = w) → (0 ≤ w → post (-1000) (ge, gu, op, le, lt, ct, sc, cn)) ∧ (¬ 0 ≤ w → post (nI K) (ge, gu, op, le, lt, ct, sc, cn))) → wY_walk_15 post w ge gu op le lt ct sc cn (d + 1) (nI (aa_tr ge gu op le lt bh n m k).1) (nI (aa_tr ge gu op le lt bh n m k).2.1) (nI (aa_tr ge gu op le lt bh n m k).2.2) (nI k) := by
  intro d
  induction d with
  | zero =>
    intro k hd p1 p2
    obtain rfl : k = K := by omega
    rw [wY_walk_15]
    dsimp only
    rw [hE.1, hE.2]
    refine br_f (nI_ge (b := 21) (by omega) (by decide)) ?_
    refine ay_sort1 hn hm h0 h1 ?_
    refine br_f (by decide) ?_
    exact p2 (fun k' a b => by omega)
  | succ d ih =>
    intro k hd p1 p2
    have b := hI k (by omega)
    have b3 := aa_nx_3 (ge := ge) (gu := gu) (op := op) (le := le) (lt := lt) (bh := bh) (n := n) (m := m) (aa_tr ge gu op le lt bh n m k).1 (aa_tr ge gu op le lt bh n m k).2.1 (aa_tr ge gu op le lt bh n m k).2.2
    rw [wY_walk_15]
    dsimp only
    refine br_f (nI_ge (b := 21) (by omega) (by decide)) ?_
    refine ay_sort (bh := bh) hr hn hm h0 h1 b.1 b.2.1 b.2.2 hA hO (hN k (by omega)) ?_
    refine br_t (nI_pos' (by omega)) ?_
    refine br_c (fun e => p1 k (Nat.le_refl k) (by omega) e) (fun e => ?_)
    have nx := ih (k + 1) (by omega) (fun k' a b e => p1 k' (by omega) b e) (fun h => p2 (fun k' a b => by
      by_cases z : k' = k
      · rw [z]; exact e
      · exact h k' (by omega) b))
    have q1 : (aa_tr ge gu op le lt bh n m (k + 1)).1 = aa_ni (aa_nx ge gu op le lt bh n m (aa_tr ge gu op le lt bh n m k).1 (aa_tr ge gu op le lt bh n m k).2.1 (aa_tr ge gu op le lt bh n m k).2.2) (aa_tr ge gu op le lt bh n m k).1 := rfl
    have q2 : (aa_tr ge gu op le lt bh n m (k + 1)).2.1 = aa_nj (aa_nx ge gu op le lt bh n m (aa_tr ge gu op le lt bh n m k).1 (aa_tr ge gu op le lt bh n m k).2.1 (aa_tr ge gu op le lt bh n m k).2.2) (aa_tr ge gu op le lt bh n m k).2.1 := rfl
    have q3 : (aa_tr ge gu op le lt bh n m (k + 1)).2.2 = aa_nx ge gu op le lt bh n m (aa_tr ge gu op le lt bh n m k).1 (aa_tr ge gu op le lt bh n m k).2.1 (aa_tr ge gu op le lt bh n m k).2.2 := rfl
    rw [q1, q2, q3] at nx
    revert b3 nx
    generalize aa_nx ge gu op le lt bh n m (aa_tr ge gu op le lt bh n m k).1 (aa_tr ge gu op le lt bh n m k).2.1 (aa_tr ge gu op le lt bh n m k).2.2 = s
    intro b3 nx
    unfold wY_walk_68
    unfold aa_ni aa_nj at nx
    refine pk_eq s 2 (fun e => pk_eq s 1 (fun e' => by omega) (fun e' => ?_)) (fun e => ?_)
    · rw [if_pos e, if_neg e'] at nx
      intro y hy z hz
      rw [hy, hz, nI_1, nI_1]
      exact nx
    · intro x hx
      rw [hx]
      refine pk_eq s 1 (fun e' => ?_) (fun e' => ?_)
      · rw [if_neg e, if_pos e'] at nx
        intro z hz
        rw [hz, nI_1, nI_1]
        exact nx
      · rw [if_neg e, if_neg e'] at nx
        intro y hy z hz
        rw [hy, hz, nI_1, nI_1, nI_1]
        exact nx
end
end
section
/-! what both sides answer -/
theorem aa_be0 (p q : Nat) : aa_be 0 p q = true ↔ (p = 0 ∧ q = 0) := by
  unfold aa_be
  rw [decide_eq_true_iff]
  omega
theorem aa_FS {g : Nat → Nat → Int} {o l : Int} {n m : Nat} (h : n + m ≤ 20) (v : Int) : aa_F g o l (aa_be 0) n m 0 v + aa_F g o l (aa_be 0) n m 1 v + aa_F g o l (aa_be 0) n m 2 v = aa_S g o l n m (aa_en 0 n m) 0 0 0 v := by
  rw [aa_S_0 h]
  unfold aa_F aa_B
  rw [aa_fw_0 aa_be0, aa_fw_0 aa_be0, aa_fw_0 aa_be0, aa_bk_0 (aa_en0 n m) 21 0 0 0 v (Nat.zero_le _) (Nat.zero_le _) (by decide)]
theorem aa_S_n {g : Nat → Nat → Int} {o l : Int} {n m h : Nat} (hs : n + m ≤ 20) : ∃ v, aa_S g o l n m (aa_en h n m) 0 0 0 v ≠ 0 := by
  obtain ⟨v, hv⟩ := aa_B_n (g := g) (o := o) (l := l) (h := h) (i := 0) (j := 0) (a := 0) hs (Nat.zero_le _) (Nat.zero_le _) (by decide)
  exact ⟨v, by rw [aa_S_0 hs]; exact hv⟩
/-- the greatest of several tables' scores -/
def aa_MX (u : Int) (A : Int → Prop) (P : Nat → Nat → Prop) (N : Nat → Nat → Int → Nat) (x : Int) : Prop := ∃ T : Int → Nat, aa_WC T u x ∧ ∀ v, T v ≠ 0 ↔ (A v ∨ ∃ p q, P p q ∧ N p q v ≠ 0)
section
variable {u x c : Int} {A : Int → Prop} {P P' : Nat → Nat → Prop} {N : Nat → Nat → Int → Nat}
theorem aa_MX_P (e : ∀ p q, P p q ↔ P' p q) (h : aa_MX u A P N x) : aa_MX u A P' N x := by
  obtain ⟨T, h1, h2⟩ := h
  refine ⟨T, h1, fun v => (h2 v).trans ?_⟩
  simp only [e]
theorem aa_MX_f {p q : Nat} {T : Int → Nat} (h2 : ∀ v, T v ≠ 0 ↔ (A v ∨ ∃ p q, P p q ∧ N p q v ≠ 0)) (e : ∀ p' q', P' p' q' ↔ (P p' q' ∨ (p' = p ∧ q' = q))) (v : Int) : T v + N p q v ≠ 0 ↔ (A v ∨ ∃ p q, P' p q ∧ N p q v ≠ 0) := by
  constructor
  · intro h
    by_cases hT : T v = 0
    · exact Or.inr ⟨p, q, (e p q).mpr (Or.inr ⟨rfl, rfl⟩), by omega⟩
    · rcases (h2 v).mp hT with z | ⟨p', q', hp, hn⟩
      · exact Or.inl z
      · exact Or.inr ⟨p', q', (e p' q').mpr (Or.inl hp), hn⟩
  · rintro (z | ⟨p', q', hp, hn⟩)
    · have := (h2 v).mpr (Or.inl z)
      omega
    · rcases (e p' q').mp hp with z | ⟨rfl, rfl⟩
      · have := (h2 v).mpr (Or.inr ⟨p', q', z, hn⟩)
        omega
      · omega
theorem aa_MX_le (hu : u ≤ -60000) {p q : Nat} (h : aa_MX u A P N x) (hO : aa_OC (N p q) u c) (hc : c ≤ x) (e : ∀ p' q', P' p' q' ↔ (P p' q' ∨ (p' = p ∧ q' = q))) : aa_MX u A P' N x := by
  obtain ⟨T, h1, h2⟩ := h
  exact ⟨fun v => T v + N p q v, aa_WC_le hu h1 hO hc, aa_MX_f h2 e⟩
theorem aa_MX_gt (hu : u ≤ -60000) {p q : Nat} (h : aa_MX u A P N x) (hO : aa_OC (N p q) u c) (hc : x < c) (e : ∀ p' q', P' p' q' ↔ (P p' q' ∨ (p' = p ∧ q' = q))) : aa_MX u A P' N c := by
  obtain ⟨T, h1, h2⟩ := h
  exact ⟨fun v => T v + N p q v, aa_WC_gt hu h1 hO hc, aa_MX_f h2 e⟩
theorem aa_MX_eq {u' x' : Int} {A' : Int → Prop} {N' : Nat → Nat → Int → Nat} (h : aa_MX u A P N x) (h' : aa_MX u' A' P' N' x') (e : ∀ v, (A v ∨ ∃ p q, P p q ∧ N p q v ≠ 0) ↔ (A' v ∨ ∃ p q, P' p q ∧ N' p q v ≠ 0)) (hn : ∃ v, (A' v ∨ ∃ p q, P' p q ∧ N' p q v ≠ 0)) : x = x' := by
  obtain ⟨T, h1, h2⟩ := h
  obtain ⟨T', h1', h2'⟩ := h'
  obtain ⟨v, hv⟩ := hn
  have b' := aa_WC_Bs h1' ⟨v, (h2' v).mpr hv⟩
  have b := aa_WC_Bs h1 ⟨v, (h2 v).mpr ((e v).mpr hv)⟩
  have eq : ∀ w, T w ≠ 0 ↔ T' w ≠ 0 := fun w => ((h2 w).trans (e w)).trans (h2' w).symm
  have z1 : ¬ x < x' := fun z => (eq x').mpr b'.1 (b.2 x' z)
  have z2 : ¬ x' < x := fun z => (eq x).mp b.1 (b'.2 x z)
  omega
end
section
variable {g : Nat → Nat → Int} {o l : Int} {n m : Nat}
theorem aa_FX {be : Nat → Nat → Bool} (p q : Nat) (v : Int) : aa_F g o l be p q 0 v + aa_F g o l be p q 1 v + aa_F g o l be p q 2 v ≠ 0 ↔ ∃ b i j, b < 3 ∧ be i j = true ∧ aa_pc g o l 21 i j 0 p q b v ≠ 0 := by
  have x := fun b => aa_fw_x (g := g) (o := o) (l := l) be 21 p q b v
  unfold aa_F
  constructor
  · intro h
    by_cases h0 : aa_fw g o l be 21 p q 0 v = 0
    · by_cases h1 : aa_fw g o l be 21 p q 1 v = 0
      · obtain ⟨i, j, z⟩ := (x 2).mp (by omega)
        exact ⟨2, i, j, by decide, z⟩
      · obtain ⟨i, j, z⟩ := (x 1).mp h1
        exact ⟨1, i, j, by decide, z⟩
    · obtain ⟨i, j, z⟩ := (x 0).mp h0
      exact ⟨0, i, j, by decide, z⟩
  · rintro ⟨b, i, j, hb, z⟩
    have := (x b).mpr ⟨i, j, z⟩
    obtain rfl | rfl | rfl : b = 0 ∨ b = 1 ∨ b = 2 := by omega
    all_goals omega
theorem aa_SX (hs : n + m ≤ 20) {en : Nat → Nat → Bool} {i j : Nat} (hi : i ≤ n) (hj : j ≤ m) (v : Int) : aa_S g o l n m en i j 0 v ≠ 0 ↔ ∃ p q b, p ≤ n ∧ q ≤ m ∧ b < 3 ∧ en p q = true ∧ aa_pc g o l 21 i j 0 p q b v ≠ 0 := by
  rw [aa_S_0 hs]
  exact aa_bk_x en 21 i j 0 v hi hj (by decide)
theorem aa_pc_le {t i j a p q b : Nat} {v : Int} (h : aa_pc g o l t i j a p q b v ≠ 0) : i ≤ p ∧ j ≤ q := by
  apply Classical.byContradiction
  intro z
  exact h (aa_pc_0 g o l t i j a p q b v (by omega))
theorem aa_q3 (hs : n + m ≤ 20) (v : Int) : (v = 0 ∨ ∃ p q, (p ≤ n ∧ q ≤ m) ∧ aa_F g o l (aa_be 3) p q 0 v + aa_F g o l (aa_be 3) p q 1 v + aa_F g o l (aa_be 3) p q 2 v ≠ 0) ↔ (v = 0 ∨ ∃ p q, (p ≤ n ∧ q ≤ m) ∧ aa_S g o l n m (aa_en 1 n m) p q 0 v ≠ 0) := by
  constructor
  · rintro (h | ⟨p, q, ⟨hp, hq⟩, h⟩)
    · exact Or.inl h
    · obtain ⟨b, i, j, hb, he, hk⟩ := (aa_FX p q v).mp h
      have z := aa_pc_le hk
      exact Or.inr ⟨i, j, ⟨by omega, by omega⟩, (aa_SX hs (by omega) (by omega) v).mpr ⟨p, q, b, hp, hq, hb, by unfold aa_en; rw [decide_eq_true_iff]; omega, hk⟩⟩
  · rintro (h | ⟨i, j, ⟨hi, hj⟩, h⟩)
    · exact Or.inl h
    · obtain ⟨p, q, b, hp, hq, hb, he, hk⟩ := (aa_SX hs hi hj v).mp h
      exact Or.inr ⟨p, q, ⟨hp, hq⟩, (aa_FX p q v).mpr ⟨b, i, j, hb, by unfold aa_be; rw [decide_eq_true_iff]; omega, hk⟩⟩
theorem aa_q1 (hs : n + m ≤ 20) (v : Int) : (False ∨ ∃ p q, (p = n ∧ q < m + 1) ∧ aa_F g o l (aa_be 1) p q 0 v + aa_F g o l (aa_be 1) p q 1 v + aa_F g o l (aa_be 1) p q 2 v ≠ 0) ↔ (aa_S g o l n m (aa_en 2 n m) 0 0 0 v ≠ 0 ∨ ∃ p q, (p = 0 ∧ q < m + 1) ∧ aa_S g o l n m (aa_en 2 n m) p q 0 v ≠ 0) := by
  constructor
  · rintro (h | ⟨p, q, ⟨hp, hq⟩, h⟩)
    · exact h.elim
    · obtain ⟨b, i, j, hb, he, hk⟩ := (aa_FX p q v).mp h
      have z := aa_pc_le hk
      have he' : (1 = 3 ∨ (1 = 1 ∧ i = 0) ∨ (1 = 2 ∧ j = 0) ∨ (1 = 0 ∧ i = 0 ∧ j = 0)) := decide_eq_true_iff.mp he
      exact Or.inr ⟨i, j, ⟨by omega, by omega⟩, (aa_SX hs (by omega) (by omega) v).mpr ⟨p, q, b, by omega, by omega, hb, by unfold aa_en; rw [decide_eq_true_iff]; omega, hk⟩⟩
  · intro h
    have h' : ∃ p q, (p = 0 ∧ q < m + 1) ∧ aa_S g o l n m (aa_en 2 n m) p q 0 v ≠ 0 := h.elim (fun z => ⟨0, 0, ⟨rfl, by omega⟩, z⟩) id
    obtain ⟨i, j, ⟨hi, hj⟩, h⟩ := h'
    obtain ⟨p, q, b, hp, hq, hb, he, hk⟩ := (aa_SX hs (by omega) (by omega) v).mp h
    have he' : ((p = n ∧ q = m) ∨ 2 = 1 ∨ (2 = 2 ∧ p = n)) := decide_eq_true_iff.mp he
    exact Or.inr ⟨p, q, ⟨by omega, by omega⟩, (aa_FX p q v).mpr ⟨b, i, j, hb, by unfold aa_be; rw [decide_eq_true_iff]; omega, hk⟩⟩
theorem aa_q2 (hs : n + m ≤ 20) (v : Int) : (False ∨ ∃ p q, (p = n ∧ q < m + 1) ∧ aa_F g o l (aa_be 2) p q 0 v + aa_F g o l (aa_be 2) p q 1 v + aa_F g o l (aa_be 2) p q 2 v ≠ 0) ↔ (aa_S g o l n m (aa_en 2 n m) 0 0 0 v ≠ 0 ∨ ∃ p q, (q = 0 ∧ p < n + 1) ∧ aa_S g o l n m (aa_en 2 n m) p q 0 v ≠ 0) := by
  constructor
  · rintro (h | ⟨p, q, ⟨hp, hq⟩, h⟩)
    · exact h.elim
    · obtain ⟨b, i, j, hb, he, hk⟩ := (aa_FX p q v).mp h
      have z := aa_pc_le hk
      have he' : (2 = 3 ∨ (2 = 1 ∧ i = 0) ∨ (2 = 2 ∧ j = 0) ∨ (2 = 0 ∧ i = 0 ∧ j = 0)) := decide_eq_true_iff.mp he
      exact Or.inr ⟨i, j, ⟨by omega, by omega⟩, (aa_SX hs (by omega) (by omega) v).mpr ⟨p, q, b, by omega, by omega, hb, by unfold aa_en; rw [decide_eq_true_iff]; omega, hk⟩⟩
  · intro h
    have h' : ∃ p q, (q = 0 ∧ p < n + 1) ∧ aa_S g o l n m (aa_en 2 n m) p q 0 v ≠ 0 := h.elim (fun z => ⟨0, 0, ⟨rfl, by omega⟩, z⟩) id
    obtain ⟨i, j, ⟨hi, hj⟩, h⟩ := h'
    obtain ⟨p, q, b, hp, hq, hb, he, hk⟩ := (aa_SX hs (by omega) (by omega) v).mp h
    have he' : ((p = n ∧ q = m) ∨ 2 = 1 ∨ (2 = 2 ∧ p = n)) := decide_eq_true_iff.mp he
    exact Or.inr ⟨p, q, ⟨by omega, by omega⟩, (aa_FX p q v).mpr ⟨b, i, j, hb, by unfold aa_be; rw [decide_eq_true_iff]; omega, hk⟩⟩
end
/-- the three sorts of a cell together -/
def aa_F3 (ge gu op le : Int32) (lt : Nat → Int32) (h p q : Nat) (v : Int) : Nat := aa_F (aa_g ge gu lt) op.toInt le.toInt (aa_be h) p q 0 v + aa_F (aa_g ge gu lt) op.toInt le.toInt (aa_be h) p q 1 v + aa_F (aa_g ge gu lt) op.toInt le.toInt (aa_be h) p q 2 v
def aa_S0 (ge gu op le : Int32) (lt : Nat → Int32) (n m h p q : Nat) (v : Int) : Nat := aa_S (aa_g ge gu lt) op.toInt le.toInt n m (aa_en h n m) p q 0 v
/-- the component's table from the front is right -/
def aa_AX (ge gu op le : Int32) (lt : Nat → Int32) (n m h : Nat) (fr fw : Nat → Int32) : Prop := ∀ p q, p ≤ n → q ≤ m → aa_C3 fr fw (11 * p + q) (aa_F (aa_g ge gu lt) op.toInt le.toInt (aa_be h) p q)
section
variable {ge gu op le fd cc : Int32} {ct lt fr fw bh so sc cn : Nat → Int32} {n m h : Nat}
theorem ax_bestA {post : Int32 → Prop} {i j : Nat} (hn : n ≤ 10) (hm : m ≤ 10) (hi : i ≤ n) (hj : j ≤ m) (hA : aa_AX ge gu op le lt n m h fr fw) (hp : ∀ r : Int32, aa_OC (aa_F3 ge gu op le lt h i j) (-100000) r.toInt → post r) : wpX_bestAt post (ge, gu, op, le, fd, cc, ct, lt, fr, fw, bh, so) (nI i) (nI j) := ax_bestAt (by omega) (by omega) (hA i j hi hj) fun r hw => hp r (aa_WC_O hw)
theorem ay_cell {i j : Nat} (hi : i ≤ n) (hj : j ≤ m) (hA : aa_AY ge gu op le lt n m h sc cn) : aa_OC (aa_S0 ge gu op le lt n m h i j) (aa_u 0) (sc ((i * 11 + j) * 3)).toInt := by
  rcases (hA i j 0 hi hj (by decide)).1 with z | z
  · exact Or.inl ⟨z.1, by have := z.2.2; unfold aa_u at this ⊢; exact Int.le_trans this (by omega)⟩
  · exact Or.inr z
theorem ax_fitted {post : Int32 → SX → Prop} (hn : n ≤ 10) (hm : m ≤ 10) (h0 : ct 0 = nI n) (h1 : ct 1 = nI m) (hA : aa_AX ge gu op le lt n m h fr fw) (hp : ∀ x : Int32, aa_MX (-100000) (fun _ => False) (fun p q => p = n ∧ q < m + 1) (aa_F3 ge gu op le lt h) x.toInt → post x (ge, gu, op, le, fd, cc, ct, lt, fr, fw, bh, so)) : ∀ (d j : Nat) (x : Int32), j + d = m + 1 → aa_MX (-100000) (fun _ => False) (fun p q => p = n ∧ q < j) (aa_F3 ge gu op le lt h) x.toInt → wX_fitted_10 post ge gu op le fd cc ct lt fr fw bh so (d + 1) x (nI j) := by
  intro d
  induction d with
  | zero =>
    intro j x hd hX
    obtain rfl : j = m + 1 := by omega
    rw [wX_fitted_10]
    dsimp only
    rw [h1]
    exact br_t (nI_lt (by omega) (by omega)) (hp x hX)
  | succ d ih =>
    intro j x hd hX
    rw [wX_fitted_10]
    dsimp only
    rw [h0, h1, nI_1]
    refine br_f (nI_nlt (by omega) (by omega)) ?_
    refine ax_bestA (i := n) (j := j) hn hm (by omega) (by omega) hA fun r hr => ?_
    refine br_c (fun e => fun y hy => ?_) (fun e => fun y hy => ?_)
    · rw [hy]
      exact ih (j + 1) x (by omega) (aa_MX_le (by decide) hX hr (Int32.le_iff_toInt_le.mp e) (by omega))
    · rw [hy]
      exact ih (j + 1) r (by omega) (aa_MX_gt (by decide) hX hr (aa_gt e) (by omega))
theorem ax_overlap {post : Int32 → SX → Prop} (hn : n ≤ 10) (hm : m ≤ 10) (h0 : ct 0 = nI n) (h1 : ct 1 = nI m) (hA : aa_AX ge gu op le lt n m h fr fw) (hp : ∀ x : Int32, aa_MX (-100000) (fun _ => False) (fun p q => p = n ∧ q < m + 1) (aa_F3 ge gu op le lt h) x.toInt → post x (ge, gu, op, le, fd, cc, ct, lt, fr, fw, bh, so)) : ∀ (d j : Nat) (x : Int32), j + d = m + 1 → aa_MX (-100000) (fun _ => False) (fun p q => p = n ∧ q < j) (aa_F3 ge gu op le lt h) x.toInt → wX_overlap_10 post ge gu op le fd cc ct lt fr fw bh so (d + 1) x (nI j) := by
  intro d
  induction d with
  | zero =>
    intro j x hd hX
    obtain rfl : j = m + 1 := by omega
    rw [wX_overlap_10]
    dsimp only
    rw [h1]
    exact br_t (nI_lt (by omega) (by omega)) (hp x hX)
  | succ d ih =>
    intro j x hd hX
    rw [wX_overlap_10]
    dsimp only
    rw [h0, h1, nI_1]
    refine br_f (nI_nlt (by omega) (by omega)) ?_
    refine ax_bestA (i := n) (j := j) hn hm (by omega) (by omega) hA fun r hr => ?_
    refine br_c (fun e => fun y hy => ?_) (fun e => fun y hy => ?_)
    · rw [hy]
      exact ih (j + 1) x (by omega) (aa_MX_le (by decide) hX hr (Int32.le_iff_toInt_le.mp e) (by omega))
    · rw [hy]
      exact ih (j + 1) r (by omega) (aa_MX_gt (by decide) hX hr (aa_gt e) (by omega))
theorem ay_fitted {post : Int32 → SY → Prop} (hn : n ≤ 10) (hm : m ≤ 10) (hl : ct 1 = nI m) (hA : aa_AY ge gu op le lt n m 2 sc cn) (hp : ∀ x : Int32, aa_MX (aa_u 0) (fun v => aa_S0 ge gu op le lt n m 2 0 0 v ≠ 0) (fun p q => p = 0 ∧ q < m + 1) (aa_S0 ge gu op le lt n m 2) x.toInt → post x (ge, gu, op, le, lt, ct, sc, cn)) : ∀ (d j : Nat) (x : Int32), j + d = m + 1 → aa_MX (aa_u 0) (fun v => aa_S0 ge gu op le lt n m 2 0 0 v ≠ 0) (fun p q => p = 0 ∧ q < j) (aa_S0 ge gu op le lt n m 2) x.toInt → wY_fitted_26 post ge gu op le lt ct sc cn (d + 1) x (nI j) := by
  intro d
  induction d with
  | zero =>
    intro j x hd hX
    obtain rfl : j = m + 1 := by omega
    rw [wY_fitted_26]
    dsimp only
    rw [hl]
    exact br_t (nI_lt (by omega) (by omega)) (hp x hX)
  | succ d ih =>
    intro j x hd hX
    have e3 : nI j * 3 = nI ((0 * 11 + j) * 3) := by
      rw [show (3 : Int32) = nI 3 from rfl, pk_mul, show j * 3 = (0 * 11 + j) * 3 by omega]
    have cl : (nI ((0 * 11 + j) * 3)).toNatClampNeg = (0 * 11 + j) * 3 := nI_clamp (by omega)
    have hin : vp_in (nI ((0 * 11 + j) * 3)) 363 := vp_in_nI (by omega) (by decide)
    have hr := ay_cell (i := 0) (j := j) (by omega) (by omega) hA
    rw [wY_fitted_26]
    dsimp only
    rw [hl, nI_1, e3, cl]
    refine br_f (nI_nlt (by omega) (by omega)) ⟨hin, br_c (fun e => fun y hy => ?_) (fun e => ⟨hin, fun z hz y hy => ?_⟩)⟩
    · rw [hy]
      exact ih (j + 1) x (by omega) (aa_MX_le (by decide) hX hr (Int32.le_iff_toInt_le.mp e) (by omega))
    · rw [hy, hz]
      exact ih (j + 1) _ (by omega) (aa_MX_gt (by decide) hX hr (aa_gt e) (by omega))
theorem ay_overlap {post : Int32 → SY → Prop} (hn : n ≤ 10) (hm : m ≤ 10) (hl : ct 0 = nI n) (hA : aa_AY ge gu op le lt n m 2 sc cn) (hp : ∀ x : Int32, aa_MX (aa_u 0) (fun v => aa_S0 ge gu op le lt n m 2 0 0 v ≠ 0) (fun p q => q = 0 ∧ p < n + 1) (aa_S0 ge gu op le lt n m 2) x.toInt → post x (ge, gu, op, le, lt, ct, sc, cn)) : ∀ (d j : Nat) (x : Int32), j + d = n + 1 → aa_MX (aa_u 0) (fun v => aa_S0 ge gu op le lt n m 2 0 0 v ≠ 0) (fun p q => q = 0 ∧ p < j) (aa_S0 ge gu op le lt n m 2) x.toInt → wY_overlap_26 post ge gu op le lt ct sc cn (d + 1) x (nI j) := by
  intro d
  induction d with
  | zero =>
    intro j x hd hX
    obtain rfl : j = n + 1 := by omega
    rw [wY_overlap_26]
    dsimp only
    rw [hl]
    exact br_t (nI_lt (by omega) (by omega)) (hp x hX)
  | succ d ih =>
    intro j x hd hX
    have e3 : nI j * 33 = nI ((j * 11 + 0) * 3) := by
      rw [show (33 : Int32) = nI 33 from rfl, pk_mul, show j * 33 = (j * 11 + 0) * 3 by omega]
    have cl : (nI ((j * 11 + 0) * 3)).toNatClampNeg = (j * 11 + 0) * 3 := nI_clamp (by omega)
    have hin : vp_in (nI ((j * 11 + 0) * 3)) 363 := vp_in_nI (by omega) (by decide)
    have hr := ay_cell (i := j) (j := 0) (by omega) (by omega) hA
    rw [wY_overlap_26]
    dsimp only
    rw [hl, nI_1, e3, cl]
    refine br_f (nI_nlt (by omega) (by omega)) ⟨hin, br_c (fun e => fun y hy => ?_) (fun e => ⟨hin, fun z hz y hy => ?_⟩)⟩
    · rw [hy]
      exact ih (j + 1) x (by omega) (aa_MX_le (by decide) hX hr (Int32.le_iff_toInt_le.mp e) (by omega))
    · rw [hy, hz]
      exact ih (j + 1) _ (by omega) (aa_MX_gt (by decide) hX hr (aa_gt e) (by omega))
theorem ax_l21 {post : Int32 → SX → Prop} {J : Int32 → Int32 → Prop} {i : Nat} (hn : n ≤ 10) (hm : m ≤ 10) (h1 : ct 1 = nI m) (hi : i ≤ n) (hA : aa_AX ge gu op le lt n m h fr fw) (hp : ∀ x : Int32, aa_MX (-100000) (fun v => v = 0) (fun p q => p < i + 1 ∧ q ≤ m) (aa_F3 ge gu op le lt h) x.toInt → J x (nI (i + 1))) : ∀ (d j : Nat) (x : Int32), j + d = m + 1 → aa_MX (-100000) (fun v => v = 0) (fun p q => (p < i ∧ q ≤ m) ∨ (p = i ∧ q < j)) (aa_F3 ge gu op le lt h) x.toInt → wX_local_21 post J (nI i) ge gu op le fd cc ct lt fr fw bh so (d + 1) x (nI j) := by
  intro d
  induction d with
  | zero =>
    intro j x hd hX
    rw [wX_local_21]
    dsimp only
    rw [h1]
    refine br_t (nI_lt (by omega) (by omega)) fun y hy => ?_
    rw [hy, nI_1]
    exact hp x (aa_MX_P (by omega) hX)
  | succ d ih =>
    intro j x hd hX
    rw [wX_local_21]
    dsimp only
    rw [h1, nI_1 j]
    refine br_f (nI_nlt (by omega) (by omega)) ?_
    refine ax_bestA (i := i) (j := j) hn hm hi (by omega) hA fun r hr => ?_
    refine br_c (fun e => fun y hy => ?_) (fun e => fun y hy => ?_)
    · rw [hy]
      exact ih (j + 1) x (by omega) (aa_MX_le (by decide) hX hr (Int32.le_iff_toInt_le.mp e) (by omega))
    · rw [hy]
      exact ih (j + 1) r (by omega) (aa_MX_gt (by decide) hX hr (aa_gt e) (by omega))
theorem ax_l9 {post : Int32 → SX → Prop} (hn : n ≤ 10) (hm : m ≤ 10) (h0 : ct 0 = nI n) (h1 : ct 1 = nI m) (hA : aa_AX ge gu op le lt n m h fr fw) (hp : ∀ x : Int32, aa_MX (-100000) (fun v => v = 0) (fun p q => p ≤ n ∧ q ≤ m) (aa_F3 ge gu op le lt h) x.toInt → post x (ge, gu, op, le, fd, cc, ct, lt, fr, fw, bh, so)) : ∀ (d i : Nat) (x : Int32), i + d = n + 1 → aa_MX (-100000) (fun v => v = 0) (fun p q => p < i ∧ q ≤ m) (aa_F3 ge gu op le lt h) x.toInt → wX_local_9 post ge gu op le fd cc ct lt fr fw bh so (d + 1) x (nI i) := by
  intro d
  induction d with
  | zero =>
    intro i x hd hX
    rw [wX_local_9]
    dsimp only
    rw [h0]
    exact br_t (nI_lt (by omega) (by omega)) (hp x (aa_MX_P (by omega) hX))
  | succ d ih =>
    intro i x hd hX
    rw [wX_local_9]
    dsimp only
    rw [h0]
    refine br_f (nI_nlt (by omega) (by omega)) ⟨m + 1 + 1, ?_⟩
    exact ax_l21 hn hm h1 (by omega) hA (fun y hy => ih (i + 1) y (by omega) hy) (m + 1) 0 x (by omega) (aa_MX_P (by omega) hX)
theorem ay_l33 {post : Int32 → SY → Prop} {J : Int32 → Int32 → Prop} {i : Nat} (hn : n ≤ 10) (hm : m ≤ 10) (h1 : ct 1 = nI m) (hi : i ≤ n) (hA : aa_AY ge gu op le lt n m 1 sc cn) (hp : ∀ x : Int32, aa_MX (aa_u 0) (fun v => v = 0) (fun p q => p < i + 1 ∧ q ≤ m) (aa_S0 ge gu op le lt n m 1) x.toInt → J x (nI (i + 1))) : ∀ (d j : Nat) (x : Int32), j + d = m + 1 → aa_MX (aa_u 0) (fun v => v = 0) (fun p q => (p < i ∧ q ≤ m) ∨ (p = i ∧ q < j)) (aa_S0 ge gu op le lt n m 1) x.toInt → wY_local_33 post J (nI i) ge gu op le lt ct sc cn (d + 1) x (nI j) := by
  intro d
  induction d with
  | zero =>
    intro j x hd hX
    rw [wY_local_33]
    dsimp only
    rw [h1]
    refine br_t (nI_lt (by omega) (by omega)) fun y hy => ?_
    rw [hy, nI_1]
    exact hp x (aa_MX_P (by omega) hX)
  | succ d ih =>
    intro j x hd hX
    have cl : (nI ((i * 11 + j) * 3)).toNatClampNeg = (i * 11 + j) * 3 := nI_clamp (by omega)
    have hin : vp_in (nI ((i * 11 + j) * 3)) 363 := vp_in_nI (by omega) (by decide)
    have hr := ay_cell (i := i) (j := j) hi (by omega) hA
    rw [wY_local_33]
    dsimp only
    rw [h1, nI_1 j, ai_y0, cl]
    refine br_f (nI_nlt (by omega) (by omega)) ⟨hin, br_c (fun e => fun y hy => ?_) (fun e => ⟨hin, fun z hz y hy => ?_⟩)⟩
    · rw [hy]
      exact ih (j + 1) x (by omega) (aa_MX_le (by decide) hX hr (Int32.le_iff_toInt_le.mp e) (by omega))
    · rw [hy, hz]
      exact ih (j + 1) _ (by omega) (aa_MX_gt (by decide) hX hr (aa_gt e) (by omega))
theorem ay_l21 {post : Int32 → SY → Prop} (hn : n ≤ 10) (hm : m ≤ 10) (h0 : ct 0 = nI n) (h1 : ct 1 = nI m) (hA : aa_AY ge gu op le lt n m 1 sc cn) (hp : ∀ x : Int32, aa_MX (aa_u 0) (fun v => v = 0) (fun p q => p ≤ n ∧ q ≤ m) (aa_S0 ge gu op le lt n m 1) x.toInt → post x (ge, gu, op, le, lt, ct, sc, cn)) : ∀ (d i : Nat) (x : Int32), i + d = n + 1 → aa_MX (aa_u 0) (fun v => v = 0) (fun p q => p < i ∧ q ≤ m) (aa_S0 ge gu op le lt n m 1) x.toInt → wY_local_21 post ge gu op le lt ct sc cn (d + 1) x (nI i) := by
  intro d
  induction d with
  | zero =>
    intro i x hd hX
    rw [wY_local_21]
    dsimp only
    rw [h0]
    exact br_t (nI_lt (by omega) (by omega)) (hp x (aa_MX_P (by omega) hX))
  | succ d ih =>
    intro i x hd hX
    rw [wY_local_21]
    dsimp only
    rw [h0]
    refine br_f (nI_nlt (by omega) (by omega)) ⟨m + 1 + 1, ?_⟩
    exact ay_l33 hn hm h1 (by omega) hA (fun y hy => ih (i + 1) y (by omega) hy) (m + 1) 0 x (by omega) (aa_MX_P (by omega) hX)
/-- the component's ways -/
theorem aa_w0 {F0 F1 F2 N : Int → Nat} {r s w : Int32} (hB : aa_Bs (fun v => F0 v + F1 v + F2 v) r.toInt) (hN : ∀ v, N v ≠ 0 → F0 v + F1 v + F2 v ≠ 0) (hX : aa_XC N (-100000) s w) (hne : ¬ s = r) : N r.toInt = 0 := by
  apply Classical.byContradiction
  intro hz
  rcases hX.1 with z | z
  · exact hz (z.1 _)
  · have a1 : ¬ s.toInt < r.toInt := fun y => hz (z.1.2 _ y)
    have a2 : ¬ r.toInt < s.toInt := fun y => hN _ z.1.1 (hB.2 _ y)
    exact hne (Int32.toInt_inj.mp (by omega))
theorem ax_w27 {post : Int32 → SX → Prop} {r x : Int32} {c b k : Nat} {N : Int → Nat} {t : Nat} (hb : b < 3) (hc : c < 121) (hX : aa_XC N (-100000) (fr (121 * b + c)) (fw (121 * b + c))) (hz : ¬ fr (121 * b + c) = r → N r.toInt = 0) (hx : x = nI t) (hp : ∀ y : Int32, y = nI (t + N r.toInt) → wX_ways_27 post r (nI c) ge gu op le fd cc ct lt fr fw bh so k y (nI (b + 1))) : wX_ways_27 post r (nI c) ge gu op le fd cc ct lt fr fw bh so (k + 1) x (nI b) := by
  have cl : (nI (121 * b + c)).toNatClampNeg = 121 * b + c := nI_clamp (by omega)
  have hin : vp_in (nI (121 * b + c)) 363 := vp_in_nI (by omega) (by decide)
  rw [wX_ways_27]
  dsimp only
  rw [ai_c3, cl, nI_1]
  refine br_f (nI_ge (b := 3) hb (by decide)) ⟨hin, br_c (fun e => ⟨hin, fun y hy z hz' => ?_⟩) (fun e => fun z hz' => ?_)⟩
  · rw [hz']
    refine hp y ?_
    rw [hy, hx, hX.2, nI_add, e]
  · rw [hz']
    refine hp x ?_
    rw [hz e, hx, Nat.add_zero]
theorem ax_best {post : Int32 → SX → Prop} (hr : aa_Ru ge gu op le) (hn : n ≤ 10) (hm : m ≤ 10) (h0 : ct 0 = nI n) (h1 : ct 1 = nI m) (hp : ∀ (r : Int32) (fr fw : Nat → Int32), aa_AX ge gu op le lt n m 0 fr fw → aa_Bs (aa_S0 ge gu op le lt n m 0 0 0) r.toInt → post r (ge, gu, op, le, nI 0, cc, ct, lt, fr, fw, bh, so)) : wpX_best post (ge, gu, op, le, fd, cc, ct, lt, fr, fw, bh, so) := by
  unfold wpX_best
  dsimp only
  refine ax_fillFront (h := 0) (by decide) hr hn hm h0 h1 fun fr fw hC => ?_
  dsimp only
  rw [h0, h1]
  exact ax_bestAt hn hm (hC n m (Nat.le_refl n) (Nat.le_refl m)) fun r hw => hp r fr fw hC (aa_WC_Bs (aa_WC_c (fun v => aa_FS (by omega) v) hw) (aa_S_n (by omega)))
theorem ay_w0 {n m : Nat} (hn : n ≤ 10) (hm : m ≤ 10) (hA : aa_AY ge gu op le lt n m 0 sc cn) : aa_Bs (aa_S0 ge gu op le lt n m 0 0 0) (sc 0).toInt ∧ cn 0 = nI (aa_S0 ge gu op le lt n m 0 0 0 (sc 0).toInt) := by
  have z := hA 0 0 0 (Nat.zero_le _) (Nat.zero_le _) (by decide)
  exact ⟨aa_WC_Bs z.1 (aa_S_n (by omega)), z.2⟩
theorem ay_best {post : Int32 → SY → Prop} (hr : aa_Ru ge gu op le) (hn : n ≤ 10) (hm : m ≤ 10) (h0 : ct 0 = nI n) (h1 : ct 1 = nI m) (hp : ∀ (sc cn : Nat → Int32), aa_AY ge gu op le lt n m 0 sc cn → post (sc 0) (ge, gu, op, le, lt, ct, sc, cn)) : wpY_best post (ge, gu, op, le, lt, ct, sc, cn) := by
  unfold wpY_best
  dsimp only
  rw [h0, h1]
  exact ay_work (h := 0) hr hn hm (by decide) fun sc cn hA => hp sc cn hA
theorem ay_ways {post : Int32 → SY → Prop} (hr : aa_Ru ge gu op le) (hn : n ≤ 10) (hm : m ≤ 10) (h0 : ct 0 = nI n) (h1 : ct 1 = nI m) (hp : ∀ (sc cn : Nat → Int32), aa_AY ge gu op le lt n m 0 sc cn → post (cn 0) (ge, gu, op, le, lt, ct, sc, cn)) : wpY_ways post (ge, gu, op, le, lt, ct, sc, cn) := by
  unfold wpY_ways
  dsimp only
  rw [h0, h1]
  exact ay_work (h := 0) hr hn hm (by decide) fun sc cn hA => hp sc cn hA
end
end
section
/-! what is owed -/
def aa_Ct (ct : Nat → Int32) : Prop := ∀ w, w < 2 → ∃ c, c ≤ 10 ∧ ct w = nI c
/-- the relation at the head of a turn whose first cell is k: letters, counts and rules are the same; the tables are of no account -/
def i_Rel (k : Nat) (u : SX) (v : SY) : Prop := ∃ (ge gu op le fd cc : Int32) (ct lt fr fw bh so sc cn : Nat → Int32), u = (ge, gu, op, le, fd, cc, ct, lt, fr, fw, bh, so) ∧ v = (ge, gu, op, le, lt, ct, sc, cn) ∧ aa_Ru ge gu op le ∧ aa_Ct ct ∧ 0 ≤ k
theorem i_up {k : Nat} {u : SX} {v : SY} (h : i_Rel k u v) : i_Rel (k + 5) u v := by
  obtain ⟨ge, gu, op, le, fd, cc, ct, lt, fr, fw, bh, so, sc, cn, e1, e2, hr, hc, _⟩ := h
  exact ⟨ge, gu, op, le, fd, cc, ct, lt, fr, fw, bh, so, sc, cn, e1, e2, hr, hc, Nat.zero_le _⟩
theorem aa_mk {k : Nat} {ge gu op le fd cc : Int32} {ct lt fr fw bh so sc cn : Nat → Int32} (hr : aa_Ru ge gu op le) (hc : aa_Ct ct) : i_Rel k (ge, gu, op, le, fd, cc, ct, lt, fr, fw, bh, so) (ge, gu, op, le, lt, ct, sc, cn) := ⟨ge, gu, op, le, fd, cc, ct, lt, fr, fw, bh, so, sc, cn, rfl, rfl, hr, hc, Nat.zero_le _⟩
theorem aa_Ct_u {ct : Nat → Int32} (h : aa_Ct ct) (w : Nat) {c : Nat} (hc : c ≤ 10) : aa_Ct (upd ct w (nI c)) := by
  intro w' hw'
  by_cases e : w' = w
  · subst e
    exact ⟨c, hc, pk_us⟩
  · obtain ⟨c', hc', e'⟩ := h w' hw'
    exact ⟨c', hc', by rw [pk_un e]; exact e'⟩
theorem aa_i8 : ∀ k, k < 11 → (nI k).toInt8.toInt32 = nI k := by decide
theorem i_vc0 : wpX_init (fun u => wpY_init (fun v => i_Rel 0 u v)) := by
  unfold wpX_init wpY_init
  exact aa_mk ⟨by decide, by decide, by decide, by decide⟩ (fun w _ => ⟨0, by decide, rfl⟩)
theorem i_vc_type {k : Nat} {u : SX} {v : SY} (I : i_Rel k u v) (hk : k + 5 ≤ 2560) (v1 : Int32) (v2 : Int32) : wpX_type (fun r u' => wpY_type (fun r' v' => r' = r ∧ i_Rel (k + 5) u' v') v v1 v2) u v1 v2 := by
  obtain ⟨ge, gu, op, le, fd, cc, ct, lt, fr, fw, bh, so, sc, cn, rfl, rfl, hr, hc, _⟩ := I
  unfold wpX_type wpY_type
  dsimp only
  by_cases a1 : v1 < 0
  · exact br_t a1 (br_t a1 ⟨rfl, aa_mk hr hc⟩)
  by_cases a2 : 1 < v1
  · exact br_f a1 (br_t a2 (br_f a1 (br_t a2 ⟨rfl, aa_mk hr hc⟩)))
  by_cases a3 : v2 < 0
  · exact br_f a1 (br_f a2 (br_t a3 (br_f a1 (br_f a2 (br_t a3 ⟨rfl, aa_mk hr hc⟩)))))
  by_cases a4 : v2 ≤ 3
  · obtain ⟨w, hw, rfl⟩ := nI_of2 (M := 1) (n := 1) (by decide) a1 (Int32.not_lt.mp a2)
    obtain ⟨l, hl, rfl⟩ := nI_of2 (M := 3) (n := 3) (by decide) a3 a4
    obtain ⟨c, hcc, ec⟩ := hc w (by omega)
    have i2 : vp_in (nI w) 2 := vp_in_nI (by omega) (by decide)
    have cl : (nI w).toNatClampNeg = w := nI_clamp (by omega)
    have x1 : (10 : Int32) * nI w + nI c = nI (w * 10 + c) := by
      rw [show (10 : Int32) = nI 10 from rfl, pk_mul, nI_add, Nat.mul_comm]
    have x2 : nI w * 10 + nI c = nI (w * 10 + c) := by
      rw [show (10 : Int32) = nI 10 from rfl, pk_mul, nI_add]
    have cl2 : (nI (w * 10 + c)).toNatClampNeg = w * 10 + c := nI_clamp (by omega)
    rw [cl, ec, x1, x2, cl2, nI_1, pk_vb, pk_vb, aa_i8 l (by omega)]
    by_cases c10 : c < 10
    · have i20 : vp_in (nI (w * 10 + c)) 20 := vp_in_nI (by omega) (by decide)
      have b1 : nI c < 10 := nI_lt (b := 10) c10 (by decide)
      have b2 : ¬ nI c = 10 := fun z => by
        have := (nI_eq (a := c) (b := 10) (by omega) (by decide)).mp z
        omega
      rw [aa_i8 (c + 1) (by omega)]
      refine br_f a1 (br_f a2 (br_f a3 (br_t a4 ⟨i2, br_t b1 ⟨i2, i20, fun l9 e9 => ⟨i2, i2, fun c12 e12 => ⟨i2, ?_⟩⟩⟩⟩)))
      refine br_f a1 (br_f a2 (br_f a3 (br_t a4 ⟨i2, br_f b2 ⟨i2, i20, fun l9' e9' => ⟨i2, i2, fun c12' e12' => ⟨i2, ?_⟩⟩⟩⟩)))
      subst e9 e12 e9' e12'
      exact ⟨rfl, aa_mk hr (aa_Ct_u hc w (by omega))⟩
    · obtain rfl : c = 10 := by omega
      exact br_f a1 (br_f a2 (br_f a3 (br_t a4 ⟨i2, br_f (by decide) (br_f a1 (br_f a2 (br_f a3 (br_t a4 ⟨i2, br_t rfl ⟨rfl, aa_mk hr hc⟩⟩))))⟩)))
  · exact br_f a1 (br_f a2 (br_f a3 (br_f a4 (br_f a1 (br_f a2 (br_f a3 (br_f a4 ⟨rfl, aa_mk hr hc⟩)))))))
theorem i_vc_wipe {k : Nat} {u : SX} {v : SY} (I : i_Rel k u v) (hk : k + 5 ≤ 2560) (v1 : Int32) : wpX_wipe (fun r u' => wpY_wipe (fun r' v' => r' = r ∧ i_Rel (k + 5) u' v') v v1) u v1 := by
  obtain ⟨ge, gu, op, le, fd, cc, ct, lt, fr, fw, bh, so, sc, cn, rfl, rfl, hr, hc, _⟩ := I
  have e0 : vp_nar .byte 0 = 0 := by rw [vp_nar_byte]; decide
  unfold wpX_wipe wpY_wipe
  dsimp only
  by_cases a1 : v1 < 0
  · exact br_t a1 (br_t a1 ⟨rfl, aa_mk hr hc⟩)
  by_cases a2 : v1 ≤ 1
  · obtain ⟨w, hw, rfl⟩ := nI_of2 (M := 1) (n := 1) (by decide) a1 a2
    have i2 : vp_in (nI w) 2 := vp_in_nI (by omega) (by decide)
    have cl : (nI w).toNatClampNeg = w := nI_clamp (by omega)
    rw [cl, e0]
    refine br_f a1 (br_t a2 ⟨i2, fun x ex => ⟨i2, fun c ec => ?_⟩⟩)
    refine br_f a1 (br_t a2 ⟨i2, fun x' ex' => ⟨i2, fun c' ec' => ?_⟩⟩)
    subst ec ec'
    exact ⟨ex'.trans ex.symm, aa_mk hr (aa_Ct_u (c := 0) hc w (by decide))⟩
  · exact br_f a1 (br_f a2 (br_f a1 (br_f a2 ⟨rfl, aa_mk hr hc⟩)))
theorem i_vc_rules {k : Nat} {u : SX} {v : SY} (I : i_Rel k u v) (hk : k + 5 ≤ 2560) (v1 : Int32) (v2 : Int32) (v3 : Int32) (v4 : Int32) : wpX_rules (fun r u' => wpY_rules (fun r' v' => r' = r ∧ i_Rel (k + 5) u' v') v v1 v2 v3 v4) u v1 v2 v3 v4 := by
  obtain ⟨ge, gu, op, le, fd, cc, ct, lt, fr, fw, bh, so, sc, cn, rfl, rfl, hr, hc, _⟩ := I
  unfold wpX_rules wpY_rules
  dsimp only
  by_cases a1 : v1 < -9
  · exact br_t a1 (br_t a1 ⟨rfl, aa_mk hr hc⟩)
  by_cases a2 : 9 < v1
  · exact br_f a1 (br_t a2 (br_f a1 (br_t a2 ⟨rfl, aa_mk hr hc⟩)))
  by_cases a3 : v2 < -9
  · exact br_f a1 (br_f a2 (br_t a3 (br_f a1 (br_f a2 (br_t a3 ⟨rfl, aa_mk hr hc⟩)))))
  by_cases a4 : v2 ≤ 9
  · by_cases a5 : v3 < 0
    · exact br_f a1 (br_f a2 (br_f a3 (br_t a4 (br_t a5 (br_f a1 (br_f a2 (br_f a3 (br_t a4 (br_t a5 ⟨rfl, aa_mk hr hc⟩)))))))))
    by_cases a6 : 9 < v3
    · exact br_f a1 (br_f a2 (br_f a3 (br_t a4 (br_f a5 (br_t a6 (br_f a1 (br_f a2 (br_f a3 (br_t a4 (br_f a5 (br_t a6 ⟨rfl, aa_mk hr hc⟩)))))))))))
    by_cases a7 : v4 < 0
    · exact br_f a1 (br_f a2 (br_f a3 (br_t a4 (br_f a5 (br_f a6 (br_t a7 (br_f a1 (br_f a2 (br_f a3 (br_t a4 (br_f a5 (br_f a6 (br_t a7 ⟨rfl, aa_mk hr hc⟩)))))))))))))
    by_cases a8 : v4 ≤ 9
    · have t9 : (9 : Int32).toInt = 9 := by decide
      have tm : (-9 : Int32).toInt = -9 := by decide
      have t0 : (0 : Int32).toInt = 0 := by decide
      have q1 := aa_ngt a1
      have q2 := aa_ngt a2
      have q3 := aa_ngt a3
      have q4 := Int32.le_iff_toInt_le.mp a4
      have q5 := aa_ngt a5
      have q6 := aa_ngt a6
      have q7 := aa_ngt a7
      have q8 := Int32.le_iff_toInt_le.mp a8
      have hr' : aa_Ru v1 v2 v3 v4 := ⟨by omega, by omega, by omega, by omega⟩
      exact br_f a1 (br_f a2 (br_f a3 (br_t a4 (br_f a5 (br_f a6 (br_f a7 (br_t a8 (br_f a1 (br_f a2 (br_f a3 (br_t a4 (br_f a5 (br_f a6 (br_f a7 (br_t a8 ⟨rfl, aa_mk hr' hc⟩)))))))))))))))
    · exact br_f a1 (br_f a2 (br_f a3 (br_t a4 (br_f a5 (br_f a6 (br_f a7 (br_f a8 (br_f a1 (br_f a2 (br_f a3 (br_t a4 (br_f a5 (br_f a6 (br_f a7 (br_f a8 ⟨rfl, aa_mk hr hc⟩)))))))))))))))
  · exact br_f a1 (br_f a2 (br_f a3 (br_f a4 (br_f a1 (br_f a2 (br_f a3 (br_f a4 ⟨rfl, aa_mk hr hc⟩)))))))
theorem i_vc_best {k : Nat} {u : SX} {v : SY} (I : i_Rel k u v) (hk : k + 5 ≤ 2560) : wpX_best (fun r u' => wpY_best (fun r' v' => r' = r ∧ i_Rel (k + 5) u' v') v) u := by
  obtain ⟨ge, gu, op, le, fd, cc, ct, lt, fr, fw, bh, so, sc, cn, rfl, rfl, hr, hc, _⟩ := I
  obtain ⟨n, hn, h0⟩ := hc 0 (by decide)
  obtain ⟨m, hm, h1⟩ := hc 1 (by decide)
  refine ax_best hr hn hm h0 h1 fun r fr fw hA hB => ?_
  refine ay_best hr hn hm h0 h1 fun sc cn hY => ⟨?_, aa_mk hr hc⟩
  exact Int32.toInt_inj.mp (aa_Bs_u (ay_w0 hn hm hY).1 hB)
theorem i_vc_ways {k : Nat} {u : SX} {v : SY} (I : i_Rel k u v) (hk : k + 5 ≤ 2560) : wpX_ways (fun r u' => wpY_ways (fun r' v' => r' = r ∧ i_Rel (k + 5) u' v') v) u := by
  obtain ⟨ge, gu, op, le, fd, cc, ct, lt, fr, fw, bh, so, sc, cn, rfl, rfl, hr, hc, _⟩ := I
  obtain ⟨n, hn, h0⟩ := hc 0 (by decide)
  obtain ⟨m, hm, h1⟩ := hc 1 (by decide)
  unfold wpX_ways
  dsimp only
  refine ax_best hr hn hm h0 h1 fun r fr fw hA hB => ?_
  dsimp only
  rw [h0, h1, ai_c]
  intro x hx
  subst hx
  refine ⟨4, ?_⟩
  have fs := fun v => aa_FS (g := aa_g ge gu lt) (o := op.toInt) (l := le.toInt) (n := n) (m := m) (by omega) v
  have hB' : aa_Bs (fun v => aa_F (aa_g ge gu lt) op.toInt le.toInt (aa_be 0) n m 0 v + aa_F (aa_g ge gu lt) op.toInt le.toInt (aa_be 0) n m 1 v + aa_F (aa_g ge gu lt) op.toInt le.toInt (aa_be 0) n m 2 v) r.toInt := aa_Bs_c (fun v => (fs v).symm) hB
  have C := hA n m (Nat.le_refl n) (Nat.le_refl m)
  have hcell : 11 * n + m < 121 := by omega
  refine ax_w27 (b := 0) (t := 0) (by decide) hcell (C 0 (by decide)) (fun e => aa_w0 hB' (fun v hv => by omega) (C 0 (by decide)) e) rfl fun y1 e1 => ?_
  refine ax_w27 (b := 1) (by decide) hcell (C 1 (by decide)) (fun e => aa_w0 hB' (fun v hv => by omega) (C 1 (by decide)) e) e1 fun y2 e2 => ?_
  refine ax_w27 (b := 2) (by decide) hcell (C 2 (by decide)) (fun e => aa_w0 hB' (fun v hv => by omega) (C 2 (by decide)) e) e2 fun y3 e3 => ?_
  rw [wX_ways_27]
  dsimp only
  refine br_t (nI_le (a := 3) (b := 3) (by decide) (by decide)) ?_
  refine ay_ways hr hn hm h0 h1 fun sc cn hY => ⟨?_, aa_mk hr hc⟩
  have w := ay_w0 hn hm hY
  have e : sc 0 = r := Int32.toInt_inj.mp (aa_Bs_u w.1 hB)
  rw [w.2, e3, e, Nat.zero_add]
  exact congrArg nI (fs r.toInt).symm
theorem i_vc_column {k : Nat} {u : SX} {v : SY} (I : i_Rel k u v) (hk : k + 5 ≤ 2560) (v1 : Int32) : wpX_column (fun r u' => wpY_column (fun r' v' => r' = r ∧ i_Rel (k + 5) u' v') v v1) u v1 := by
  obtain ⟨ge, gu, op, le, fd, cc, ct, lt, fr, fw, bh, so, sc, cn, rfl, rfl, hr, hc, _⟩ := I
  obtain ⟨n, hn, h0⟩ := hc 0 (by decide)
  obtain ⟨m, hm, h1⟩ := hc 1 (by decide)
  unfold wpX_column
  dsimp only
  refine ax_findFirst hr hn hm h0 h1 fun bh so K hO hK hE hN hI hs => ?_
  dsimp only
  unfold wpY_column wpY_walk
  dsimp only
  by_cases a1 : v1 < 0
  · have a1' : ¬ 0 ≤ v1 := Int32.not_le.mpr a1
    exact br_t a1 (br_f a1' ⟨rfl, aa_mk hr hc⟩)
  · have a1' : 0 ≤ v1 := Int32.not_lt.mp a1
    obtain ⟨w, hw, rfl⟩ := nI_of a1
    refine br_f a1 (pk_lt w K (fun hwK => ⟨vp_in_nI (by omega) (by decide), br_t a1' ?_⟩) (fun hwK => br_t a1' ?_))
    · refine ay_best hr hn hm h0 h1 fun sc cn hY => ⟨K + 1, ?_⟩
      refine ay_w15 (bh := bh) hr hn hm h0 h1 hY hO hK hE hN hI K 0 (by omega) (fun k' _ hk' e => ?_) (fun h => absurd rfl (h w (Nat.zero_le _) hwK))
      have : k' = w := (nI_eq (by omega) hw).mp e
      subst this
      rw [nI_clamp hw, hs k' hk']
      exact ⟨rfl, aa_mk hr hc⟩
    · refine ay_best hr hn hm h0 h1 fun sc cn hY => ⟨K + 1, ?_⟩
      refine ay_w15 (bh := bh) hr hn hm h0 h1 hY hO hK hE hN hI K 0 (by omega) (fun k' _ hk' e => ?_) (fun _ => br_t a1' ⟨rfl, aa_mk hr hc⟩)
      have : k' = w := (nI_eq (by omega) hw).mp e
      omega
theorem i_vc_columns {k : Nat} {u : SX} {v : SY} (I : i_Rel k u v) (hk : k + 5 ≤ 2560) : wpX_columns (fun r u' => wpY_columns (fun r' v' => r' = r ∧ i_Rel (k + 5) u' v') v) u := by
  obtain ⟨ge, gu, op, le, fd, cc, ct, lt, fr, fw, bh, so, sc, cn, rfl, rfl, hr, hc, _⟩ := I
  obtain ⟨n, hn, h0⟩ := hc 0 (by decide)
  obtain ⟨m, hm, h1⟩ := hc 1 (by decide)
  unfold wpX_columns
  dsimp only
  refine ax_findFirst hr hn hm h0 h1 fun bh so K hO hK hE hN hI hs => ?_
  dsimp only
  unfold wpY_columns wpY_walk
  dsimp only
  refine ay_best hr hn hm h0 h1 fun sc cn hY => ⟨K + 1, ?_⟩
  refine ay_w15 (bh := bh) hr hn hm h0 h1 hY hO hK hE hN hI K 0 (by omega) (fun k' _ hk' e => ?_) (fun _ => br_f (by decide) ⟨rfl, aa_mk hr hc⟩)
  have := nI_pos (n := k') (by omega)
  rw [e] at this
  exact absurd (by decide) this
theorem i_vc_local {k : Nat} {u : SX} {v : SY} (I : i_Rel k u v) (hk : k + 5 ≤ 2560) : wpX_local (fun r u' => wpY_local (fun r' v' => r' = r ∧ i_Rel (k + 5) u' v') v) u := by
  obtain ⟨ge, gu, op, le, fd, cc, ct, lt, fr, fw, bh, so, sc, cn, rfl, rfl, hr, hc, _⟩ := I
  obtain ⟨n, hn, h0⟩ := hc 0 (by decide)
  obtain ⟨m, hm, h1⟩ := hc 1 (by decide)
  unfold wpX_local
  dsimp only
  refine ax_fillFront (h := 3) (by decide) hr hn hm h0 h1 fun fr fw hA => ⟨n + 1 + 1, ?_⟩
  have z0 : ∀ (u : Int) (N : Nat → Nat → Int → Nat), aa_MX u (fun v => v = 0) (fun p q => p < 0 ∧ q ≤ m) N (0 : Int32).toInt := by
    intro u N
    refine ⟨fun v => if v = 0 then 1 else 0, Or.inr ⟨⟨by decide, fun v hv => ?_⟩, by decide, by decide⟩, fun v => ?_⟩
    · have hv' : (0 : Int) < v := hv
      exact if_neg (by omega)
    · constructor
      · intro h
        by_cases hv : v = 0
        · exact Or.inl hv
        · exact absurd (if_neg hv) h
      · rintro (h | ⟨p, q, h, _⟩)
        · subst h; decide
        · omega
  refine ax_l9 hn hm h0 h1 hA (fun x hx => ?_) (n + 1) 0 0 (by omega) (z0 _ _)
  unfold wpY_local
  dsimp only
  rw [h0, h1]
  refine ay_work (h := 1) hr hn hm (by decide) fun sc cn hY => ⟨n + 1 + 1, ?_⟩
  refine ay_l21 hn hm h0 h1 hY (fun y hy => ⟨?_, aa_mk hr hc⟩) (n + 1) 0 0 (by omega) (z0 _ _)
  exact (Int32.toInt_inj.mp (aa_MX_eq hx hy (fun v => aa_q3 (by omega) v) ⟨0, Or.inl rfl⟩)).symm
theorem aa_z1 {N : Nat → Nat → Int → Nat} {a : Nat} : aa_MX (-100000) (fun _ => False) (fun p q => p = a ∧ q < 0) N (-100000 : Int32).toInt := by
  refine ⟨fun _ => 0, by rw [aa_m1e5]; exact aa_WC_0 (by decide), fun v => ⟨fun h => absurd rfl h, ?_⟩⟩
  rintro (h | ⟨p, q, h, _⟩)
  · exact h.elim
  · omega
theorem aa_z2 {ge gu op le : Int32} {lt sc cn : Nat → Int32} {n m : Nat} {P : Nat → Nat → Prop} {N : Nat → Nat → Int → Nat} (hY : aa_AY ge gu op le lt n m 2 sc cn) (hP : ∀ p q, ¬ P p q) : aa_MX (aa_u 0) (fun v => aa_S0 ge gu op le lt n m 2 0 0 v ≠ 0) P N (sc 0).toInt := by
  refine ⟨aa_S0 ge gu op le lt n m 2 0 0, (hY 0 0 0 (Nat.zero_le _) (Nat.zero_le _) (by decide)).1, fun v => ⟨Or.inl, ?_⟩⟩
  rintro (h | ⟨p, q, h, _⟩)
  · exact h
  · exact absurd h (hP p q)
theorem i_vc_fitted {k : Nat} {u : SX} {v : SY} (I : i_Rel k u v) (hk : k + 5 ≤ 2560) : wpX_fitted (fun r u' => wpY_fitted (fun r' v' => r' = r ∧ i_Rel (k + 5) u' v') v) u := by
  obtain ⟨ge, gu, op, le, fd, cc, ct, lt, fr, fw, bh, so, sc, cn, rfl, rfl, hr, hc, _⟩ := I
  obtain ⟨n, hn, h0⟩ := hc 0 (by decide)
  obtain ⟨m, hm, h1⟩ := hc 1 (by decide)
  unfold wpX_fitted
  dsimp only
  refine ax_fillFront (h := 1) (by decide) hr hn hm h0 h1 fun fr fw hA => ⟨m + 1 + 1, ?_⟩
  refine ax_fitted hn hm h0 h1 hA (fun x hx => ?_) (m + 1) 0 (-100000) (by omega) aa_z1
  unfold wpY_fitted
  dsimp only
  rw [h0, h1]
  refine ay_work (h := 2) hr hn hm (by decide) fun sc cn hY => ?_
  intro y0 ey0
  refine ⟨m + 1 + 1, ?_⟩
  rw [ey0]
  refine ay_fitted hn hm h1 hY (fun y hy => ⟨?_, aa_mk hr hc⟩) (m + 1) 0 (sc 0) (by omega) (aa_z2 hY (by omega))
  obtain ⟨v, hv⟩ := aa_S_n (g := aa_g ge gu lt) (o := op.toInt) (l := le.toInt) (n := n) (m := m) (h := 2) (by omega)
  exact (Int32.toInt_inj.mp (aa_MX_eq hx hy (fun v => aa_q1 (by omega) v) ⟨v, Or.inl hv⟩)).symm
theorem i_vc_overlap {k : Nat} {u : SX} {v : SY} (I : i_Rel k u v) (hk : k + 5 ≤ 2560) : wpX_overlap (fun r u' => wpY_overlap (fun r' v' => r' = r ∧ i_Rel (k + 5) u' v') v) u := by
  obtain ⟨ge, gu, op, le, fd, cc, ct, lt, fr, fw, bh, so, sc, cn, rfl, rfl, hr, hc, _⟩ := I
  obtain ⟨n, hn, h0⟩ := hc 0 (by decide)
  obtain ⟨m, hm, h1⟩ := hc 1 (by decide)
  unfold wpX_overlap
  dsimp only
  refine ax_fillFront (h := 2) (by decide) hr hn hm h0 h1 fun fr fw hA => ⟨m + 1 + 1, ?_⟩
  refine ax_overlap hn hm h0 h1 hA (fun x hx => ?_) (m + 1) 0 (-100000) (by omega) aa_z1
  unfold wpY_overlap
  dsimp only
  rw [h0, h1]
  refine ay_work (h := 2) hr hn hm (by decide) fun sc cn hY => ?_
  intro y0 ey0
  refine ⟨n + 1 + 1, ?_⟩
  rw [ey0]
  refine ay_overlap hn hm h0 hY (fun y hy => ⟨?_, aa_mk hr hc⟩) (n + 1) 0 (sc 0) (by omega) (aa_z2 hY (by omega))
  obtain ⟨v, hv⟩ := aa_S_n (g := aa_g ge gu lt) (o := op.toInt) (l := le.toInt) (n := n) (m := m) (h := 2) (by omega)
  exact (Int32.toInt_inj.mp (aa_MX_eq hx hy (fun v => aa_q2 (by omega) v) ⟨v, Or.inl hv⟩)).symm
theorem i_vc_paired {k : Nat} {u : SX} {v : SY} (I : i_Rel k u v) (hk : k + 5 ≤ 2560) (v1 : Int32) (v2 : Int32) : wpX_paired (fun r u' => wpY_paired (fun r' v' => r' = r ∧ i_Rel (k + 5) u' v') v v1 v2) u v1 v2 := by
  obtain ⟨ge, gu, op, le, fd, cc, ct, lt, fr, fw, bh, so, sc, cn, rfl, rfl, hr, hc, _⟩ := I
  obtain ⟨n, hn, h0⟩ := hc 0 (by decide)
  obtain ⟨m, hm, h1⟩ := hc 1 (by decide)
  unfold wpX_paired wpY_paired
  dsimp only
  rw [h0, h1]
  by_cases a1 : v1 < 0
  · exact br_t a1 (br_t a1 ⟨rfl, aa_mk hr hc⟩)
  by_cases a2 : nI n ≤ v1
  · exact br_f a1 (br_t a2 (br_f a1 (br_t a2 ⟨rfl, aa_mk hr hc⟩)))
  by_cases a3 : v2 < 0
  · exact br_f a1 (br_f a2 (br_t a3 (br_f a1 (br_f a2 (br_t a3 ⟨rfl, aa_mk hr hc⟩)))))
  by_cases a4 : v2 < nI m
  · obtain ⟨i, hi, rfl⟩ := nI_of a1
    obtain ⟨j, hj, rfl⟩ := nI_of a3
    have hin : i < n := by
      apply Classical.byContradiction
      intro z
      exact a2 (nI_le (by omega) hi)
    have hjm : j < m := (nI_ltI hj (by omega)).mp a4
    have i363 : vp_in (nI (11 * (i + 1) + (j + 1))) 363 := vp_in_nI (by omega) (by decide)
    have cl1 : (nI (11 * (i + 1) + (j + 1))).toNatClampNeg = 11 * (i + 1) + (j + 1) := nI_clamp (by omega)
    have j363 : vp_in (nI (((i + 1) * 11 + (j + 1)) * 3 + 0)) 363 := vp_in_nI (by omega) (by decide)
    have cl2 : (nI (((i + 1) * 11 + (j + 1)) * 3 + 0)).toNatClampNeg = aa_y (i + 1) (j + 1) 0 := nI_clamp (by omega)
    rw [ai_p, ai_yd, cl1, cl2]
    refine br_f a1 (br_f a2 (br_f a3 (br_t a4 ?_)))
    refine ax_best hr hn hm h0 h1 fun r fr fw hA hB => ?_
    dsimp only
    refine ax_fillBehind hr hn hm h0 h1 fun bh hO => ?_
    dsimp only
    refine ax_bestAt (by omega) (by omega) (hA i j (by omega) (by omega)) fun b hb => ?_
    refine ax_gain (by omega) (by omega) ⟨i363, ?_⟩
    have bB : aa_Bs (aa_S0 ge gu op le lt i j 0 0 0) b.toInt := aa_WC_Bs (aa_WC_c (fun v => aa_FS (by omega) v) hb) (aa_S_n (by omega))
    have eH := (aa_WC_rr (hO (i + 1) (j + 1) (by omega) (by omega) 0 (by decide))).1
    rw [show 121 * 0 + (11 * (i + 1) + (j + 1)) = 11 * (i + 1) + (j + 1) by omega] at eH
    have Y : ∀ res : Int32, ((b + aa_gv ge gu lt i j + bh (11 * (i + 1) + (j + 1)) = r → res = 1) ∧ (¬ b + aa_gv ge gu lt i j + bh (11 * (i + 1) + (j + 1)) = r → res = 0)) → ∀ (fd : Int32) (fr fw : Nat → Int32), wpY_work (fun u => match u with | (f_equal_6, f_unequal_7, f_opening_8, f_lengthening_9, a_letters_10, a_lengths_11, a_scores_12, a_counts_13) => (∀ x3_14 : Int32, x3_14 = a_scores_12 0 → (wpY_best (fun r_15 u => match u with | (f_equal_16, f_unequal_17, f_opening_18, f_lengthening_19, a_letters_20, a_lengths_21, a_scores_22, a_counts_23) => (wpY_gain (fun r_24 => (vp_in (nI (((i + 1) * 11 + (j + 1)) * 3 + 0)) 363 ∧ (((((x3_14 + r_24) + (a_scores_22 (aa_y (i + 1) (j + 1) 0))) = r_15 → (1 = res ∧ i_Rel (k + 5) (ge, gu, op, le, fd, cc, ct, lt, fr, fw, bh, so) (f_equal_16, f_unequal_17, f_opening_18, f_lengthening_19, a_letters_20, a_lengths_21, a_scores_22, a_counts_23))) ∧ (¬ ((x3_14 + r_24) + (a_scores_22 (aa_y (i + 1) (j + 1) 0))) = r_15 → (0 = res ∧ i_Rel (k + 5) (ge, gu, op, le, fd, cc, ct, lt, fr, fw, bh, so) (f_equal_16, f_unequal_17, f_opening_18, f_lengthening_19, a_letters_20, a_lengths_21, a_scores_22, a_counts_23))))))) (f_equal_16, f_unequal_17, f_opening_18, f_lengthening_19, a_letters_20, a_lengths_21, a_scores_22, a_counts_23) (nI i) (nI j))) (f_equal_6, f_unequal_7, f_opening_8, f_lengthening_9, a_letters_10, a_lengths_11, a_scores_12, a_counts_13)))) (ge, gu, op, le, lt, ct, sc, cn) (nI i) (nI j) 0 := by
      intro res hres fd fr fw
      refine ay_work (h := 0) hr (by omega) (by omega) (by decide) fun sc1 cn1 hY1 => ?_
      intro x ex
      refine ay_best hr hn hm h0 h1 fun sc2 cn2 hY2 => ?_
      refine ay_gain (by omega) (by omega) ⟨j363, ?_⟩
      have e1 : x = b := by
        rw [ex]
        exact Int32.toInt_inj.mp (aa_Bs_u (ay_w0 (by omega) (by omega) hY1).1 bB)
      have e2 : sc2 0 = r := Int32.toInt_inj.mp (aa_Bs_u (ay_w0 hn hm hY2).1 hB)
      have e3 : sc2 (aa_y (i + 1) (j + 1) 0) = bh (11 * (i + 1) + (j + 1)) := by
        have ne := aa_B_n (g := aa_g ge gu lt) (o := op.toInt) (l := le.toInt) (n := n) (m := m) (h := 0) (i := i + 1) (j := j + 1) (a := 0) (by omega) (by omega) (by omega) (by decide)
        have w := aa_WC_Bs (aa_WC_c (fun v => aa_S_0 (by omega) (i + 1) (j + 1) v) (hY2 (i + 1) (j + 1) 0 (by omega) (by omega) (by decide)).1) ne
        exact Int32.toInt_inj.mp (aa_Bs_u w eH)
      rw [e1, e2, e3]
      exact br_c (fun c => ⟨(hres.1 c).symm, aa_mk hr hc⟩) (fun c => ⟨(hres.2 c).symm, aa_mk hr hc⟩)
    refine br_c (fun c => ?_) (fun c => ?_)
    · exact br_f a1 (br_f a2 (br_f a3 (br_t a4 (Y 1 ⟨fun _ => rfl, fun z => absurd c z⟩ _ fr fw))))
    · exact br_f a1 (br_f a2 (br_f a3 (br_t a4 (Y 0 ⟨fun z => absurd z c, fun _ => rfl⟩ _ fr fw))))
  · exact br_f a1 (br_f a2 (br_f a3 (br_f a4 (br_f a1 (br_f a2 (br_f a3 (br_f a4 ⟨rfl, aa_mk hr hc⟩)))))))
end
