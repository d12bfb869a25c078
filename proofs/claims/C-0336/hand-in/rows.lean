section
theorem pk_us {f : Nat → Int32} {k : Nat} {x : Int32} : upd f k x k = x := if_pos rfl
theorem pk_un {f : Nat → Int32} {k j : Nat} {x : Int32} (h : j ≠ k) : upd f k x j = f j := if_neg h
theorem pk_mul (a b : Nat) : nI a * nI b = nI (a * b) := (Int32.ofNat_mul a b).symm
theorem pk_le {x y : Int32} {A B : Prop} (a b : Nat) (f : a ≤ b → A) (g : b < a → B) (hx : x = nI a := by rfl) (hy : y = nI b := by rfl) (ha : a < 2 ^ 31 := by omega) (hb : b < 2 ^ 31 := by omega) : (x ≤ y → A) ∧ (¬ x ≤ y → B) := by
  subst hx hy
  rw [nI_leI ha hb]
  exact ⟨f, fun z => g (by omega)⟩
theorem pk_lt {x y : Int32} {A B : Prop} (a b : Nat) (f : a < b → A) (g : b ≤ a → B) (hx : x = nI a := by rfl) (hy : y = nI b := by rfl) (ha : a < 2 ^ 31 := by omega) (hb : b < 2 ^ 31 := by omega) : (x < y → A) ∧ (¬ x < y → B) := by
  subst hx hy
  rw [nI_ltI ha hb]
  exact ⟨f, fun z => g (by omega)⟩
theorem pk_eq {x y : Int32} {A B : Prop} (a b : Nat) (f : a = b → A) (g : a ≠ b → B) (hx : x = nI a := by rfl) (hy : y = nI b := by rfl) (ha : a < 2 ^ 31 := by omega) (hb : b < 2 ^ 31 := by omega) : (x = y → A) ∧ (¬ x = y → B) := by
  subst hx hy
  rw [nI_eq ha hb]
  exact ⟨f, g⟩
theorem pk_in {x : Int32} (n N : Nat) (h : n < N) (hx : x = nI n := by rfl) (hN : N < 2 ^ 31 := by omega) : vp_in x N := by
  subst hx
  exact vp_in_nI h hN
theorem pk_cl {x : Int32} (n : Nat) (hx : x = nI n := by rfl) (h : n < 2 ^ 31 := by omega) : x.toNatClampNeg = n := by
  subst hx
  exact nI_clamp h
theorem pk_tn {n : Nat} (h : n < 2 ^ 32) : (nI n).toBitVec.toNat = n := Nat.mod_eq_of_lt h
theorem pk_and (x : Int32) {m : Int32} (k : Nat) (hm : m.toBitVec.toNat = 2 ^ k - 1) : x &&& m = nI (x.toBitVec.toNat % 2 ^ k) := by
  apply Int32.toBitVec_inj.mp
  apply BitVec.eq_of_toNat_eq
  rw [Int32.toBitVec_and, BitVec.toNat_and, hm, Nat.and_two_pow_sub_one_eq_mod]
  show _ = (BitVec.ofNat 32 _).toNat
  rw [BitVec.toNat_ofNat]
  exact (Nat.mod_eq_of_lt (Nat.lt_of_le_of_lt (Nat.mod_le _ _) x.toBitVec.isLt)).symm
theorem pk_andE (x : Int32) {m : Int32} (k : Nat) (hm : m.toBitVec.toNat = 2 ^ k - 1) : ∃ j : Nat, j < 2 ^ k ∧ x &&& m = nI j := ⟨_, Nat.mod_lt _ (Nat.two_pow_pos k), pk_and x k hm⟩
theorem pk_andIn (x : Int32) {m : Int32} (k : Nat) (hm : m.toBitVec.toNat = 2 ^ k - 1) (hk : k ≤ 30) : vp_in (x &&& m) (2 ^ k) := by
  obtain ⟨j, hj, e⟩ := pk_andE x k hm
  rw [e]
  exact vp_in_nI hj (Nat.lt_of_le_of_lt (Nat.pow_le_pow_right (by decide) hk) (by decide))
end
section
/-! small numbers -/
theorem cv_at (f : Nat → Int32) {u : Nat} (h : u < 2 ^ 31) : f (nI u).toNatClampNeg = f u := by rw [nI_clamp h]
theorem cv_ix (u i : Nat) : (16 : Int32) * nI u + nI i = nI (16 * u + i) := by
  rw [show (16 : Int32) = nI 16 from rfl, pk_mul, nI_add]
theorem cv_by : ∀ n, n < 64 → vp_nar .byte (nI n).toInt8.toInt32 = nI n := by decide +kernel
theorem cv_by0 : vp_nar .byte 0 = nI 0 := by decide +kernel
theorem cv_bo0 : vp_nar .boolean 0 = 0 := by decide +kernel
theorem cv_bo1 : vp_nar .boolean 1 = 1 := by decide +kernel
theorem cv_10 : ¬ (1 : Int32) = 0 := by decide
theorem cv_63 (x : Int32) : ∃ j : Nat, j < 64 ∧ x &&& 63 = nI j := pk_andE x 6 (by decide)
theorem cv_i63 (x : Int32) : vp_in (x &&& 63) 64 := pk_andIn x 6 (by decide) (by decide)
def cv_pt (f : Nat → Nat) (k v : Nat) : Nat → Nat := fun j => if j = k then v else f j
theorem cv_ps {f : Nat → Nat} {k v : Nat} : cv_pt f k v k = v := if_pos rfl
theorem cv_pn {f : Nat → Nat} {k v j : Nat} (h : j ≠ k) : cv_pt f k v j = f j := if_neg h
/-! the program and the start: op, x, y, z as the reference holds them; vec, sca, mem, length -/
abbrev cv_G : Type := (Nat → Int32) × (Nat → Int32) × (Nat → Int32) × (Nat → Int32) × (Nat → Int32) × (Nat → Int32) × (Nat → Int32) × Nat
abbrev cv_Q : Type := (Nat → Int32) × (Nat → Int32) × (Nat → Int32) × Nat
def cv_o (g : cv_G) (k : Nat) : Nat := (g.1 k).toNatClampNeg
def cv_x (g : cv_G) (k : Nat) : Nat := (g.2.1 k).toNatClampNeg
def cv_y (g : cv_G) (k : Nat) : Nat := (g.2.2.1 k).toNatClampNeg
def cv_z (g : cv_G) (k : Nat) : Nat := (g.2.2.2.1 k).toNatClampNeg
def cv_Y (g : cv_G) (k : Nat) : Int32 := g.2.2.1 k
def cv_Z (g : cv_G) (k : Nat) : Int32 := g.2.2.2.1 k
def cv_res (o : Nat) (a b : Int32) : Int32 := if o = 0 then a + b else if o = 4 then a + b else if o = 1 then a - b else if o = 2 then a * b else if o = 5 then a * b else if a ≤ b then b else a
def cv_cell (s Z : Int32) (i : Nat) : Nat := ((s + nI i * Z) &&& 63).toNatClampNeg
/-- the value that instruction k gives for its element i, from vectors V, scalars S, memory M -/
def cv_val (g : cv_G) (k : Nat) (V S M : Nat → Int32) (i : Nat) : Int32 :=
  if cv_o g k ≤ 3 then cv_res (cv_o g k) (V (16 * cv_y g k + i)) (V (16 * cv_z g k + i))
  else if cv_o g k ≤ 5 then cv_res (cv_o g k) (V (16 * cv_y g k + i)) (S (cv_z g k))
  else if cv_o g k = 6 then M (cv_cell (S (cv_y g k)) (cv_Z g k) i)
  else if cv_o g k = 7 then V (16 * cv_x g k + i)
  else if cv_o g k = 8 then M (V (16 * cv_y g k + i) &&& 63).toNatClampNeg
  else V (16 * cv_y g k + i)
def cv_stm (g : cv_G) (k : Nat) (V S M : Nat → Int32) : Nat → (Nat → Int32)
  | 0 => M
  | n + 1 => upd (cv_stm g k V S M n) (cv_cell (S (cv_y g k)) (cv_Z g k) n) (V (16 * cv_x g k + n))
def cv_sum (g : cv_G) (k : Nat) (V : Nat → Int32) : Nat → Int32
  | 0 => 0
  | n + 1 => cv_sum g k V n + V (16 * cv_y g k + n)
/-- vectors and memory after the first n elements of instruction k -/
def cv_vn (g : cv_G) (k : Nat) (V S M : Nat → Int32) (n : Nat) : Nat → Int32 := fun j =>
  if cv_o g k ≤ 8 ∧ cv_o g k ≠ 7 ∧ cv_x g k = j / 16 ∧ j % 16 < n then cv_val g k V S M (j % 16) else V j
def cv_mn (g : cv_G) (k : Nat) (V S M : Nat → Int32) (n : Nat) : Nat → Int32 := if cv_o g k = 7 then cv_stm g k V S M n else M
def cv_cl (x : Int32) : Nat := if 0 ≤ x then (if x ≤ 16 then x.toNatClampNeg else 16) else 0
def cv_sn (g : cv_G) (k : Nat) (V S : Nat → Int32) (n : Nat) : Nat → Int32 :=
  if cv_o g k = 9 then upd S (cv_x g k) (cv_sum g k V n)
  else if cv_o g k = 10 then upd S (cv_x g k) (cv_Y g k)
  else if cv_o g k = 11 then upd S (cv_x g k) (S (cv_y g k) + S (cv_z g k)) else S
def cv_ln (g : cv_G) (k : Nat) (S : Nat → Int32) (n : Nat) : Nat := if cv_o g k = 12 then cv_cl (S (cv_x g k)) else n
def cv_step (g : cv_G) (k : Nat) (s : cv_Q) : cv_Q :=
  (cv_vn g k s.1 s.2.1 s.2.2.1 s.2.2.2, cv_sn g k s.1 s.2.1 s.2.2.2, cv_mn g k s.1 s.2.1 s.2.2.1 s.2.2.2, cv_ln g k s.2.1 s.2.2.2)
def cv_s (g : cv_G) : Nat → cv_Q
  | 0 => g.2.2.2.2
  | k + 1 => cv_step g k (cv_s g k)
def cv_V (g : cv_G) (k : Nat) : Nat → Int32 := (cv_s g k).1
def cv_S (g : cv_G) (k : Nat) : Nat → Int32 := (cv_s g k).2.1
def cv_M (g : cv_G) (k : Nat) : Nat → Int32 := (cv_s g k).2.2.1
def cv_L (g : cv_G) (k : Nat) : Nat := (cv_s g k).2.2.2
/-- the value of element i of instruction k, in the sequence -/
def cv_vl (g : cv_G) (k i : Nat) : Int32 := cv_val g k (cv_V g k) (cv_S g k) (cv_M g k) i
theorem cv_Vs (g : cv_G) (k : Nat) : cv_V g (k + 1) = cv_vn g k (cv_V g k) (cv_S g k) (cv_M g k) (cv_L g k) := rfl
theorem cv_Ss (g : cv_G) (k : Nat) : cv_S g (k + 1) = cv_sn g k (cv_V g k) (cv_S g k) (cv_L g k) := rfl
theorem cv_Ms (g : cv_G) (k : Nat) : cv_M g (k + 1) = cv_mn g k (cv_V g k) (cv_S g k) (cv_M g k) (cv_L g k) := rfl
theorem cv_Ls (g : cv_G) (k : Nat) : cv_L g (k + 1) = cv_ln g k (cv_S g k) (cv_L g k) := rfl
theorem cv_cl16 (x : Int32) : cv_cl x ≤ 16 := by
  unfold cv_cl
  split
  · split
    · next h0 h16 =>
      obtain ⟨j, hj, rfl⟩ := nI_of2 (M := 16) (n := 16) (by decide) (Int32.not_lt.mpr h0) h16
      rw [nI_clamp (by omega)]; exact hj
    · exact Nat.le_refl _
  · exact Nat.zero_le _
theorem cv_clI (x : Int32) (h0 : 0 ≤ x) (h16 : x ≤ 16) : x = nI (cv_cl x) := by
  obtain ⟨j, hj, rfl⟩ := nI_of2 (M := 16) (n := 16) (by decide) (Int32.not_lt.mpr h0) h16
  unfold cv_cl
  rw [if_pos h0, if_pos h16, nI_clamp (by omega)]
theorem cv_L16 (g : cv_G) (h : g.2.2.2.2.2.2.2 ≤ 16) : ∀ k, cv_L g k ≤ 16 := by
  intro k
  induction k with
  | zero => exact h
  | succ k ih =>
    rw [cv_Ls]; unfold cv_ln
    split
    · exact cv_cl16 _
    · exact ih
/-! who writes, who reads -/
def cv_w (g : cv_G) (k v : Nat) : Prop := cv_o g k ≤ 8 ∧ cv_o g k ≠ 7 ∧ cv_x g k = v
def cv_r (g : cv_G) (k v : Nat) : Prop := (cv_o g k ≤ 3 ∧ (cv_y g k = v ∨ cv_z g k = v)) ∨ (cv_o g k = 7 ∧ cv_x g k = v) ∨ (4 ≤ cv_o g k ∧ cv_o g k ≠ 7 ∧ cv_o g k ≠ 6 ∧ cv_o g k ≤ 9 ∧ cv_y g k = v)
theorem cv_dm {v i : Nat} (h : i < 16) : (16 * v + i) / 16 = v ∧ (16 * v + i) % 16 = i := by omega
theorem cv_Vw {g : cv_G} {k v i : Nat} (hi : i < 16) (hw : cv_w g k v) (hl : i < cv_L g k) : cv_V g (k + 1) (16 * v + i) = cv_vl g k i := by
  rw [cv_Vs]; unfold cv_vn cv_vl
  rw [(cv_dm hi).1, (cv_dm hi).2, if_pos ⟨hw.1, hw.2.1, hw.2.2, hl⟩]
theorem cv_Vn {g : cv_G} {k v i : Nat} (hi : i < 16) (hw : ¬ (cv_w g k v ∧ i < cv_L g k)) : cv_V g (k + 1) (16 * v + i) = cv_V g k (16 * v + i) := by
  rw [cv_Vs]; unfold cv_vn
  rw [(cv_dm hi).1, (cv_dm hi).2, if_neg (fun z => hw ⟨⟨z.1, z.2.1, z.2.2.1⟩, z.2.2.2⟩)]
theorem cv_Vk {g : cv_G} {v i a : Nat} (hi : i < 16) : ∀ d, (∀ c, a ≤ c → c < a + d → ¬ (cv_w g c v ∧ i < cv_L g c)) → cv_V g (a + d) (16 * v + i) = cv_V g a (16 * v + i) := by
  intro d
  induction d with
  | zero => intro _; rfl
  | succ d ih =>
    intro h
    rw [← Nat.add_assoc, cv_Vn hi (h (a + d) (by omega) (by omega))]
    exact ih (fun c h1 h2 => h c h1 (by omega))
theorem cv_Vk' {g : cv_G} {v i a b : Nat} (hi : i < 16) (hab : a ≤ b) (h : ∀ c, a ≤ c → c < b → ¬ (cv_w g c v ∧ i < cv_L g c)) : cv_V g b (16 * v + i) = cv_V g a (16 * v + i) := by
  obtain ⟨d, rfl⟩ : ∃ d, b = a + d := ⟨b - a, by omega⟩
  exact cv_Vk hi d h
/-- a value asks its vectors at its own element alone -/
theorem cv_val_c {g : cv_G} {k i : Nat} {V V' S M : Nat → Int32} (h9 : cv_o g k ≤ 9) (h : ∀ v, cv_r g k v → V (16 * v + i) = V' (16 * v + i)) : cv_val g k V S M i = cv_val g k V' S M i := by
  unfold cv_val
  split
  · next h3 => rw [h _ (Or.inl ⟨h3, Or.inl rfl⟩), h _ (Or.inl ⟨h3, Or.inr rfl⟩)]
  · next h3 =>
    split
    · next h5 => rw [h _ (Or.inr (Or.inr ⟨by omega, by omega, by omega, h9, rfl⟩))]
    · next h5 =>
      split
      · rfl
      · next h6 =>
        split
        · next h7 => rw [h _ (Or.inr (Or.inl ⟨h7, rfl⟩))]
        · next h7 =>
          have e := h _ (Or.inr (Or.inr ⟨by omega, h7, h6, h9, rfl⟩))
          split
          · rw [e]
          · rw [e]
end
section
def cv_un (o : Nat) : Nat := if o = 2 then 1 else if o = 5 then 1 else if o ≤ 4 then 0 else if o ≤ 8 then 2 else 3
theorem cv_un4 (o : Nat) : cv_un o < 4 := by
  unfold cv_un
  repeat' split
  all_goals omega
/-- the core: nx instructions issued; unit u holds h u; of instruction k B k elements have begun and F k are finished -/
def cv_iC (g : cv_G) (P nx : Nat) (wk : Nat → Int32) (h B F : Nat → Nat) : Prop :=
  nx ≤ P ∧
  (∀ u, u < 4 → ¬ wk u = 0 → h u < nx ∧ cv_o g (h u) ≤ 9 ∧ cv_un (cv_o g (h u)) = u) ∧
  (∀ k, k < nx → F k ≤ B k ∧ B k ≤ cv_L g k) ∧
  (∀ k, k < nx → cv_o g k ≤ 9 → (wk (cv_un (cv_o g k)) = 0 ∨ h (cv_un (cv_o g k)) ≠ k) → F k = cv_L g k) ∧
  (∀ a b v i, a < b → b < nx → i < B b → i < cv_L g a → (cv_w g a v → (cv_w g b v ∨ cv_r g b v) → i < F a) ∧ (cv_r g a v → cv_w g b v → i < B a))
def cv_iV (g : cv_G) (nx : Nat) (F : Nat → Nat) (va : Nat → Int32) : Prop :=
  ∀ v i k, i < 16 → k ≤ nx → (∀ c, c < k → cv_w g c v → i < cv_L g c → i < F c) → (∀ c, k ≤ c → c < nx → cv_w g c v → i < cv_L g c → F c ≤ i) → va (16 * v + i) = cv_V g k (16 * v + i)
def cv_iM (g : cv_G) (nx : Nat) (wk : Nat → Int32) (h F : Nat → Nat) (ce : Nat → Int32) : Prop :=
  (wk 2 = 0 → ce = cv_M g nx) ∧ (¬ wk 2 = 0 → ce = cv_mn g (h 2) (cv_V g (h 2)) (cv_S g (h 2)) (cv_M g (h 2)) (F (h 2)) ∧ cv_M g nx = cv_M g (h 2 + 1))
def cv_iS (g : cv_G) (nx : Nat) (wk : Nat → Int32) (h F : Nat → Nat) (sc : Nat → Int32) (su : Int32) : Prop :=
  (∀ s, (wk 3 = 0 ∨ cv_x g (h 3) ≠ s) → sc s = cv_S g nx s) ∧
  (¬ wk 3 = 0 → cv_S g nx (cv_x g (h 3)) = cv_S g (h 3 + 1) (cv_x g (h 3)) ∧ su = cv_sum g (h 3) (cv_V g (h 3)) (F (h 3)))
def cv_iU (g : cv_G) (wk : Nat → Int32) (h B F : Nat → Nat) (ho co si be fi : Nat → Int32) : Prop :=
  ∀ u, u < 4 → ¬ wk u = 0 → ho u = nI (h u) ∧ co u = nI (cv_L g (h u)) ∧ be u = nI (B (h u)) ∧ fi u = nI (F (h u)) ∧
    (cv_o g (h u) = 4 ∨ cv_o g (h u) = 5 → si u = cv_S g (h u) (cv_z g (h u))) ∧ (cv_o g (h u) = 6 ∨ cv_o g (h u) = 7 → si u = cv_S g (h u) (cv_y g (h u)))
def cv_iW (g : cv_G) (wk : Nat → Int32) (h B F : Nat → Nat) (vl cf : Nat → Int32) : Prop :=
  ∀ u, u < 4 → ¬ wk u = 0 → ∀ i, F (h u) ≤ i → i < B (h u) → vl (16 * u + i) = cv_vl g (h u) i ∧ (cv_o g (h u) = 7 → cf (16 * u + i) = nI (cv_cell (cv_S g (h u) (cv_y g (h u))) (cv_Z g (h u)) i))
def cv_iT (g : cv_G) (now : Nat) (wk : Nat → Int32) (h B F T : Nat → Nat) (ry : Nat → Int32) : Prop :=
  ∀ u, u < 4 → ¬ wk u = 0 → T u ≤ 5 ∧ (B (h u) < cv_L g (h u) → T u = 5) ∧ ∀ i, F (h u) ≤ i → i < B (h u) → ∃ t, t ≤ now + T u ∧ ry (16 * u + i) = nI t
def cv_I (g : cv_G) (P nx now : Nat) (h B F T : Nat → Nat) (su : Int32) (va sc ce wk ho co si be fi vl cf ry : Nat → Int32) : Prop :=
  cv_iC g P nx wk h B F ∧ cv_iV g nx F va ∧ cv_iM g nx wk h F ce ∧ cv_iS g nx wk h F sc su ∧ cv_iU g wk h B F ho co si be fi ∧ cv_iW g wk h B F vl cf ∧ cv_iT g now wk h B F T ry
def cv_tm (g : cv_G) (wk : Nat → Int32) (h B F T : Nat → Nat) (u : Nat) : Nat := if wk u = 0 then 0 else 1 + (cv_L g (h u) - B (h u)) + (cv_L g (h u) - F (h u)) + T u
def cv_phi (g : cv_G) (P nx : Nat) (wk : Nat → Int32) (h B F T : Nat → Nat) : Nat :=
  (P - nx) * 39 + (cv_tm g wk h B F T 0 + cv_tm g wk h B F T 1 + cv_tm g wk h B F T 2 + cv_tm g wk h B F T 3)
section
variable {g : cv_G} {P nx now : Nat} {h B F T : Nat → Nat} {su : Int32} {va sc ce wk ho co si be fi vl cf ry : Nat → Int32}
theorem cv_inj (C : cv_iC g P nx wk h B F) {u u' : Nat} (hu : u < 4) (hu' : u' < 4) (w : ¬ wk u = 0) (w' : ¬ wk u' = 0) (n : u' ≠ u) : h u' ≠ h u := by
  intro e
  have a := (C.2.1 u hu w).2.2
  have b := (C.2.1 u' hu' w').2.2
  rw [e] at b
  exact n (b.symm.trans a)
/-! an element is finished -/
theorem cv_C_F (C : cv_iC g P nx wk h B F) {a : Nat} (ha : a < nx) (hF : F a < B a) : cv_iC g P nx wk h B (cv_pt F a (F a + 1)) := by
  obtain ⟨c1, c2, c3, c4, c5⟩ := C
  refine ⟨c1, c2, fun k hk => ?_, fun k hk ho hw => ?_, fun a' b v i hab hb hi hl => ?_⟩
  · have := c3 k hk
    by_cases e : k = a
    · subst e; rw [cv_ps]; exact ⟨by omega, this.2⟩
    · rw [cv_pn e]; exact this
  · have e0 := c4 k hk ho hw
    by_cases e : k = a
    · subst e; have := c3 k hk; omega
    · rw [cv_pn e]; exact e0
  · have q := c5 a' b v i hab hb hi hl
    refine ⟨fun h1 h2 => ?_, q.2⟩
    have := q.1 h1 h2
    by_cases e : a' = a
    · subst e; rw [cv_ps]; omega
    · rw [cv_pn e]; exact this
theorem cv_V_F (C : cv_iC g P nx wk h B F) (I : cv_iV g nx F va) {a i v : Nat} (ha : a < nx) (hF : F a = i) (hB : i < B a) (hi : i < 16) (hw : cv_w g a v) :
    cv_iV g nx (cv_pt F a (F a + 1)) (upd va (16 * v + i) (cv_vl g a i)) := by
  obtain ⟨c1, c2, c3, c4, c5⟩ := C
  have hl : i < cv_L g a := Nat.lt_of_lt_of_le hB (c3 a ha).2
  intro v' i' k hi' hk p q
  by_cases e : v' = v ∧ i' = i
  · obtain ⟨rfl, rfl⟩ := e
    rw [pk_us]
    have hak : a < k := by
      by_cases z : a < k
      · exact z
      · exfalso
        have := q a (by omega) ha hw hl
        rw [cv_ps] at this
        omega
    rw [cv_Vk' (a := a + 1) (b := k) hi' hak ?_, cv_Vw hi' hw hl]
    intro c hc1 hc2 hc
    have m1 := p c hc2 hc.1 hc.2
    rw [cv_pn (by omega)] at m1
    have m2 := (c3 c (by omega)).1
    have m3 := (c5 a c v' i' (by omega) (by omega) (by omega) hl).1 hw (Or.inl hc.1)
    omega
  · have hne : 16 * v' + i' ≠ 16 * v + i := by omega
    rw [pk_un hne]
    refine I v' i' k hi' hk (fun c h1 h2 h3 => ?_) (fun c h1 h2 h3 h4 => ?_)
    · have m := p c h1 h2 h3
      by_cases z : c = a
      · subst z
        rw [cv_ps] at m
        have hv : v' = v := h2.2.2.symm.trans hw.2.2
        have : i' ≠ i := fun z => e ⟨hv, z⟩
        omega
      · rw [cv_pn z] at m; exact m
    · have m := q c h1 h2 h3 h4
      by_cases z : c = a
      · subst z; rw [cv_ps] at m; omega
      · rw [cv_pn z] at m; exact m
theorem cv_V_F0 (I : cv_iV g nx F va) {a m : Nat} (hw : ∀ v, ¬ cv_w g a v) : cv_iV g nx (cv_pt F a m) va := by
  intro v i k hi hk p q
  refine I v i k hi hk (fun c h1 h2 h3 => ?_) (fun c h1 h2 h3 h4 => ?_)
  · have m := p c h1 h2 h3
    have n : c ≠ a := fun z => hw v (z ▸ h2)
    rw [cv_pn n] at m; exact m
  · have m := q c h1 h2 h3 h4
    have n : c ≠ a := fun z => hw v (z ▸ h3)
    rw [cv_pn n] at m; exact m
theorem cv_M_F0 (C : cv_iC g P nx wk h B F) (I : cv_iM g nx wk h F ce) {u m : Nat} (hu : u < 4) (w : ¬ wk u = 0) (h7 : u = 2 → cv_o g (h 2) ≠ 7) : cv_iM g nx wk h (cv_pt F (h u) m) ce := by
  refine ⟨I.1, fun w2 => ?_⟩
  have J := I.2 w2
  by_cases e : u = 2
  · subst e
    refine ⟨?_, J.2⟩
    have e1 := J.1
    unfold cv_mn at e1 ⊢
    rw [if_neg (h7 rfl)] at e1 ⊢
    exact e1
  · rw [cv_pn (cv_inj C hu (by decide) w w2 (fun z => e z.symm))]; exact J
theorem cv_M_F7 (I : cv_iM g nx wk h F ce) {i : Nat} (hF : F (h 2) = i) (w : ¬ wk 2 = 0) (h7 : cv_o g (h 2) = 7) :
    cv_iM g nx wk h (cv_pt F (h 2) (F (h 2) + 1)) (upd ce (cv_cell (cv_S g (h 2) (cv_y g (h 2))) (cv_Z g (h 2)) i) (cv_vl g (h 2) i)) := by
  refine ⟨fun z => absurd z w, fun w2 => ?_⟩
  have J := I.2 w2
  refine ⟨?_, J.2⟩
  have e1 := J.1
  rw [cv_ps, e1, hF]
  unfold cv_mn cv_vl cv_val
  rw [if_pos h7, if_pos h7, if_neg (by omega), if_neg (by omega), if_neg (by omega), if_pos h7]
  rfl
theorem cv_S_F0 (C : cv_iC g P nx wk h B F) (I : cv_iS g nx wk h F sc su) {u m : Nat} (hu : u < 4) (w : ¬ wk u = 0) (h3 : u ≠ 3) : cv_iS g nx wk h (cv_pt F (h u) m) sc su := by
  refine ⟨I.1, fun w3 => ?_⟩
  have J := I.2 w3
  rw [cv_pn (cv_inj C hu (by decide) w w3 (fun z => h3 z.symm))]; exact J
theorem cv_o9 (C : cv_iC g P nx wk h B F) {u : Nat} (hu : u < 4) (w : ¬ wk u = 0) (h3 : u = 3) : cv_o g (h u) = 9 := by
  have J := C.2.1 u hu w
  have a := J.2.1
  have b := J.2.2
  unfold cv_un at b
  revert b
  repeat' split
  all_goals (intro b; omega)
theorem cv_o2 (C : cv_iC g P nx wk h B F) {u : Nat} (hu : u < 4) (w : ¬ wk u = 0) (h3 : u = 2) : 6 ≤ cv_o g (h u) ∧ cv_o g (h u) ≤ 8 := by
  have J := C.2.1 u hu w
  have a := J.2.1
  have b := J.2.2
  unfold cv_un at b
  revert b
  repeat' split
  all_goals (intro b; omega)
theorem cv_o01 (C : cv_iC g P nx wk h B F) {u : Nat} (hu : u < 4) (w : ¬ wk u = 0) (h3 : u < 2) : cv_o g (h u) ≤ 5 := by
  have J := C.2.1 u hu w
  have a := J.2.1
  have b := J.2.2
  unfold cv_un at b
  revert b
  repeat' split
  all_goals (intro b; omega)
theorem cv_S_F3 (C : cv_iC g P nx wk h B F) (I : cv_iS g nx wk h F sc su) {i : Nat} (hF : F (h 3) = i) (w : ¬ wk 3 = 0) :
    cv_iS g nx wk h (cv_pt F (h 3) (F (h 3) + 1)) sc (su + cv_vl g (h 3) i) := by
  refine ⟨I.1, fun w3 => ?_⟩
  have J := I.2 w3
  refine ⟨J.1, ?_⟩
  have h9 := cv_o9 C (by decide) w rfl
  rw [cv_ps, J.2, hF]
  unfold cv_vl cv_val
  rw [if_neg (by omega), if_neg (by omega), if_neg (by omega), if_neg (by omega), if_neg (by omega)]
  rfl
theorem cv_U_F (C : cv_iC g P nx wk h B F) (I : cv_iU g wk h B F ho co si be fi) {u m : Nat} (hu : u < 4) (w : ¬ wk u = 0) : cv_iU g wk h B (cv_pt F (h u) m) ho co si be (upd fi u (nI m)) := by
  intro u' hu' w'
  obtain ⟨a1, a2, a3, a4, a5, a6⟩ := I u' hu' w'
  refine ⟨a1, a2, a3, ?_, a5, a6⟩
  by_cases e : u' = u
  · subst e; rw [cv_ps, pk_us]
  · rw [cv_pn (cv_inj C hu hu' w w' e), pk_un e]; exact a4
theorem cv_W_F {F' : Nat → Nat} (I : cv_iW g wk h B F vl cf) (hF : ∀ k, F k ≤ F' k) : cv_iW g wk h B F' vl cf :=
  fun u hu w i h1 h2 => I u hu w i (Nat.le_trans (hF _) h1) h2
theorem cv_T_F {F' : Nat → Nat} (I : cv_iT g now wk h B F T ry) (hF : ∀ k, F k ≤ F' k) : cv_iT g now wk h B F' T ry :=
  fun u hu w => ⟨(I u hu w).1, (I u hu w).2.1, fun i h1 h2 => (I u hu w).2.2 i (Nat.le_trans (hF _) h1) h2⟩
theorem cv_pt_ge {a m : Nat} (hm : F a ≤ m) (k : Nat) : F k ≤ cv_pt F a m k := by
  by_cases e : k = a
  · subst e; rw [cv_ps]; exact hm
  · rw [cv_pn e]; exact Nat.le_refl _
/-! a unit is freed -/
theorem cv_wf {u u' : Nat} {x : Int32} (e : u' ≠ u) : upd wk u x u' = wk u' := pk_un e
theorem cv_wz {u u' : Nat} (w : ¬ upd wk u 0 u' = 0) : u' ≠ u ∧ ¬ wk u' = 0 := by
  by_cases e : u' = u
  · subst e; exact absurd pk_us w
  · rw [pk_un e] at w; exact ⟨e, w⟩
theorem cv_C_free (C : cv_iC g P nx wk h B F) {u : Nat} (hF : F (h u) = cv_L g (h u)) : cv_iC g P nx (upd wk u 0) h B F := by
  obtain ⟨c1, c2, c3, c4, c5⟩ := C
  refine ⟨c1, fun u' hu' w' => c2 u' hu' (cv_wz w').2, c3, fun k hk ho hw => ?_, c5⟩
  by_cases e : cv_un (cv_o g k) = u
  · by_cases e2 : h u = k
    · rw [← e2]; exact hF
    · exact c4 k hk ho (Or.inr (by rw [e]; exact e2))
  · rw [pk_un e] at hw; exact c4 k hk ho hw
theorem cv_U_free (I : cv_iU g wk h B F ho co si be fi) {u : Nat} : cv_iU g (upd wk u 0) h B F ho co si be fi := fun u' hu' w' => I u' hu' (cv_wz w').2
theorem cv_W_free (I : cv_iW g wk h B F vl cf) {u : Nat} : cv_iW g (upd wk u 0) h B F vl cf := fun u' hu' w' => I u' hu' (cv_wz w').2
theorem cv_T_free (I : cv_iT g now wk h B F T ry) {u : Nat} : cv_iT g now (upd wk u 0) h B F T ry := fun u' hu' w' => I u' hu' (cv_wz w').2
theorem cv_M_free (I : cv_iM g nx wk h F ce) {u : Nat} (w : ¬ wk u = 0) (hF : F (h u) = cv_L g (h u)) : cv_iM g nx (upd wk u 0) h F ce := by
  by_cases e : u = 2
  · subst e
    have J := I.2 w
    refine ⟨fun _ => ?_, fun z => absurd pk_us z⟩
    rw [J.1, J.2, hF]; rfl
  · rw [cv_iM, pk_un (fun z => e z.symm)]; exact I
theorem cv_S_free (I : cv_iS g nx wk h F sc su) {u : Nat} (h3 : u ≠ 3) : cv_iS g nx (upd wk u 0) h F sc su := by
  rw [cv_iS, pk_un (fun z => h3 z.symm)]; exact I
theorem cv_S_free3 (C : cv_iC g P nx wk h B F) (I : cv_iS g nx wk h F sc su) (w : ¬ wk 3 = 0) (hF : F (h 3) = cv_L g (h 3)) : cv_iS g nx (upd wk 3 0) h F (upd sc (cv_x g (h 3)) su) su := by
  have h9 := cv_o9 C (by decide) w rfl
  have J := I.2 w
  refine ⟨fun s _ => ?_, fun z => absurd pk_us z⟩
  by_cases e : s = cv_x g (h 3)
  · subst e
    rw [pk_us, J.1, J.2, cv_Ss, hF]
    unfold cv_sn
    rw [if_pos h9, pk_us]
  · rw [pk_un e]; exact I.1 s (Or.inr (fun z => e z.symm))
end
end
section
section
variable {g : cv_G} {P nx now : Nat} {h B F T : Nat → Nat} {su : Int32} {va sc ce wk ho co si be fi vl cf ry : Nat → Int32}
/-! an element begins -/
/-- nothing older stands in the way of element i of instruction a -/
def cv_free (g : cv_G) (B F : Nat → Nat) (a i : Nat) : Prop :=
  ∀ c v, c < a → i < cv_L g c → (cv_w g c v → (cv_w g a v ∨ cv_r g a v) → i < F c) ∧ (cv_r g c v → cv_w g a v → i < B c)
def cv_may (g : cv_G) (B F : Nat → Nat) (a i c : Nat) : Prop :=
  i < cv_L g c → ∀ v, v < 4 → (cv_w g c v → (cv_w g a v ∨ cv_r g a v) → i < F c) ∧ (cv_r g c v → cv_w g a v → i < B c)
theorem cv_r9 {a v : Nat} (r : cv_r g a v) : cv_o g a ≤ 9 := by
  rcases r with r | r | r <;> omega
theorem cv_free_of (C : cv_iC g P nx wk h B F) (hx : ∀ k, k < P → cv_x g k < 4) {a i : Nat} (ha : a < nx)
    (M : ∀ u, u < 4 → ¬ wk u = 0 → h u < a → cv_may g B F a i (h u)) : cv_free g B F a i := by
  obtain ⟨c1, c2, c3, c4, c5⟩ := C
  intro c v hc hl
  by_cases h9 : cv_o g c ≤ 9
  · by_cases act : wk (cv_un (cv_o g c)) = 0 ∨ h (cv_un (cv_o g c)) ≠ c
    · have e := c4 c (by omega) h9 act
      have e2 := (c3 c (by omega)).1
      exact ⟨fun _ _ => by omega, fun _ _ => by omega⟩
    · have w : ¬ wk (cv_un (cv_o g c)) = 0 := fun z => act (Or.inl z)
      have e : h (cv_un (cv_o g c)) = c := Decidable.byContradiction (fun z => act (Or.inr z))
      have m := M _ (cv_un4 _) w (by rw [e]; exact hc)
      rw [e] at m
      refine ⟨fun w1 w2 => ?_, fun w1 w2 => ?_⟩
      · exact (m hl v (by rw [← w1.2.2]; exact hx c (by omega))).1 w1 w2
      · exact (m hl v (by rw [← w2.2.2]; exact hx a (by omega))).2 w1 w2
  · exact ⟨fun w1 _ => absurd (Nat.le_trans w1.1 (by decide)) h9, fun w1 _ => absurd (cv_r9 w1) h9⟩
theorem cv_C_B (C : cv_iC g P nx wk h B F) {a i : Nat} (ha : a < nx) (hB : B a = i) (hL : i < cv_L g a) (H : cv_free g B F a i) : cv_iC g P nx wk h (cv_pt B a (i + 1)) F := by
  obtain ⟨c1, c2, c3, c4, c5⟩ := C
  refine ⟨c1, c2, fun k hk => ?_, c4, fun a' b v i' hab hb hi hl => ?_⟩
  · have := c3 k hk
    by_cases e : k = a
    · subst e; rw [cv_ps]; exact ⟨by omega, by omega⟩
    · rw [cv_pn e]; exact this
  · have up : i' < B a' → i' < cv_pt B a (i + 1) a' := fun z => Nat.lt_of_lt_of_le z (cv_pt_ge (by omega) a')
    have k : (cv_w g a' v → (cv_w g b v ∨ cv_r g b v) → i' < F a') ∧ (cv_r g a' v → cv_w g b v → i' < B a') := by
      by_cases e : b = a
      · subst e
        rw [cv_ps] at hi
        by_cases e2 : i' = i
        · subst e2; exact H a' v hab hl
        · exact c5 a' b v i' hab hb (by omega) hl
      · rw [cv_pn e] at hi; exact c5 a' b v i' hab hb hi hl
    exact ⟨k.1, fun r w => up (k.2 r w)⟩
theorem cv_rd (C : cv_iC g P nx wk h B F) (I : cv_iV g nx F va) {a i v : Nat} (ha : a < nx) (hB : B a = i) (hL : i < cv_L g a) (hi : i < 16) (H : cv_free g B F a i) (hr : cv_r g a v) :
    va (16 * v + i) = cv_V g a (16 * v + i) := by
  obtain ⟨c1, c2, c3, c4, c5⟩ := C
  refine I v i a hi (Nat.le_of_lt ha) (fun c hc hw hl => (H c v hc hl).1 hw (Or.inr hr)) (fun c h1 h2 hw hl => ?_)
  refine Nat.le_of_not_lt (fun z => ?_)
  have z2 : i < B c := Nat.lt_of_lt_of_le z (c3 c h2).1
  by_cases e : c = a
  · subst e; omega
  · have := (c5 a c v i (by omega) h2 z2 hL).2 hr hw
    omega
theorem cv_U_B (C : cv_iC g P nx wk h B F) (I : cv_iU g wk h B F ho co si be fi) {u m : Nat} (hu : u < 4) (w : ¬ wk u = 0) : cv_iU g wk h (cv_pt B (h u) m) F ho co si (upd be u (nI m)) fi := by
  intro u' hu' w'
  obtain ⟨a1, a2, a3, a4, a5, a6⟩ := I u' hu' w'
  refine ⟨a1, a2, ?_, a4, a5, a6⟩
  by_cases e : u' = u
  · subst e; rw [cv_ps, pk_us]
  · rw [cv_pn (cv_inj C hu hu' w w' e), pk_un e]; exact a3
theorem cv_W_B (C : cv_iC g P nx wk h B F) (hg : ∀ k, cv_L g k ≤ 16) (I : cv_iW g wk h B F vl cf) {u i : Nat} {x : Int32} {cf' : Nat → Int32} (hu : u < 4) (w : ¬ wk u = 0) (hB : B (h u) = i) (hi : i < 16)
    (hx : x = cv_vl g (h u) i) (hc : ∀ j, j ≠ 16 * u + i → cf' j = cf j) (h7 : cv_o g (h u) = 7 → cf' (16 * u + i) = nI (cv_cell (cv_S g (h u) (cv_y g (h u))) (cv_Z g (h u)) i)) :
    cv_iW g wk h (cv_pt B (h u) (i + 1)) F (upd vl (16 * u + i) x) cf' := by
  intro u' hu' w' i' h1 h2
  by_cases e : u' = u
  · subst e
    rw [cv_ps] at h2
    by_cases e2 : i' = i
    · subst e2; rw [pk_us]; exact ⟨hx, h7⟩
    · rw [pk_un (by omega), hc _ (by omega)]
      exact I u' hu' w' i' h1 (by omega)
  · rw [cv_pn (cv_inj C hu hu' w w' e)] at h2
    have l1 := (C.2.2.1 (h u') (C.2.1 u' hu' w').1).2
    have l2 := hg (h u')
    rw [pk_un (by omega), hc _ (by omega)]
    exact I u' hu' w' i' h1 h2
theorem cv_T_B (C : cv_iC g P nx wk h B F) (hg : ∀ k, cv_L g k ≤ 16) (I : cv_iT g now wk h B F T ry) {u i D : Nat} (hu : u < 4) (w : ¬ wk u = 0) (hB : B (h u) = i) (hi : i < 16) (hL : i < cv_L g (h u)) (hD : D ≤ 5) :
    cv_iT g now wk h (cv_pt B (h u) (i + 1)) F T (upd ry (16 * u + i) (nI now + nI D)) := by
  intro u' hu' w'
  obtain ⟨t1, t2, t3⟩ := I u' hu' w'
  by_cases e : u' = u
  · subst e
    have t5 := t2 (by omega)
    refine ⟨t1, fun _ => t5, fun i' h1 h2 => ?_⟩
    rw [cv_ps] at h2
    by_cases e2 : i' = i
    · subst e2; rw [pk_us]; exact ⟨now + D, by omega, nI_add _ _⟩
    · rw [pk_un (by omega)]; exact t3 i' h1 (by omega)
  · rw [cv_pn (cv_inj C hu hu' w w' e)]
    refine ⟨t1, t2, fun i' h1 h2 => ?_⟩
    have l1 := (C.2.2.1 (h u') (C.2.1 u' hu' w').1).2
    have l2 := hg (h u')
    rw [pk_un (by omega)]; exact t3 i' h1 h2
/-! an instruction is issued -/
theorem cv_wo {u u' : Nat} (e : u' ≠ u) (w : ¬ upd wk u 1 u' = 0) : ¬ wk u' = 0 := by rw [pk_un e] at w; exact w
theorem cv_C_iss (C : cv_iC g P nx wk h B F) {u : Nat} (hn : nx < P) (h9 : cv_o g nx ≤ 9) (hu : cv_un (cv_o g nx) = u) (w : wk u = 0) :
    cv_iC g P (nx + 1) (upd wk u 1) (cv_pt h u nx) (cv_pt B nx 0) (cv_pt F nx 0) := by
  obtain ⟨c1, c2, c3, c4, c5⟩ := C
  refine ⟨hn, fun u' hu' w' => ?_, fun k hk => ?_, fun k hk ho hw => ?_, fun a b v i hab hb hi hl => ?_⟩
  · by_cases e : u' = u
    · subst e; rw [cv_ps]; exact ⟨by omega, h9, hu⟩
    · rw [cv_pn e]
      have := c2 u' hu' (cv_wo e w')
      exact ⟨by omega, this.2⟩
  · by_cases e : k = nx
    · subst e; rw [cv_ps, cv_ps]; exact ⟨Nat.le_refl _, Nat.zero_le _⟩
    · rw [cv_pn e, cv_pn e]; exact c3 k (by omega)
  · by_cases e : k = nx
    · subst e
      rw [hu, pk_us, cv_ps] at hw
      rcases hw with z | z
      · exact absurd z cv_10
      · exact absurd rfl z
    · rw [cv_pn e]
      refine c4 k (by omega) ho ?_
      by_cases e2 : cv_un (cv_o g k) = u
      · exact Or.inl (by rw [e2]; exact w)
      · rw [pk_un e2, cv_pn e2] at hw; exact hw
  · by_cases e : b = nx
    · subst e; rw [cv_ps] at hi; exact absurd hi (Nat.not_lt_zero _)
    · rw [cv_pn e] at hi
      have q := c5 a b v i hab (by omega) hi hl
      rw [cv_pn (by omega), cv_pn (by omega)]; exact q
theorem cv_C_sc (C : cv_iC g P nx wk h B F) (hn : nx < P) (h10 : 10 ≤ cv_o g nx) : cv_iC g P (nx + 1) wk h (cv_pt B nx 0) (cv_pt F nx 0) := by
  obtain ⟨c1, c2, c3, c4, c5⟩ := C
  refine ⟨hn, fun u' hu' w' => ?_, fun k hk => ?_, fun k hk ho hw => ?_, fun a b v i hab hb hi hl => ?_⟩
  · have := c2 u' hu' w'
    exact ⟨by omega, this.2⟩
  · by_cases e : k = nx
    · subst e; rw [cv_ps, cv_ps]; exact ⟨Nat.le_refl _, Nat.zero_le _⟩
    · rw [cv_pn e, cv_pn e]; exact c3 k (by omega)
  · have e : k ≠ nx := by intro e; subst e; omega
    rw [cv_pn e]; exact c4 k (by omega) ho hw
  · by_cases e : b = nx
    · subst e; rw [cv_ps] at hi; exact absurd hi (Nat.not_lt_zero _)
    · rw [cv_pn e] at hi
      have q := c5 a b v i hab (by omega) hi hl
      rw [cv_pn (by omega), cv_pn (by omega)]; exact q
theorem cv_V_iss (I : cv_iV g nx F va) : cv_iV g (nx + 1) (cv_pt F nx 0) va := by
  intro v i k hi hk p q
  by_cases e : k = nx + 1
  · subst e
    have hn : ¬ (cv_w g nx v ∧ i < cv_L g nx) := fun z => by
      have := p nx (Nat.lt_succ_self _) z.1 z.2
      rw [cv_ps] at this
      omega
    rw [cv_Vn hi hn]
    refine I v i nx hi (Nat.le_refl _) (fun c h1 h2 h3 => ?_) (fun c h1 h2 => absurd h2 (by omega))
    have m := p c (by omega) h2 h3
    rw [cv_pn (by omega)] at m; exact m
  · refine I v i k hi (by omega) (fun c h1 h2 h3 => ?_) (fun c h1 h2 h3 h4 => ?_)
    · have m := p c h1 h2 h3
      rw [cv_pn (by omega)] at m; exact m
    · have m := q c h1 (by omega) h3 h4
      rw [cv_pn (by omega)] at m; exact m
theorem cv_U_iss (C : cv_iC g P nx wk h B F) (I : cv_iU g wk h B F ho co si be fi) {u : Nat} {si' : Nat → Int32}
    (s1 : cv_o g nx = 4 ∨ cv_o g nx = 5 → si' u = cv_S g nx (cv_z g nx)) (s2 : cv_o g nx = 6 ∨ cv_o g nx = 7 → si' u = cv_S g nx (cv_y g nx)) (s3 : ∀ j, j ≠ u → si' j = si j) :
    cv_iU g (upd wk u 1) (cv_pt h u nx) (cv_pt B nx 0) (cv_pt F nx 0) (upd ho u (nI nx)) (upd co u (nI (cv_L g nx))) si' (upd be u (nI 0)) (upd fi u (nI 0)) := by
  intro u' hu' w'
  by_cases e : u' = u
  · subst e
    rw [cv_ps, cv_ps, cv_ps, pk_us, pk_us, pk_us, pk_us]
    exact ⟨rfl, rfl, rfl, rfl, s1, s2⟩
  · have w := cv_wo e w'
    have n : h u' ≠ nx := Nat.ne_of_lt (C.2.1 u' hu' w).1
    rw [cv_pn e, cv_pn n, cv_pn n, pk_un e, pk_un e, pk_un e, pk_un e, s3 _ e]
    exact I u' hu' w
theorem cv_W_iss (C : cv_iC g P nx wk h B F) (I : cv_iW g wk h B F vl cf) {u : Nat} : cv_iW g (upd wk u 1) (cv_pt h u nx) (cv_pt B nx 0) (cv_pt F nx 0) vl cf := by
  intro u' hu' w' i h1 h2
  by_cases e : u' = u
  · subst e; rw [cv_ps, cv_ps] at h2; exact absurd h2 (Nat.not_lt_zero _)
  · have w := cv_wo e w'
    have n : h u' ≠ nx := Nat.ne_of_lt (C.2.1 u' hu' w).1
    rw [cv_pn e] at h1 h2 ⊢
    rw [cv_pn n] at h1 h2
    exact I u' hu' w i h1 h2
theorem cv_T_iss (C : cv_iC g P nx wk h B F) (I : cv_iT g now wk h B F T ry) {u : Nat} : cv_iT g now (upd wk u 1) (cv_pt h u nx) (cv_pt B nx 0) (cv_pt F nx 0) (cv_pt T u 5) ry := by
  intro u' hu' w'
  by_cases e : u' = u
  · subst e
    rw [cv_ps, cv_ps, cv_ps, cv_ps]
    exact ⟨Nat.le_refl _, fun _ => rfl, fun i _ h2 => absurd h2 (Nat.not_lt_zero _)⟩
  · have w := cv_wo e w'
    have n : h u' ≠ nx := Nat.ne_of_lt (C.2.1 u' hu' w).1
    rw [cv_pn e, cv_pn e, cv_pn n, cv_pn n]
    exact I u' hu' w
theorem cv_M_eq (h7 : cv_o g nx ≠ 7) : cv_M g (nx + 1) = cv_M g nx := by
  rw [cv_Ms]; unfold cv_mn; rw [if_neg h7]
theorem cv_M_iss (C : cv_iC g P nx wk h B F) (I : cv_iM g nx wk h F ce) {u : Nat} (h9 : cv_o g nx ≤ 9) (hu : cv_un (cv_o g nx) = u) (w : wk u = 0) :
    cv_iM g (nx + 1) (upd wk u 1) (cv_pt h u nx) (cv_pt F nx 0) ce := by
  by_cases e : u = 2
  · subst e
    refine ⟨fun z => absurd (pk_us.symm.trans z) cv_10, fun _ => ?_⟩
    rw [cv_ps, cv_ps]
    refine ⟨?_, rfl⟩
    rw [I.1 w]
    unfold cv_mn
    split <;> rfl
  · have h7 : cv_o g nx ≠ 7 := by
      intro z
      apply e
      rw [← hu, z]
      rfl
    have e2 : 2 ≠ u := fun z => e z.symm
    refine ⟨fun z => ?_, fun z => ?_⟩
    · rw [pk_un e2] at z
      rw [cv_M_eq h7]; exact I.1 z
    · rw [pk_un e2] at z
      have n : h 2 ≠ nx := Nat.ne_of_lt (C.2.1 2 (by decide) z).1
      rw [cv_pn e2, cv_pn n, cv_M_eq h7]; exact I.2 z
theorem cv_S_eq (h9 : cv_o g nx ≤ 8) : cv_S g (nx + 1) = cv_S g nx := by
  rw [cv_Ss]; unfold cv_sn; rw [if_neg (by omega), if_neg (by omega), if_neg (by omega)]
theorem cv_S_iss (C : cv_iC g P nx wk h B F) (I : cv_iS g nx wk h F sc su) {u : Nat} (h8 : cv_o g nx ≤ 8) (hu : u ≠ 3) : cv_iS g (nx + 1) (upd wk u 1) (cv_pt h u nx) (cv_pt F nx 0) sc su := by
  have e2 : 3 ≠ u := fun z => hu z.symm
  rw [cv_iS, pk_un e2, cv_pn e2, cv_S_eq h8]
  refine ⟨I.1, fun w => ?_⟩
  have n : h 3 ≠ nx := Nat.ne_of_lt (C.2.1 3 (by decide) w).1
  rw [cv_pn n]; exact I.2 w
theorem cv_S_iss3 (I : cv_iS g nx wk h F sc su) (h9 : cv_o g nx = 9) (w : wk 3 = 0) : cv_iS g (nx + 1) (upd wk 3 1) (cv_pt h 3 nx) (cv_pt F nx 0) sc 0 := by
  rw [cv_iS, pk_us, cv_ps, cv_ps]
  refine ⟨fun s z => ?_, fun _ => ⟨rfl, rfl⟩⟩
  rcases z with z | z
  · exact absurd z cv_10
  · rw [I.1 s (Or.inl w), cv_Ss]
    unfold cv_sn
    rw [if_pos h9, pk_un (fun q => z q.symm)]
theorem cv_S_sc (C : cv_iC g P nx wk h B F) (I : cv_iS g nx wk h F sc su) {sc' : Nat → Int32} (h1 : ∀ s, (wk 3 = 0 ∨ cv_x g (h 3) ≠ s) → sc' s = cv_S g (nx + 1) s)
    (h2 : ¬ wk 3 = 0 → cv_S g (nx + 1) (cv_x g (h 3)) = cv_S g nx (cv_x g (h 3))) : cv_iS g (nx + 1) wk h (cv_pt F nx 0) sc' su := by
  refine ⟨h1, fun w => ?_⟩
  have n : h 3 ≠ nx := Nat.ne_of_lt (C.2.1 3 (by decide) w).1
  rw [cv_pn n, h2 w]; exact I.2 w
theorem cv_M_sc (C : cv_iC g P nx wk h B F) (I : cv_iM g nx wk h F ce) (h10 : 10 ≤ cv_o g nx) : cv_iM g (nx + 1) wk h (cv_pt F nx 0) ce := by
  have e := cv_M_eq (g := g) (nx := nx) (by omega)
  refine ⟨fun z => ?_, fun w => ?_⟩
  · rw [e]; exact I.1 z
  · have n : h 2 ≠ nx := Nat.ne_of_lt (C.2.1 2 (by decide) w).1
    rw [cv_pn n, e]; exact I.2 w
theorem cv_U_sc (C : cv_iC g P nx wk h B F) (I : cv_iU g wk h B F ho co si be fi) : cv_iU g wk h (cv_pt B nx 0) (cv_pt F nx 0) ho co si be fi := by
  intro u hu w
  have n : h u ≠ nx := Nat.ne_of_lt (C.2.1 u hu w).1
  rw [cv_pn n, cv_pn n]; exact I u hu w
theorem cv_W_sc (C : cv_iC g P nx wk h B F) (I : cv_iW g wk h B F vl cf) : cv_iW g wk h (cv_pt B nx 0) (cv_pt F nx 0) vl cf := by
  intro u hu w
  have n : h u ≠ nx := Nat.ne_of_lt (C.2.1 u hu w).1
  rw [cv_pn n, cv_pn n]; exact I u hu w
theorem cv_T_sc (C : cv_iC g P nx wk h B F) (I : cv_iT g now wk h B F T ry) : cv_iT g now wk h (cv_pt B nx 0) (cv_pt F nx 0) T ry := by
  intro u hu w
  have n : h u ≠ nx := Nat.ne_of_lt (C.2.1 u hu w).1
  rw [cv_pn n, cv_pn n]; exact I u hu w
/-! time goes on -/
def cv_tick (g : cv_G) (h B T : Nat → Nat) : Nat → Nat := fun u => if B (h u) < cv_L g (h u) then 5 else T u - 1
theorem cv_T_tick (I : cv_iT g now wk h B F T ry) : cv_iT g (now + 1) wk h B F (cv_tick g h B T) ry := by
  intro u hu w
  obtain ⟨t1, t2, t3⟩ := I u hu w
  unfold cv_tick
  by_cases e : B (h u) < cv_L g (h u)
  · rw [if_pos e]
    have t5 := t2 e
    refine ⟨Nat.le_refl _, fun _ => rfl, fun i h1 h2 => ?_⟩
    obtain ⟨t, ht, et⟩ := t3 i h1 h2
    exact ⟨t, by omega, et⟩
  · rw [if_neg e]
    refine ⟨by omega, fun z => absurd z e, fun i h1 h2 => ?_⟩
    obtain ⟨t, ht, et⟩ := t3 i h1 h2
    exact ⟨t, by omega, et⟩
/-! the measure -/
theorem cv_tm_le {wk' : Nat → Int32} {B' F' T' : Nat → Nat} {u : Nat} (hw : wk' u = 0 ∨ ¬ wk u = 0) (hB : B (h u) ≤ B' (h u)) (hF : F (h u) ≤ F' (h u)) (hT : ¬ wk' u = 0 → T' u ≤ T u) :
    cv_tm g wk' h B' F' T' u ≤ cv_tm g wk h B F T u := by
  unfold cv_tm
  by_cases e : wk' u = 0
  · rw [if_pos e]; exact Nat.zero_le _
  · have hT := hT e
    rw [if_neg e, if_neg (hw.resolve_left e)]
    omega
theorem cv_tm_lt {B' F' T' : Nat → Nat} {u : Nat} (w : ¬ wk u = 0) (hB : B (h u) ≤ B' (h u)) (hF : F (h u) ≤ F' (h u)) (hT : T' u ≤ T u)
    (hs : (B (h u) < B' (h u) ∧ B (h u) < cv_L g (h u)) ∨ (F (h u) < F' (h u) ∧ F (h u) < cv_L g (h u)) ∨ T' u < T u) : cv_tm g wk h B' F' T' u < cv_tm g wk h B F T u := by
  unfold cv_tm
  rw [if_neg w, if_neg w]
  omega
theorem cv_tm_z {wk' : Nat → Int32} {B' F' T' : Nat → Nat} {u : Nat} (w : ¬ wk u = 0) (w' : wk' u = 0) : cv_tm g wk' h B' F' T' u < cv_tm g wk h B F T u := by
  unfold cv_tm
  rw [if_neg w, if_pos w']
  omega
theorem cv_phi_le {wk' : Nat → Int32} {h' B' F' T' : Nat → Nat} (H : ∀ u, u < 4 → cv_tm g wk' h' B' F' T' u ≤ cv_tm g wk h B F T u) : cv_phi g P nx wk' h' B' F' T' ≤ cv_phi g P nx wk h B F T := by
  have := H 0 (by decide); have := H 1 (by decide); have := H 2 (by decide); have := H 3 (by decide)
  unfold cv_phi; omega
theorem cv_phi_lt {wk' : Nat → Int32} {h' B' F' T' : Nat → Nat} {u : Nat} (hu : u < 4) (H : ∀ u, u < 4 → cv_tm g wk' h' B' F' T' u ≤ cv_tm g wk h B F T u) (hs : cv_tm g wk' h' B' F' T' u < cv_tm g wk h B F T u) : cv_phi g P nx wk' h' B' F' T' < cv_phi g P nx wk h B F T := by
  have := H 0 (by decide); have := H 1 (by decide); have := H 2 (by decide); have := H 3 (by decide)
  have c : u = 0 ∨ u = 1 ∨ u = 2 ∨ u = 3 := by omega
  unfold cv_phi
  rcases c with rfl | rfl | rfl | rfl <;> omega
theorem cv_phi_iss (C : cv_iC g P nx wk h B F) (hg : ∀ k, cv_L g k ≤ 16) {u : Nat} (hu : u < 4) (w : wk u = 0) (hn : nx < P) :
    cv_phi g P (nx + 1) (upd wk u 1) (cv_pt h u nx) (cv_pt B nx 0) (cv_pt F nx 0) (cv_pt T u 5) < cv_phi g P nx wk h B F T := by
  have A : ∀ u', u' < 4 → u' ≠ u → cv_tm g (upd wk u 1) (cv_pt h u nx) (cv_pt B nx 0) (cv_pt F nx 0) (cv_pt T u 5) u' ≤ cv_tm g wk h B F T u' := by
    intro u' hu' e
    unfold cv_tm
    rw [pk_un e, cv_pn e, cv_pn e]
    by_cases z : wk u' = 0
    · rw [if_pos z, if_pos z]; exact Nat.le_refl _
    · have n : h u' ≠ nx := Nat.ne_of_lt (C.2.1 u' hu' z).1
      rw [if_neg z, if_neg z, cv_pn n, cv_pn n]; exact Nat.le_refl _
  have A2 : cv_tm g (upd wk u 1) (cv_pt h u nx) (cv_pt B nx 0) (cv_pt F nx 0) (cv_pt T u 5) u ≤ 38 := by
    unfold cv_tm
    rw [pk_us, if_neg cv_10, cv_ps, cv_ps, cv_ps, cv_ps]
    have := hg nx
    omega
  have A3 : cv_tm g wk h B F T u = 0 := by unfold cv_tm; rw [if_pos w]
  have c : u = 0 ∨ u = 1 ∨ u = 2 ∨ u = 3 := by omega
  unfold cv_phi
  rcases c with rfl | rfl | rfl | rfl
  · have := A 1 (by decide) (by decide); have := A 2 (by decide) (by decide); have := A 3 (by decide) (by decide); omega
  · have := A 0 (by decide) (by decide); have := A 2 (by decide) (by decide); have := A 3 (by decide) (by decide); omega
  · have := A 0 (by decide) (by decide); have := A 1 (by decide) (by decide); have := A 3 (by decide) (by decide); omega
  · have := A 0 (by decide) (by decide); have := A 1 (by decide) (by decide); have := A 2 (by decide) (by decide); omega
theorem cv_phi_sc (C : cv_iC g P nx wk h B F) (hn : nx < P) : cv_phi g P (nx + 1) wk h (cv_pt B nx 0) (cv_pt F nx 0) T < cv_phi g P nx wk h B F T := by
  have A : ∀ u', u' < 4 → cv_tm g wk h (cv_pt B nx 0) (cv_pt F nx 0) T u' ≤ cv_tm g wk h B F T u' := by
    intro u' hu'
    unfold cv_tm
    by_cases z : wk u' = 0
    · rw [if_pos z, if_pos z]; exact Nat.le_refl _
    · have n : h u' ≠ nx := Nat.ne_of_lt (C.2.1 u' hu' z).1
      rw [if_neg z, if_neg z, cv_pn n, cv_pn n]; exact Nat.le_refl _
  have := A 0 (by decide); have := A 1 (by decide); have := A 2 (by decide); have := A 3 (by decide)
  unfold cv_phi
  omega
end
end
section
/-- instruction k is well formed -/
def cv_pr (g : cv_G) (k : Nat) : Prop := cv_o g k ≤ 12 ∧ cv_x g k < 4 ∧ (cv_o g k ≠ 10 → cv_o g k ≠ 12 → cv_Y g k = nI (cv_y g k) ∧ cv_y g k < 4) ∧ (cv_o g k ≤ 5 ∨ cv_o g k = 11 → cv_Z g k = nI (cv_z g k) ∧ cv_z g k < 4)
def cv_Pr (g : cv_G) (P : Nat) (op fX fY fZ : Nat → Int32) : Prop := ∀ k, k < P → cv_pr g k ∧ op k = nI (cv_o g k) ∧ fX k = nI (cv_x g k) ∧ fY k = cv_Y g k ∧ fZ k = cv_Z g k
theorem cv_vn_i {g : cv_G} {k v i : Nat} {V S M : Nat → Int32} (hi : i < 16) : cv_vn g k V S M i (16 * v + i) = V (16 * v + i) := by
  unfold cv_vn
  rw [(cv_dm hi).2, if_neg (fun z => absurd z.2.2.2 (Nat.lt_irrefl _))]
theorem cv_mn_n {g : cv_G} {k n : Nat} {V S M : Nat → Int32} (h7 : cv_o g k ≠ 7) : cv_mn g k V S M n = M := by unfold cv_mn; rw [if_neg h7]
theorem cv_vn_n {g : cv_G} {k n : Nat} {V S M : Nat → Int32} (h7 : cv_o g k = 7 ∨ 9 ≤ cv_o g k) : cv_vn g k V S M n = V := by
  funext j; unfold cv_vn; rw [if_neg (fun z => by omega)]
theorem cv_vn_s {g : cv_G} {k i : Nat} {V S M : Nat → Int32} (h8 : cv_o g k ≤ 8) (h7 : cv_o g k ≠ 7) (hi : i < 16) :
    upd (cv_vn g k V S M i) (16 * cv_x g k + i) (cv_val g k (cv_vn g k V S M i) S (cv_mn g k V S M i) i) = cv_vn g k V S M (i + 1) := by
  rw [cv_mn_n h7, cv_val_c (V' := V) (by omega) (fun v _ => cv_vn_i hi)]
  funext j
  by_cases e : j = 16 * cv_x g k + i
  · subst e
    rw [pk_us]
    show _ = if _ then _ else _
    rw [(cv_dm hi).1, (cv_dm hi).2, if_pos ⟨h8, h7, rfl, by omega⟩]
  · rw [pk_un e]
    show (if _ then _ else _) = if _ then _ else _
    by_cases c : cv_o g k ≤ 8 ∧ cv_o g k ≠ 7 ∧ cv_x g k = j / 16 ∧ j % 16 < i
    · rw [if_pos c, if_pos ⟨c.1, c.2.1, c.2.2.1, by omega⟩]
    · rw [if_neg c, if_neg (fun z => c ⟨z.1, z.2.1, z.2.2.1, by omega⟩)]
theorem cv_mn_s {g : cv_G} {k i : Nat} {V S M : Nat → Int32} (h7 : cv_o g k = 7) :
    upd (cv_mn g k V S M i) (cv_cell (S (cv_y g k)) (cv_Z g k) i) (V (16 * cv_x g k + i)) = cv_mn g k V S M (i + 1) := by
  unfold cv_mn; rw [if_pos h7, if_pos h7]; rfl
theorem cy_result {post : Int32 → Prop} {u : SY} {o : Nat} {a b : Int32} (ho : o < 64) (H : post (cv_res o a b)) : wpY_result post u (nI o) a b := by
  obtain ⟨yN, yn, va, sc, ce, op, fX, fY, fZ⟩ := u
  unfold cv_res at H
  unfold wpY_result
  refine pk_eq o 0 (fun e => ?_) (fun e => ?_)
  · rw [if_pos e] at H; exact H
  rw [if_neg e] at H
  refine pk_eq o 4 (fun e => ?_) (fun e => ?_)
  · rw [if_pos e] at H; exact H
  rw [if_neg e] at H
  refine pk_eq o 1 (fun e => ?_) (fun e => ?_)
  · rw [if_pos e] at H; exact H
  rw [if_neg e] at H
  refine pk_eq o 2 (fun e => ?_) (fun e => ?_)
  · rw [if_pos e] at H; exact H
  rw [if_neg e] at H
  refine pk_eq o 5 (fun e => ?_) (fun e => ?_)
  · rw [if_pos e] at H; exact H
  rw [if_neg e] at H
  refine br_c (fun e => ?_) (fun e => ?_)
  · rw [if_pos e] at H; exact H
  · rw [if_neg e] at H; exact H
section
variable {g : cv_G} {k : Nat} {yN yn : Int32} {va sc ce op fX fY fZ : Nat → Int32} {post : SY → Prop}
theorem cy_elem {i : Nat} (Hk : cv_pr g k) (hi : i < 16) (h8 : cv_o g k ≤ 8) (h7 : cv_o g k ≠ 7) (H : post (yN, yn, upd va (16 * cv_x g k + i) (cv_val g k va sc ce i), sc, ce, op, fX, fY, fZ)) :
    wpY_oneElement post (yN, yn, va, sc, ce, op, fX, fY, fZ) (nI (cv_o g k)) (nI (cv_x g k)) (cv_Y g k) (cv_Z g k) (nI i) := by
  obtain ⟨p1, p2, p3, p4⟩ := Hk
  obtain ⟨eY, lY⟩ := p3 (by omega) (by omega)
  unfold cv_val at H
  unfold wpY_oneElement
  refine nm_r (e' := nI (16 * cv_x g k + i)) (cv_ix _ _) ?_
  refine pk_lt 3 (cv_o g k) (fun e3 => ?_) (fun e3 => ?_)
  · rw [if_neg (by omega)] at H
    refine pk_lt 5 (cv_o g k) (fun e5 => ?_) (fun e5 => ?_)
    · rw [if_neg (by omega)] at H
      refine pk_eq (cv_o g k) 6 (fun e6 => ?_) (fun e6 => ?_)
      · rw [if_pos e6] at H
        rw [eY, nI_clamp (by omega), nI_clamp (by omega)]
        exact ⟨vp_in_nI lY (by decide), cv_i63 _, vp_in_nI (by omega) (by decide), nm_e H⟩
      · rw [if_neg e6, if_neg h7, if_pos (by omega)] at H
        refine br_f (fun z => h7 ((nI_eq (b := 7) (by omega) (by decide)).mp z)) ?_
        rw [eY, cv_ix, nI_clamp (by omega), nI_clamp (by omega)]
        exact ⟨vp_in_nI (by omega) (by decide), cv_i63 _, vp_in_nI (by omega) (by decide), nm_e H⟩
    · rw [if_pos (by omega)] at H
      obtain ⟨eZ, lZ⟩ := p4 (Or.inl (by omega))
      rw [eY, eZ, cv_ix, nI_clamp (by omega), nI_clamp (by omega), nI_clamp (by omega)]
      exact ⟨vp_in_nI (by omega) (by decide), vp_in_nI lZ (by decide), cy_result (by omega) ⟨vp_in_nI (by omega) (by decide), nm_e H⟩⟩
  · rw [if_pos (by omega)] at H
    obtain ⟨eZ, lZ⟩ := p4 (Or.inl (by omega))
    rw [eY, eZ, cv_ix, cv_ix, nI_clamp (by omega), nI_clamp (by omega), nI_clamp (by omega)]
    exact ⟨vp_in_nI (by omega) (by decide), vp_in_nI (by omega) (by decide), cy_result (by omega) ⟨vp_in_nI (by omega) (by decide), nm_e H⟩⟩
theorem cy_elem7 {i : Nat} (Hk : cv_pr g k) (hi : i < 16) (h7 : cv_o g k = 7) (H : post (yN, yn, va, sc, upd ce (cv_cell (sc (cv_y g k)) (cv_Z g k) i) (va (16 * cv_x g k + i)), op, fX, fY, fZ)) :
    wpY_oneElement post (yN, yn, va, sc, ce, op, fX, fY, fZ) (nI (cv_o g k)) (nI (cv_x g k)) (cv_Y g k) (cv_Z g k) (nI i) := by
  obtain ⟨p1, p2, p3, p4⟩ := Hk
  obtain ⟨eY, lY⟩ := p3 (by omega) (by omega)
  unfold wpY_oneElement
  refine nm_r (e' := nI (16 * cv_x g k + i)) (cv_ix _ _) ?_
  refine pk_lt 3 (cv_o g k) (fun e3 => ?_) (fun e3 => by omega)
  refine pk_lt 5 (cv_o g k) (fun e5 => ?_) (fun e5 => by omega)
  refine pk_eq (cv_o g k) 6 (fun e6 => by omega) (fun e6 => ?_)
  refine pk_eq (cv_o g k) 7 (fun _ => ?_) (fun z => absurd h7 z)
  rw [eY, nI_clamp (by omega), nI_clamp (by omega)]
  exact ⟨vp_in_nI lY (by decide), vp_in_nI (by omega) (by decide), cv_i63 _, nm_e H⟩
theorem cy_loop9 {len : Nat} {V S M : Nat → Int32} (Hk : cv_pr g k) (h8 : cv_o g k ≤ 8) (hL : len ≤ 16)
    (K : wY_one_35 post (nI (cv_o g k)) (nI (cv_x g k)) (cv_Y g k) (cv_Z g k) (nI len) yn (cv_vn g k V S M len) S (cv_mn g k V S M len) op fX fY fZ) :
    ∀ d i n, i + d = len → d < n → wY_one_9 post (nI (cv_o g k)) (nI (cv_x g k)) (cv_Y g k) (cv_Z g k) n (nI i) (nI len) yn (cv_vn g k V S M i) S (cv_mn g k V S M i) op fX fY fZ := by
  intro d
  induction d with
  | zero =>
    intro i n hi hn
    obtain ⟨m, rfl⟩ : ∃ m, n = m + 1 := ⟨n - 1, by omega⟩
    have e : i = len := by omega
    subst e
    exact br_t (nI_le (Nat.le_refl _) (by omega)) K
  | succ d ih =>
    intro i n hi hn
    obtain ⟨m, rfl⟩ : ∃ m, n = m + 1 := ⟨n - 1, by omega⟩
    have J := ih (i + 1) m (by omega) (by omega)
    refine br_f (nI_ge (by omega) (by omega)) ?_
    by_cases h7 : cv_o g k = 7
    · rw [cv_vn_n (Or.inl h7)] at J ⊢
      rw [← cv_mn_s h7] at J
      refine cy_elem7 Hk (by omega) h7 ?_
      exact nm_r (nI_1 i) J
    · rw [← cv_vn_s h8 h7 (by omega), cv_mn_n h7] at J
      rw [cv_mn_n h7] at J ⊢
      refine cy_elem Hk (by omega) h8 h7 ?_
      exact nm_r (nI_1 i) J
theorem cy_87 (h1 : cv_o g k ≠ 10) (h2 : cv_o g k ≠ 11) (h3 : cv_o g k ≠ 12) (h12 : cv_o g k ≤ 12) {x : Int32} {y z : Int32} (H : post (yN, yn, va, sc, ce, op, fX, fY, fZ)) : wY_one_87 post (nI (cv_o g k)) x y z yN yn va sc ce op fX fY fZ := by
  unfold wY_one_87 wY_one_100 wY_one_126
  exact br_f (fun z => h1 ((nI_eq (b := 10) (by omega) (by decide)).mp z)) (br_f (fun z => h2 ((nI_eq (b := 11) (by omega) (by decide)).mp z)) (br_f (fun z => h3 ((nI_eq (b := 12) (by omega) (by decide)).mp z)) H))
theorem cy_loop47 {len : Nat} {V S M : Nat → Int32} (Hk : cv_pr g k) (h9 : cv_o g k = 9) (hL : len ≤ 16)
    (H : post (nI len, yn, V, upd S (cv_x g k) (cv_sum g k V len), M, op, fX, fY, fZ)) :
    ∀ d i n, i + d = len → d < n → wY_one_47 post (nI (cv_o g k)) (nI (cv_x g k)) (cv_Y g k) (cv_Z g k) (nI len) yn V S M op fX fY fZ n (cv_sum g k V i) (nI i) := by
  obtain ⟨p1, p2, p3, p4⟩ := Hk
  obtain ⟨eY, lY⟩ := p3 (by omega) (by omega)
  intro d
  induction d with
  | zero =>
    intro i n hi hn
    obtain ⟨m, rfl⟩ : ∃ m, n = m + 1 := ⟨n - 1, by omega⟩
    have e : i = len := by omega
    subst e
    refine br_t (nI_le (Nat.le_refl _) (by omega)) ⟨vp_in_nI p2 (by decide), ?_⟩
    rw [nI_clamp (by omega)]
    exact nm_e (cy_87 (by omega) (by omega) (by omega) (by omega) H)
  | succ d ih =>
    intro i n hi hn
    obtain ⟨m, rfl⟩ : ∃ m, n = m + 1 := ⟨n - 1, by omega⟩
    have J := ih (i + 1) m (by omega) (by omega)
    refine br_f (nI_ge (by omega) (by omega)) ?_
    have e : (16 : Int32) * cv_Y g k + nI i = nI (16 * cv_y g k + i) := by rw [eY]; exact cv_ix _ _
    rw [e, nI_clamp (by omega)]
    exact ⟨vp_in_nI (by omega) (by decide), nm_e (nm_r (nI_1 i) J)⟩
theorem cy_one {len : Nat} {V S M : Nat → Int32} (Hk : cv_pr g k) (hL : len ≤ 16)
    (H : post (nI (cv_ln g k S len), yn, cv_vn g k V S M len, cv_sn g k V S len, cv_mn g k V S M len, op, fX, fY, fZ)) :
    wpY_one post (nI len, yn, V, S, M, op, fX, fY, fZ) (nI (cv_o g k)) (nI (cv_x g k)) (cv_Y g k) (cv_Z g k) := by
  have Hk' := Hk
  obtain ⟨p1, p2, p3, p4⟩ := Hk
  unfold wpY_one
  refine pk_lt 8 (cv_o g k) (fun e8 => ?_) (fun e8 => ?_)
  · rw [cv_vn_n (Or.inr (by omega)), cv_mn_n (by omega)] at H
    unfold wY_one_35
    refine pk_eq (cv_o g k) 9 (fun e9 => ?_) (fun e9 => ?_)
    · unfold cv_ln cv_sn at H
      rw [if_neg (by omega), if_pos e9] at H
      exact ⟨len + 1, cy_loop47 Hk' e9 hL H len 0 (len + 1) (by omega) (by omega)⟩
    · unfold wY_one_87
      unfold cv_ln cv_sn at H
      rw [if_neg e9] at H
      refine pk_eq (cv_o g k) 10 (fun e10 => ?_) (fun e10 => ?_)
      · rw [if_pos e10, if_neg (by omega)] at H
        rw [nI_clamp (by omega)]
        refine ⟨vp_in_nI p2 (by decide), nm_e ?_⟩
        unfold wY_one_100 wY_one_126
        exact br_f (fun z => absurd ((nI_eq (b := 11) (by omega) (by decide)).mp z) (by omega)) (br_f (fun z => absurd ((nI_eq (b := 12) (by omega) (by decide)).mp z) (by omega)) H)
      · rw [if_neg e10] at H
        unfold wY_one_100
        refine pk_eq (cv_o g k) 11 (fun e11 => ?_) (fun e11 => ?_)
        · rw [if_pos e11, if_neg (by omega)] at H
          obtain ⟨eY, lY⟩ := p3 (by omega) (by omega)
          obtain ⟨eZ, lZ⟩ := p4 (Or.inr e11)
          rw [eY, eZ, nI_clamp (by omega), nI_clamp (by omega), nI_clamp (by omega)]
          refine ⟨vp_in_nI lY (by decide), vp_in_nI lZ (by decide), vp_in_nI p2 (by decide), nm_e ?_⟩
          unfold wY_one_126
          exact br_f (fun z => absurd ((nI_eq (b := 12) (by omega) (by decide)).mp z) (by omega)) H
        · have e12 : cv_o g k = 12 := by omega
          rw [if_neg e11, if_pos e12] at H
          unfold wY_one_126
          refine br_t (by rw [e12]; rfl) ?_
          rw [nI_clamp (by omega)]
          have hx := vp_in_nI (n := cv_x g k) (N := 4) p2 (by decide)
          refine ⟨hx, br_c (fun z0 => ⟨hx, br_c (fun z16 => ⟨hx, nm_r (cv_clI _ z0 z16) H⟩) (fun z16 => ?_)⟩) (fun z0 => ?_)⟩
          · unfold cv_cl at H
            rw [if_pos z0, if_neg z16] at H; exact H
          · unfold cv_cl at H
            rw [if_neg z0] at H; exact H
  · have K : wY_one_35 post (nI (cv_o g k)) (nI (cv_x g k)) (cv_Y g k) (cv_Z g k) (nI len) yn (cv_vn g k V S M len) S (cv_mn g k V S M len) op fX fY fZ := by
      unfold wY_one_35
      refine br_f (fun z => absurd ((nI_eq (b := 9) (by omega) (by decide)).mp z) (by omega)) (cy_87 (by omega) (by omega) (by omega) (by omega) ?_)
      unfold cv_ln cv_sn at H
      rw [if_neg (by omega), if_neg (by omega), if_neg (by omega), if_neg (by omega)] at H
      exact H
    have J := cy_loop9 Hk' e8 hL K len 0 (len + 1) (by omega) (by omega)
    have e1 : cv_vn g k V S M 0 = V := by
      funext j; unfold cv_vn; rw [if_neg (fun z => absurd z.2.2.2 (Nat.not_lt_zero _))]
    have e2 : cv_mn g k V S M 0 = M := by unfold cv_mn; split <;> rfl
    rw [e1, e2] at J
    exact ⟨len + 1, J⟩
end
section
variable {g : cv_G} {P : Nat} {op fX fY fZ : Nat → Int32}
theorem cy_loop7 {post : Int32 → SY → Prop} {r : Int32} (Hp : cv_Pr g P op fX fY fZ) (hP : P ≤ 16) (hg : ∀ k, cv_L g k ≤ 16)
    (H : post r (nI (cv_L g P), 0, cv_V g P, cv_S g P, cv_M g P, op, fX, fY, fZ)) :
    ∀ d k n, k + d = P → d < n → wY_run_7 post r n (nI k) (nI (cv_L g k)) (nI P) (cv_V g k) (cv_S g k) (cv_M g k) op fX fY fZ := by
  intro d
  induction d with
  | zero =>
    intro k n hk hn
    obtain ⟨m, rfl⟩ : ∃ m, n = m + 1 := ⟨n - 1, by omega⟩
    have e : k = P := by omega
    subst e
    exact br_t (nI_le (Nat.le_refl _) (by omega)) H
  | succ d ih =>
    intro k n hk hn
    obtain ⟨m, rfl⟩ : ∃ m, n = m + 1 := ⟨n - 1, by omega⟩
    have J := ih (k + 1) m (by omega) (by omega)
    obtain ⟨q0, q1, q2, q3, q4⟩ := Hp k (by omega)
    have hi := vp_in_nI (n := k) (N := 16) (by omega) (by decide)
    refine br_f (nI_ge (by omega) (by omega)) ⟨hi, hi, hi, hi, ?_⟩
    rw [nI_clamp (by omega), q1, q2, q3, q4]
    exact cy_one q0 (hg k) (nm_r (nI_1 k) J)
theorem cy_run {post : Int32 → SY → Prop} (Hp : cv_Pr g P op fX fY fZ) (hP : P ≤ 16) (hg : ∀ k, cv_L g k ≤ 16)
    (H : post (nI P) (nI (cv_L g P), 0, cv_V g P, cv_S g P, cv_M g P, op, fX, fY, fZ)) :
    wpY_run post (nI (cv_L g 0), nI P, cv_V g 0, cv_S g 0, cv_M g 0, op, fX, fY, fZ) :=
  ⟨P + 1, cy_loop7 Hp hP hg H P 0 (P + 1) (by omega) (by omega)⟩
end
end
section
section
variable {g : cv_G} {P nx now : Nat} {h B F T : Nat → Nat} {fL fD fN fP fx fw su : Int32} {va sc ce op fX fY fZ wk ho co si be fi vl cf ry : Nat → Int32}
theorem cx_writes {post : Int32 → Prop} {a v : Nat} (Hp : cv_Pr g P op fX fY fZ) (hP : P ≤ 16) (ha : a < P) (hv : v < 4) (H1 : cv_w g a v → post 1) (H0 : ¬ cv_w g a v → post 0) :
    wpX_writesVector post (fL, fD, fN, fP, fx, fw, su, va, sc, ce, op, fX, fY, fZ, wk, ho, co, si, be, fi, vl, cf, ry) (nI a) (nI v) := by
  obtain ⟨⟨p1, p2, p3, p4⟩, q1, q2, q3, q4⟩ := Hp a ha
  have hi := vp_in_nI (n := a) (N := 16) (by omega) (by decide)
  unfold wpX_writesVector
  dsimp only
  rw [nI_clamp (n := a) (by omega)]
  refine ⟨hi, nm_r q1 ?_⟩
  refine pk_lt 8 (cv_o g a) (fun e => H0 (fun z => by have := z.1; omega)) (fun e => ?_)
  refine pk_eq (cv_o g a) 7 (fun e7 => H0 (fun z => z.2.1 e7)) (fun e7 => ⟨hi, ?_⟩)
  exact pk_eq (cv_x g a) v (fun ex => H1 ⟨e, e7, ex⟩) (fun ex => H0 (fun z => ex z.2.2)) (hx := q2)
theorem cx_reads {post : Int32 → Prop} {a v : Nat} (Hp : cv_Pr g P op fX fY fZ) (hP : P ≤ 16) (ha : a < P) (hv : v < 4) (H1 : cv_r g a v → post 1) (H0 : ¬ cv_r g a v → post 0) :
    wpX_readsVector post (fL, fD, fN, fP, fx, fw, su, va, sc, ce, op, fX, fY, fZ, wk, ho, co, si, be, fi, vl, cf, ry) (nI a) (nI v) := by
  obtain ⟨⟨p1, p2, p3, p4⟩, q1, q2, q3, q4⟩ := Hp a ha
  have hi := vp_in_nI (n := a) (N := 16) (by omega) (by decide)
  unfold cv_r at H1 H0
  unfold wpX_readsVector
  dsimp only
  rw [nI_clamp (n := a) (by omega)]
  refine ⟨hi, nm_r q1 ?_⟩
  refine pk_lt 3 (cv_o g a) (fun e3 => ?_) (fun e3 => ?_)
  · refine pk_eq (cv_o g a) 7 (fun e7 => ⟨hi, ?_⟩) (fun e7 => ?_)
    · exact pk_eq (cv_x g a) v (fun ex => H1 (Or.inr (Or.inl ⟨e7, ex⟩))) (fun ex => H0 (fun z => by omega)) (hx := q2)
    · refine pk_eq (cv_o g a) 6 (fun e6 => H0 (fun z => by omega)) (fun e6 => ?_)
      refine pk_lt 9 (cv_o g a) (fun e9 => H0 (fun z => by omega)) (fun e9 => ⟨hi, ?_⟩)
      obtain ⟨eY, lY⟩ := p3 (by omega) (by omega)
      exact pk_eq (cv_y g a) v (fun ex => H1 (Or.inr (Or.inr ⟨by omega, e7, e6, e9, ex⟩))) (fun ex => H0 (fun z => by omega)) (hx := q3.trans eY)
  · obtain ⟨eY, lY⟩ := p3 (by omega) (by omega)
    obtain ⟨eZ, lZ⟩ := p4 (Or.inl (by omega))
    refine ⟨hi, pk_eq (cv_y g a) v (fun ex => H1 (Or.inl ⟨e3, Or.inl ex⟩)) (fun ex => ⟨hi, ?_⟩) (hx := q3.trans eY)⟩
    exact pk_eq (cv_z g a) v (fun ez => H1 (Or.inl ⟨e3, Or.inr ez⟩)) (fun ez => H0 (fun z => by omega)) (hx := q4.trans eZ)
theorem cx_125 {post J10 J54 : Int32 → Prop} {a b i c v : Nat} {x6 : Int32} (Hp : cv_Pr g P op fX fY fZ) (hP : P ≤ 16) (hb : b < P) (hc : c < 4) (hv : v < 4) (hi : i < 16)
    (eh : ho c = nI b) (eb : be c = nI (B b)) (lb : B b ≤ 16)
    (h6 : (x6 = 0 ∧ ¬ cv_w g a v) ∨ (x6 = 1 ∧ cv_w g a v)) (K0 : post 0) (K1 : (cv_r g b v → cv_w g a v → i < B b) → J54 (nI (v + 1))) :
    wX_mayBegin_125 post J10 J54 (nI i) (nI a) (nI c) (nI v) x6 fL fD fN fP fx fw su va sc ce op fX fY fZ wk ho co si be fi vl cf ry := by
  have h4 := vp_in_nI (n := c) (N := 4) hc (by decide)
  unfold wX_mayBegin_125
  rw [nI_clamp (n := c) (by omega), eh]
  rcases h6 with ⟨rfl, nw⟩ | ⟨rfl, w⟩
  · exact br_t rfl (nm_r (nI_1 v) (K1 (fun _ z => absurd z nw)))
  · refine br_f cv_10 ⟨h4, cx_reads Hp hP hb hv (fun r => br_f cv_10 ⟨h4, ?_⟩) (fun r => br_t rfl (nm_r (nI_1 v) (K1 (fun z _ => absurd z r))))⟩
    exact pk_lt i (B b) (fun e => nm_r (nI_1 v) (K1 (fun _ _ => e))) (fun _ => K0) (hy := eb)
theorem cx_89 {post J10 J54 : Int32 → Prop} {a b i c v : Nat} {x6 z0 : Int32} (Hp : cv_Pr g P op fX fY fZ) (hP : P ≤ 16) (hb : b < P) (hc : c < 4) (hv : v < 4) (hi : i < 16)
    (eh : ho c = nI b) (eb : be c = nI (B b)) (lb : B b ≤ 16) (ef : fi c = nI (F b)) (lf : F b ≤ 16)
    (h0 : (z0 = 0 ∧ ¬ (cv_w g a v ∨ cv_r g a v)) ∨ (z0 = 1 ∧ (cv_w g a v ∨ cv_r g a v)))
    (h6 : (x6 = 0 ∧ ¬ cv_w g a v) ∨ (x6 = 1 ∧ cv_w g a v)) (K0 : post 0) (K1 : ((cv_w g b v → (cv_w g a v ∨ cv_r g a v) → i < F b) ∧ (cv_r g b v → cv_w g a v → i < B b)) → J54 (nI (v + 1))) :
    wX_mayBegin_89 post J10 J54 (nI i) (nI a) (nI c) (nI v) x6 z0 fL fD fN fP fx fw su va sc ce op fX fY fZ wk ho co si be fi vl cf ry := by
  have h4 := vp_in_nI (n := c) (N := 4) hc (by decide)
  have N : (cv_w g b v → (cv_w g a v ∨ cv_r g a v) → i < F b) → wX_mayBegin_125 post J10 J54 (nI i) (nI a) (nI c) (nI v) x6 fL fD fN fP fx fw su va sc ce op fX fY fZ wk ho co si be fi vl cf ry :=
    fun z => cx_125 Hp hP hb hc hv hi eh eb lb h6 K0 (fun y => K1 ⟨z, y⟩)
  unfold wX_mayBegin_89
  rw [nI_clamp (n := c) (by omega), eh]
  rcases h0 with ⟨rfl, nw⟩ | ⟨rfl, w⟩
  · exact br_t rfl (N (fun _ z => absurd z nw))
  · refine br_f cv_10 ⟨h4, cx_writes Hp hP hb hv (fun r => br_f cv_10 ⟨h4, ?_⟩) (fun r => br_t rfl (N (fun z _ => absurd z r)))⟩
    exact pk_lt i (F b) (fun e => N (fun _ _ => e)) (fun _ => K0) (hy := ef)
theorem cx_54 {post J10 : Int32 → Prop} {a b i c : Nat} (Hp : cv_Pr g P op fX fY fZ) (hP : P ≤ 16) (ha : a < P) (hb : b < P) (hc : c < 4) (hi : i < 16)
    (eh : ho c = nI b) (eb : be c = nI (B b)) (lb : B b ≤ 16) (ef : fi c = nI (F b)) (lf : F b ≤ 16) (K0 : post 0)
    (K1 : (∀ v, v < 4 → (cv_w g b v → (cv_w g a v ∨ cv_r g a v) → i < F b) ∧ (cv_r g b v → cv_w g a v → i < B b)) → J10 (nI (c + 1))) :
    ∀ d v n, v + d = 4 → d < n → (∀ v', v' < v → (cv_w g b v' → (cv_w g a v' ∨ cv_r g a v') → i < F b) ∧ (cv_r g b v' → cv_w g a v' → i < B b)) →
      wX_mayBegin_54 post J10 (nI i) (nI a) (nI c) fL fD fN fP fx fw su va sc ce op fX fY fZ wk ho co si be fi vl cf ry n (nI v) := by
  intro d
  induction d with
  | zero =>
    intro v n hv hn A
    obtain ⟨m, rfl⟩ : ∃ m, n = m + 1 := ⟨n - 1, by omega⟩
    have e : v = 4 := by omega
    subst e
    exact br_t (nI_le (a := 4) (b := 4) (by decide) (by decide)) (nm_r (nI_1 c) (K1 A))
  | succ d ih =>
    intro v n hv hn A
    obtain ⟨m, rfl⟩ : ∃ m, n = m + 1 := ⟨n - 1, by omega⟩
    have J : ((cv_w g b v → (cv_w g a v ∨ cv_r g a v) → i < F b) ∧ (cv_r g b v → cv_w g a v → i < B b)) → wX_mayBegin_54 post J10 (nI i) (nI a) (nI c) fL fD fN fP fx fw su va sc ce op fX fY fZ wk ho co si be fi vl cf ry m (nI (v + 1)) :=
      fun z => ih (v + 1) m (by omega) (by omega) (fun v' hv' => by
        by_cases e : v' = v
        · subst e; exact z
        · exact A v' (by omega))
    have hv4 : v < 4 := by omega
    refine br_f (nI_ge (b := 4) (by omega) (by decide)) ?_
    refine cx_writes Hp hP ha hv4 (fun w => br_f cv_10 ?_) (fun w => br_t rfl ?_)
    · exact cx_89 Hp hP hb hc hv4 hi eh eb lb ef lf (Or.inr ⟨rfl, Or.inl w⟩) (Or.inr ⟨rfl, w⟩) K0 J
    · refine cx_reads Hp hP ha hv4 (fun r => br_f cv_10 ?_) (fun r => br_t rfl ?_)
      · exact cx_89 Hp hP hb hc hv4 hi eh eb lb ef lf (Or.inr ⟨rfl, Or.inr r⟩) (Or.inl ⟨rfl, w⟩) K0 J
      · exact cx_89 Hp hP hb hc hv4 hi eh eb lb ef lf (Or.inl ⟨rfl, fun z => z.elim w r⟩) (Or.inl ⟨rfl, w⟩) K0 J
theorem cx_10 {post : Int32 → Prop} {a i : Nat} (Hp : cv_Pr g P op fX fY fZ) (hP : P ≤ 16) (hg : ∀ k, cv_L g k ≤ 16) (C : cv_iC g P nx wk h B F) (U : cv_iU g wk h B F ho co si be fi) (ha : a < P) (hi : i < 16)
    (H1 : (∀ c, c < 4 → ¬ wk c = 0 → h c < a → cv_may g B F a i (h c)) → post 1) (H0 : (∃ c, c < 4 ∧ ¬ wk c = 0 ∧ h c < a) → post 0) :
    ∀ d c n, c + d = 4 → d < n → (∀ c', c' < c → ¬ wk c' = 0 → h c' < a → cv_may g B F a i (h c')) → wX_mayBegin_10 post (nI i) (nI a) fL fD fN fP fx fw su va sc ce op fX fY fZ wk ho co si be fi vl cf ry n (nI c) := by
  intro d
  induction d with
  | zero =>
    intro c n hc hn A
    obtain ⟨m, rfl⟩ : ∃ m, n = m + 1 := ⟨n - 1, by omega⟩
    have e : c = 4 := by omega
    subst e
    exact br_t (nI_le (a := 4) (b := 4) (by decide) (by decide)) (H1 A)
  | succ d ih =>
    intro c n hc hn A
    obtain ⟨m, rfl⟩ : ∃ m, n = m + 1 := ⟨n - 1, by omega⟩
    have hc4 : c < 4 := by omega
    have h4 := vp_in_nI (n := c) (N := 4) hc4 (by decide)
    have J : (¬ wk c = 0 → h c < a → cv_may g B F a i (h c)) → wX_mayBegin_10 post (nI i) (nI a) fL fD fN fP fx fw su va sc ce op fX fY fZ wk ho co si be fi vl cf ry m (nI (c + 1)) :=
      fun z => ih (c + 1) m (by omega) (by omega) (fun c' hc' => by
        by_cases e : c' = c
        · subst e; exact z
        · exact A c' (by omega))
    refine br_f (nI_ge (b := 4) (by omega) (by decide)) ?_
    rw [nI_clamp (n := c) (by omega)]
    refine ⟨h4, br_c (fun w => nm_r (nI_1 c) (J (fun z => absurd w z))) (fun w => ⟨h4, ?_⟩)⟩
    obtain ⟨u1, u2, u3, u4, u5, u6⟩ := U c hc4 w
    have l0 := (C.2.1 c hc4 w).1
    have l1 := C.1
    have l2 := C.2.2.1 (h c) l0
    have l3 := hg (h c)
    refine pk_le a (h c) (fun e => nm_r (nI_1 c) (J (fun _ z => absurd z (by omega)))) (fun e => ⟨h4, ?_⟩) (hy := u1)
    refine pk_lt i (cv_L g (h c)) (fun e2 => ⟨5, ?_⟩) (fun e2 => nm_r (nI_1 c) (J (fun _ _ z => absurd z (by omega)))) (hy := u2)
    exact cx_54 Hp hP ha (by omega) hc4 hi u1 u3 (by omega) u4 (by omega) (H0 ⟨c, hc4, w, e⟩) (fun z => J (fun _ _ _ => z)) 4 0 5 (by omega) (by omega) (fun v' z => absurd z (Nat.not_lt_zero _))
theorem cx_may {post : Int32 → Prop} {u i : Nat} (Hp : cv_Pr g P op fX fY fZ) (hP : P ≤ 16) (hg : ∀ k, cv_L g k ≤ 16) (C : cv_iC g P nx wk h B F) (U : cv_iU g wk h B F ho co si be fi) (hu : u < 4) (w : ¬ wk u = 0) (hi : i < 16)
    (H1 : (∀ c, c < 4 → ¬ wk c = 0 → h c < h u → cv_may g B F (h u) i (h c)) → post 1) (H0 : (∃ c, c < 4 ∧ ¬ wk c = 0 ∧ h c < h u) → post 0) :
    wpX_mayBegin post (fL, fD, fN, fP, fx, fw, su, va, sc, ce, op, fX, fY, fZ, wk, ho, co, si, be, fi, vl, cf, ry) (nI u) (nI i) := by
  unfold wpX_mayBegin
  dsimp only
  rw [nI_clamp (n := u) (by omega)]
  have l0 := (C.2.1 u hu w).1
  have l1 := C.1
  exact ⟨vp_in_nI hu (by decide), nm_r (U u hu w).1 ⟨5, cx_10 Hp hP hg C U (by omega) hi H1 H0 4 0 5 (by omega) (by omega) (fun c' z => absurd z (Nat.not_lt_zero _))⟩⟩
theorem cv_val_M {k i : Nat} {V S M M' : Nat → Int32} (H : cv_o g k = 6 ∨ cv_o g k = 8 → M = M') : cv_val g k V S M i = cv_val g k V S M' i := by
  by_cases e : cv_o g k = 6 ∨ cv_o g k = 8
  · rw [H e]
  · unfold cv_val
    split
    · rfl
    · split
      · rfl
      · rw [if_neg (fun z => e (Or.inl z)), if_neg (fun z => e (Or.inl z)), if_neg (fun z => e (Or.inr z)), if_neg (fun z => e (Or.inr z))]
/-- what compute gives -/
theorem cx_fetch {post : Int32 → SX → Prop} {i : Nat} (Hp : cv_Pr g P op fX fY fZ) (hP : P ≤ 16) (C : cv_iC g P nx wk h B F) (U : cv_iU g wk h B F ho co si be fi) (w : ¬ wk 2 = 0) (hi : i < 16)
    (H : ∀ cf' : Nat → Int32, (∀ j, j ≠ 16 * 2 + i → cf' j = cf j) → (cv_o g (h 2) = 7 → cf' (16 * 2 + i) = nI (cv_cell (cv_S g (h 2) (cv_y g (h 2))) (cv_Z g (h 2)) i)) → post (cv_val g (h 2) va (cv_S g (h 2)) ce i) (fL, fD, fN, fP, fx, fw, su, va, sc, ce, op, fX, fY, fZ, wk, ho, co, si, be, fi, vl, cf', ry)) :
    wpX_fetch post (fL, fD, fN, fP, fx, fw, su, va, sc, ce, op, fX, fY, fZ, wk, ho, co, si, be, fi, vl, cf, ry) (nI 2) (nI i) := by
  have l0 := (C.2.1 2 (by decide) w).1
  have l1 := C.1
  obtain ⟨o6, o8⟩ := cv_o2 C (u := 2) (by decide) w rfl
  obtain ⟨u1, u2, u3, u4, u5, u6⟩ := U 2 (by decide) w
  obtain ⟨⟨p1, p2, p3, p4⟩, q1, q2, q3, q4⟩ := Hp (h 2) (by omega)
  obtain ⟨eY, lY⟩ := p3 (by omega) (by omega)
  have hk := vp_in_nI (n := h 2) (N := 16) (by omega) (by decide)
  have h4 := vp_in_nI (n := 2) (N := 4) (by decide) (by decide)
  unfold cv_val at H
  rw [if_neg (by omega), if_neg (by omega)] at H
  unfold wpX_fetch
  dsimp only
  rw [nI_clamp (n := 2) (by decide), cv_ix, nI_clamp (n := 16 * 2 + i) (by omega)]
  refine ⟨h4, nm_r u1 ?_⟩
  rw [nI_clamp (n := h 2) (by omega), q1, q2, q3, q4, eY, cv_ix, cv_ix, nI_clamp (by omega), nI_clamp (by omega)]
  refine ⟨hk, pk_eq (cv_o g (h 2)) 8 (fun e8 => ?_) (fun e8 => ?_)⟩
  · rw [if_neg (by omega), if_neg (by omega), if_pos e8] at H
    exact ⟨hk, vp_in_nI (by omega) (by decide), nm_e ⟨cv_i63 _, H cf (fun _ _ => rfl) (fun z => absurd z (by omega))⟩⟩
  · refine ⟨h4, hk, nm_e ⟨hk, pk_eq (cv_o g (h 2)) 6 (fun e6 => ⟨cv_i63 _, ?_⟩) (fun e6 => ⟨vp_in_nI (by omega) (by decide), ?_⟩)⟩⟩
    · rw [if_pos e6] at H
      rw [u6 (Or.inl e6)]
      exact H cf (fun _ _ => rfl) (fun z => absurd z (by omega))
    · have e7 : cv_o g (h 2) = 7 := by omega
      rw [if_neg e6, if_pos e7] at H
      rw [u6 (Or.inr e7)]
      refine nm_e ⟨hk, vp_in_nI (by omega) (by decide), H _ (fun j hj => pk_un hj) (fun _ => ?_)⟩
      rw [pk_us]
      obtain ⟨j, hj, ej⟩ := cv_63 (cv_S g (h 2) (cv_y g (h 2)) + nI i * cv_Z g (h 2))
      unfold cv_cell
      rw [ej, nI_clamp (by omega)]
      exact cv_by j hj
theorem cx_compute {post : Int32 → SX → Prop} {u i : Nat} (Hp : cv_Pr g P op fX fY fZ) (hP : P ≤ 16) (C : cv_iC g P nx wk h B F) (U : cv_iU g wk h B F ho co si be fi) (hu : u < 4) (w : ¬ wk u = 0) (hi : i < 16)
    (H : ∀ cf' : Nat → Int32, (∀ j, j ≠ 16 * u + i → cf' j = cf j) → (cv_o g (h u) = 7 → cf' (16 * u + i) = nI (cv_cell (cv_S g (h u) (cv_y g (h u))) (cv_Z g (h u)) i)) → post (cv_val g (h u) va (cv_S g (h u)) ce i) (fL, fD, fN, fP, fx, fw, su, va, sc, ce, op, fX, fY, fZ, wk, ho, co, si, be, fi, vl, cf', ry)) :
    wpX_compute post (fL, fD, fN, fP, fx, fw, su, va, sc, ce, op, fX, fY, fZ, wk, ho, co, si, be, fi, vl, cf, ry) (nI u) (nI i) := by
  have l0 := (C.2.1 u hu w).1
  have l1 := C.1
  obtain ⟨u1, u2, u3, u4, u5, u6⟩ := U u hu w
  obtain ⟨⟨p1, p2, p3, p4⟩, q1, q2, q3, q4⟩ := Hp (h u) (by omega)
  have hk := vp_in_nI (n := h u) (N := 16) (by omega) (by decide)
  have h4 := vp_in_nI (n := u) (N := 4) hu (by decide)
  have o9 := (C.2.1 u hu w).2.1
  unfold wpX_compute
  dsimp only
  rw [nI_clamp (n := u) (by omega)]
  refine ⟨h4, nm_r u1 ⟨hk, ?_⟩⟩
  rw [nI_clamp (n := h u) (by omega), q3, q4]
  refine nm_r q1 ?_
  refine pk_eq u 2 (fun e2 => ?_) (fun e2 => ?_)
  · subst e2
    exact cx_fetch Hp hP C U w hi H
  · have o7 : cv_o g (h u) ≤ 5 ∨ cv_o g (h u) = 9 := by
      by_cases z : u = 3
      · exact Or.inr (cv_o9 C hu w z)
      · exact Or.inl (cv_o01 C hu w (by omega))
    obtain ⟨eY, lY⟩ := p3 (by omega) (by omega)
    have H' := H cf (fun _ _ => rfl) (fun z => absurd z (by omega))
    unfold cv_val at H'
    rw [eY, cv_ix, nI_clamp (by omega)]
    refine ⟨hk, vp_in_nI (by omega) (by decide), nm_e ?_⟩
    refine pk_eq (cv_o g (h u)) 4 (fun e4 => ⟨h4, ?_⟩) (fun e4 => ?_)
    · rw [if_neg (by omega), if_pos (by omega)] at H'
      unfold cv_res at H'
      rw [if_neg (by omega), if_pos e4] at H'
      rw [u5 (Or.inl e4)]; exact H'
    refine pk_eq (cv_o g (h u)) 5 (fun e5 => ⟨h4, ?_⟩) (fun e5 => ?_)
    · rw [if_neg (by omega), if_pos (by omega)] at H'
      unfold cv_res at H'
      rw [if_neg (by omega), if_neg (by omega), if_neg (by omega), if_neg (by omega), if_pos e5] at H'
      rw [u5 (Or.inr e5)]; exact H'
    refine pk_eq (cv_o g (h u)) 9 (fun e9 => ?_) (fun e9 => ?_)
    · rw [if_neg (by omega), if_neg (by omega), if_neg (by omega), if_neg (by omega), if_neg (by omega)] at H'
      exact H'
    obtain ⟨eZ, lZ⟩ := p4 (Or.inl (by omega))
    rw [if_pos (by omega)] at H'
    unfold cv_res at H'
    rw [eZ, cv_ix, nI_clamp (by omega)]
    refine ⟨hk, vp_in_nI (by omega) (by decide), nm_e ?_⟩
    refine pk_eq (cv_o g (h u)) 0 (fun e => ?_) (fun e => ?_)
    · rw [if_pos e] at H'; exact H'
    rw [if_neg e, if_neg e4] at H'
    refine pk_eq (cv_o g (h u)) 1 (fun e => ?_) (fun e => ?_)
    · rw [if_pos e] at H'; exact H'
    rw [if_neg e] at H'
    refine pk_eq (cv_o g (h u)) 2 (fun e => ?_) (fun e => ?_)
    · rw [if_pos e] at H'; exact H'
    rw [if_neg e, if_neg e5] at H'
    refine br_c (fun e => ?_) (fun e => ?_)
    · rw [if_pos e] at H'; exact H'
    · rw [if_neg e] at H'; exact H'
end
end
section
section
variable {g : cv_G} {P nx now Ln D : Nat} {h F T : Nat → Nat} {su : Int32} {va sc ce op fX fY fZ wk ho co si fi : Nat → Int32}
theorem cv_gx (Hp : cv_Pr g P op fX fY fZ) : ∀ k, k < P → cv_x g k < 4 := fun k hk => (Hp k hk).1.2.1
theorem cv_M_2 {B : Nat → Nat} (C : cv_iC g P nx wk h B F) (I : cv_iM g nx wk h F ce) {u : Nat} (hu : u < 4) (w : ¬ wk u = 0) (h6 : cv_o g (h u) = 6 ∨ cv_o g (h u) = 8) : ce = cv_M g (h u) := by
  have e : u = 2 := by
    have a := (C.2.1 u hu w).2.2
    unfold cv_un at a
    rw [if_neg (by omega), if_neg (by omega), if_neg (by omega), if_pos (by omega)] at a
    exact a.symm
  subst e
  have J := (I.2 w).1
  rw [cv_mn_n (by omega)] at J
  exact J
/-- one more element has begun -/
theorem cv_I_B {B : Nat → Nat} {be vl cf ry : Nat → Int32} (Hp : cv_Pr g P op fX fY fZ) (hg : ∀ k, cv_L g k ≤ 16) (hD : D ≤ 5) (I : cv_I g P nx now h B F T su va sc ce wk ho co si be fi vl cf ry) {u i : Nat} (hu : u < 4) (w : ¬ wk u = 0)
    (hB : B (h u) = i) (hL : i < cv_L g (h u)) (M : ∀ c, c < 4 → ¬ wk c = 0 → h c < h u → cv_may g B F (h u) i (h c)) {cf' : Nat → Int32} (hc : ∀ j, j ≠ 16 * u + i → cf' j = cf j)
    (h7 : cv_o g (h u) = 7 → cf' (16 * u + i) = nI (cv_cell (cv_S g (h u) (cv_y g (h u))) (cv_Z g (h u)) i)) :
    cv_I g P nx now h (cv_pt B (h u) (i + 1)) F T su va sc ce wk ho co si (upd be u (nI (i + 1))) fi (upd vl (16 * u + i) (cv_val g (h u) va (cv_S g (h u)) ce i)) cf' (upd ry (16 * u + i) (nI now + nI D)) := by
  obtain ⟨C, IV, IM, IS, IU, IW, IT⟩ := I
  have ha := (C.2.1 u hu w).1
  have hi : i < 16 := Nat.lt_of_lt_of_le hL (hg _)
  have H := cv_free_of C (cv_gx Hp) ha M
  have e : cv_val g (h u) va (cv_S g (h u)) ce i = cv_vl g (h u) i := by
    rw [cv_val_c (V' := cv_V g (h u)) (C.2.1 u hu w).2.1 (fun v r => cv_rd C IV ha hB hL hi H r), cv_val_M (M' := cv_M g (h u)) (fun z => cv_M_2 C IM hu w z)]
    rfl
  exact ⟨cv_C_B C ha hB hL H, IV, IM, IS, cv_U_B C IU hu w, cv_W_B C hg IW hu w hB hi e hc h7, cv_T_B C hg IT hu w hB hi hL hD⟩
theorem cx_begin2 {post : SX → Prop} (Hp : cv_Pr g P op fX fY fZ) (hP : P ≤ 16) (hg : ∀ k, cv_L g k ≤ 16) (hLn : Ln ≤ 4) (hD : D ≤ 5) {u : Nat} (hu : u < 4) (w : ¬ wk u = 0) :
    ∀ d m n (B : Nat → Nat) (be vl cf ry : Nat → Int32), m + d = Ln → d < n → cv_I g P nx now h B F T su va sc ce wk ho co si be fi vl cf ry →
      (∀ (B' : Nat → Nat) (be' vl' cf' ry' : Nat → Int32), cv_I g P nx now h B' F T su va sc ce wk ho co si be' fi vl' cf' ry' → (∀ k, B k ≤ B' k) →
        (0 < d → (∀ c, c < 4 → ¬ wk c = 0 → h u ≤ h c) → B (h u) < cv_L g (h u) → B (h u) < B' (h u)) → post (nI Ln, nI D, nI (cv_L g nx), nI P, nI nx, nI now, su, va, sc, ce, op, fX, fY, fZ, wk, ho, co, si, be', fi, vl', cf', ry')) →
      wX_beginElements_2 post (nI u) n (nI m) (nI Ln) (nI D) (nI (cv_L g nx)) (nI P) (nI nx) (nI now) su va sc ce op fX fY fZ wk ho co si be fi vl cf ry := by
  intro d
  induction d with
  | zero =>
    intro m n B be vl cf ry hm hn I K
    obtain ⟨m', rfl⟩ : ∃ m, n = m + 1 := ⟨n - 1, by omega⟩
    have e : m = Ln := by omega
    subst e
    exact br_t (nI_le (Nat.le_refl _) (by omega)) (K B be vl cf ry I (fun _ => Nat.le_refl _) (fun z => absurd z (Nat.lt_irrefl _)))
  | succ d ih =>
    intro m n B be vl cf ry hm hn I K
    obtain ⟨n, rfl⟩ : ∃ m, n = m + 1 := ⟨n - 1, by omega⟩
    have h4 := vp_in_nI (n := u) (N := 4) hu (by decide)
    have C := I.1
    have U := I.2.2.2.2.1
    obtain ⟨u1, u2, u3, u4, u5, u6⟩ := U u hu w
    have l0 := (C.2.1 u hu w).1
    have l2 := C.2.2.1 (h u) l0
    have l3 := hg (h u)
    refine br_f (nI_ge (by omega) (by omega)) ?_
    rw [nI_clamp (n := u) (by omega)]
    refine ⟨h4, nm_r u3 ⟨h4, ?_⟩⟩
    refine pk_le (cv_L g (h u)) (B (h u)) (fun e => K B be vl cf ry I (fun _ => Nat.le_refl _) (fun _ _ z => absurd z (by omega))) (fun e => ?_) (hx := u2)
    refine cx_may Hp hP hg C U hu w (by omega) (fun M => br_f cv_10 (nm_r (cv_ix _ _) ?_)) (fun z => br_t rfl ?_)
    · refine cx_compute Hp hP C U hu w (by omega) (fun cf' hc h7 => ?_)
      have I' := cv_I_B Hp hg hD I hu w rfl e M hc h7
      have J := ih (m + 1) n _ _ _ _ _ (by omega) (by omega) I' (fun B' be' vl' cf' ry' I2 mo pr => K B' be' vl' cf' ry' I2 (fun k => Nat.le_trans (cv_pt_ge (by omega) k) (mo k)) (fun _ _ _ => by
        have z := mo (h u)
        rw [cv_ps] at z
        omega))
      have hs := vp_in_nI (n := 16 * u + B (h u)) (N := 64) (by omega) (by decide)
      dsimp only
      rw [nI_clamp (n := 16 * u + B (h u)) (by omega), u3, nI_1, cv_by _ (by omega)]
      exact ⟨hs, nm_e ⟨hs, nm_e ⟨h4, h4, nm_e (nm_r (nI_1 m) J)⟩⟩⟩
    · refine K B be vl cf ry I (fun _ => Nat.le_refl _) (fun _ old _ => ?_)
      obtain ⟨c, hc, wc, lt⟩ := z
      have := old c hc wc
      omega
theorem cx_beginE {post : SX → Prop} {B : Nat → Nat} {be vl cf ry : Nat → Int32} (Hp : cv_Pr g P op fX fY fZ) (hP : P ≤ 16) (hg : ∀ k, cv_L g k ≤ 16) (hLn : Ln ≤ 4) (hL1 : 1 ≤ Ln) (hD : D ≤ 5) {u : Nat} (hu : u < 4) (w : ¬ wk u = 0)
    (I : cv_I g P nx now h B F T su va sc ce wk ho co si be fi vl cf ry)
    (K : ∀ (B' : Nat → Nat) (be' vl' cf' ry' : Nat → Int32), cv_I g P nx now h B' F T su va sc ce wk ho co si be' fi vl' cf' ry' → (∀ k, B k ≤ B' k) →
        ((∀ c, c < 4 → ¬ wk c = 0 → h u ≤ h c) → B (h u) < cv_L g (h u) → B (h u) < B' (h u)) → post (nI Ln, nI D, nI (cv_L g nx), nI P, nI nx, nI now, su, va, sc, ce, op, fX, fY, fZ, wk, ho, co, si, be', fi, vl', cf', ry')) :
    wpX_beginElements post (nI Ln, nI D, nI (cv_L g nx), nI P, nI nx, nI now, su, va, sc, ce, op, fX, fY, fZ, wk, ho, co, si, be, fi, vl, cf, ry) (nI u) :=
  ⟨Ln + 1, cx_begin2 Hp hP hg hLn hD hu w Ln 0 (Ln + 1) B be vl cf ry (by omega) (by omega) I (fun B' be' vl' cf' ry' I' mo pr => K B' be' vl' cf' ry' I' mo (pr (by omega)))⟩
theorem cv_m1lt {n : Nat} (hn : n < 2 ^ 31) : (-1 : Int32) < nI n := by
  rw [Int32.lt_iff_toInt_lt, nI_toInt hn, show (-1 : Int32).toInt = -1 from by decide]
  omega
theorem cv_m1ne {n : Nat} (hn : n < 2 ^ 31) : ¬ nI n = (-1 : Int32) := by
  intro e
  have := cv_m1lt hn
  rw [e] at this
  exact absurd this (by decide)
def cv_scan (wk : Nat → Int32) (h : Nat → Nat) (x1 : Int32) (c : Nat) (x3 : Int32) : Prop :=
  (x3 = -1 ∧ (x1 = -1 → ∀ c', c' < c → wk c' = 0)) ∨ (∃ u, u < 4 ∧ x3 = nI u ∧ ¬ wk u = 0 ∧ (x1 = -1 → ∀ c', c' < c → ¬ wk c' = 0 → h u ≤ h c'))
theorem cx_scan {post : SX → Prop} {B : Nat → Nat} {be vl cf ry : Nat → Int32} {J4 : Int32 → Int32 → Int32 → Int32 → Int32 → Int32 → Int32 → Int32 → Int32 → (Nat → Int32) → (Nat → Int32) → (Nat → Int32) → (Nat → Int32) → (Nat → Int32) → (Nat → Int32) → (Nat → Int32) → (Nat → Int32) → (Nat → Int32) → (Nat → Int32) → (Nat → Int32) → (Nat → Int32) → (Nat → Int32) → (Nat → Int32) → (Nat → Int32) → (Nat → Int32) → Prop} {x1 : Int32} {m : Nat}
    (hP : P ≤ 16) (C : cv_iC g P nx wk h B F) (U : cv_iU g wk h B F ho co si be fi)
    (E : (x1 = -1 → ∀ c, c < 4 → wk c = 0) → post (nI Ln, nI D, nI (cv_L g nx), nI P, nI nx, nI now, su, va, sc, ce, op, fX, fY, fZ, wk, ho, co, si, be, fi, vl, cf, ry))
    (K : ∀ u, u < 4 → ¬ wk u = 0 → (x1 = -1 → ∀ c, c < 4 → ¬ wk c = 0 → h u ≤ h c) →
      wpX_beginElements (fun u' => match u' with | (zL, zD, zN, zP, zx, zw, zs, zva, zsc, zce, zop, zfX, zfY, zfZ, zwk, zho, zco, zsi, zbe, zfi, zvl, zcf, zry) => ∀ x2 : Int32, x2 = nI m + 1 → J4 (nI (h u)) x2 zL zD zN zP zx zw zs zva zsc zce zop zfX zfY zfZ zwk zho zco zsi zbe zfi zvl zcf zry) (nI Ln, nI D, nI (cv_L g nx), nI P, nI nx, nI now, su, va, sc, ce, op, fX, fY, fZ, wk, ho, co, si, be, fi, vl, cf, ry) (nI u)) :
    ∀ d c n x3, c + d = 4 → d < n → cv_scan wk h x1 c x3 → wX_beginInOrder_14 post J4 x1 (nI m) (nI Ln) (nI D) (nI (cv_L g nx)) (nI P) (nI nx) (nI now) su va sc ce op fX fY fZ wk ho co si be fi vl cf ry n x3 (nI c) := by
  intro d
  induction d with
  | zero =>
    intro c n x3 hc hn A
    obtain ⟨n, rfl⟩ : ∃ m, n = m + 1 := ⟨n - 1, by omega⟩
    have e : c = 4 := by omega
    subst e
    refine br_t (nI_le (a := 4) (b := 4) (by decide) (by decide)) ?_
    rcases A with ⟨rfl, a⟩ | ⟨u, hu, rfl, w, a⟩
    · exact br_f (by decide) (E a)
    · refine br_t (nI_pos' (by omega)) ⟨vp_in_nI hu (by decide), ?_⟩
      rw [nI_clamp (n := u) (by omega)]
      exact nm_r (U u hu w).1 (K u hu w a)
  | succ d ih =>
    intro c n x3 hc hn A
    obtain ⟨n, rfl⟩ : ∃ m, n = m + 1 := ⟨n - 1, by omega⟩
    have hc4 : c < 4 := by omega
    have h4 := vp_in_nI (n := c) (N := 4) hc4 (by decide)
    have J := fun x3 z => ih (c + 1) n x3 (by omega) (by omega) z
    refine br_f (nI_ge (b := 4) (by omega) (by decide)) ?_
    rw [nI_clamp (n := c) (by omega)]
    refine ⟨h4, br_c (fun w => nm_r (nI_1 c) (J x3 ?_)) (fun w => ⟨h4, ?_⟩)⟩
    · rcases A with ⟨e, a⟩ | ⟨u, hu, e, w', a⟩
      · exact Or.inl ⟨e, fun z c' hc' => by
          by_cases q : c' = c
          · subst q; exact w
          · exact a z c' (by omega)⟩
      · exact Or.inr ⟨u, hu, e, w', fun z c' hc' => by
          by_cases q : c' = c
          · subst q; exact fun y => absurd w y
          · exact a z c' (by omega)⟩
    · have u1 := (U c hc4 w).1
      have l0 := (C.2.1 c hc4 w).1
      have l1 := C.1
      rw [u1]
      refine br_c (fun lt => ?_) (fun nlt => nm_r (nI_1 c) (J x3 ?_))
      · rcases A with ⟨rfl, a⟩ | ⟨u, hu, rfl, w', a⟩
        · refine br_t (by decide) (nm_r (nI_1 c) (J _ (Or.inr ⟨c, hc4, rfl, w, fun z c' hc' y => ?_⟩)))
          by_cases q : c' = c
          · subst q; exact Nat.le_refl _
          · exact absurd (a z c' (by omega)) y
        · have k0 := (C.2.1 u hu w').1
          refine br_f (nI_pos (by omega)) ⟨h4, vp_in_nI hu (by decide), ?_⟩
          rw [nI_clamp (n := u) (by omega)]
          refine pk_le (h u) (h c) (fun le => nm_r (nI_1 c) (J _ (Or.inr ⟨u, hu, rfl, w', fun z c' hc' y => ?_⟩))) (fun gt => nm_r (nI_1 c) (J _ (Or.inr ⟨c, hc4, rfl, w, fun z c' hc' y => ?_⟩))) (hx := (U u hu w').1)
          · by_cases q : c' = c
            · subst q; exact le
            · exact a z c' (by omega) y
          · by_cases q : c' = c
            · subst q; exact Nat.le_refl _
            · have := a z c' (by omega) y
              omega
      · have ne : ¬ x1 = -1 := fun z => nlt (by rw [z]; exact cv_m1lt (by omega))
        rcases A with ⟨e, a⟩ | ⟨u, hu, e, w', a⟩
        · exact Or.inl ⟨e, fun z => absurd z ne⟩
        · exact Or.inr ⟨u, hu, e, w', fun z => absurd z ne⟩
theorem cx_order4 {post : SX → Prop} (Hp : cv_Pr g P op fX fY fZ) (hP : P ≤ 16) (hg : ∀ k, cv_L g k ≤ 16) (hLn : Ln ≤ 4) (hL1 : 1 ≤ Ln) (hD : D ≤ 5) :
    ∀ d m n x1 (B : Nat → Nat) (be vl cf ry : Nat → Int32), m + d = 4 → d < n → cv_I g P nx now h B F T su va sc ce wk ho co si be fi vl cf ry →
      (∀ (B' : Nat → Nat) (be' vl' cf' ry' : Nat → Int32), cv_I g P nx now h B' F T su va sc ce wk ho co si be' fi vl' cf' ry' → (∀ k, B k ≤ B' k) →
        (0 < d → x1 = -1 → (∀ c, c < 4 → wk c = 0) ∨ ∃ u, u < 4 ∧ ¬ wk u = 0 ∧ (B (h u) < cv_L g (h u) → B (h u) < B' (h u))) → post (nI Ln, nI D, nI (cv_L g nx), nI P, nI nx, nI now, su, va, sc, ce, op, fX, fY, fZ, wk, ho, co, si, be', fi, vl', cf', ry')) →
      wX_beginInOrder_4 post n x1 (nI m) (nI Ln) (nI D) (nI (cv_L g nx)) (nI P) (nI nx) (nI now) su va sc ce op fX fY fZ wk ho co si be fi vl cf ry := by
  intro d
  induction d with
  | zero =>
    intro m n x1 B be vl cf ry hm hn I K
    obtain ⟨n, rfl⟩ : ∃ m, n = m + 1 := ⟨n - 1, by omega⟩
    have e : m = 4 := by omega
    subst e
    exact br_t (nI_le (a := 4) (b := 4) (by decide) (by decide)) (K B be vl cf ry I (fun _ => Nat.le_refl _) (fun z => absurd z (Nat.lt_irrefl _)))
  | succ d ih =>
    intro m n x1 B be vl cf ry hm hn I K
    obtain ⟨n, rfl⟩ : ∃ m, n = m + 1 := ⟨n - 1, by omega⟩
    refine br_f (nI_ge (b := 4) (by omega) (by decide)) ⟨5, ?_⟩
    refine cx_scan hP I.1 I.2.2.2.2.1 (fun z => K B be vl cf ry I (fun _ => Nat.le_refl _) (fun _ y => Or.inl (z y))) (fun u hu w old => ?_) 4 0 5 (-1) (by omega) (by omega) (Or.inl ⟨rfl, fun _ c' z => absurd z (Nat.not_lt_zero _)⟩)
    refine cx_beginE Hp hP hg hLn hL1 hD hu w I (fun B1 be1 vl1 cf1 ry1 I1 mo1 pr1 => nm_r (nI_1 m) ?_)
    have l0 := (I.1.2.1 u hu w).1
    have l1 := I.1.1
    refine ih (m + 1) n _ B1 be1 vl1 cf1 ry1 (by omega) (by omega) I1 (fun B2 be2 vl2 cf2 ry2 I2 mo2 pr2 => K B2 be2 vl2 cf2 ry2 I2 (fun k => Nat.le_trans (mo1 k) (mo2 k)) (fun _ z => Or.inr ⟨u, hu, w, fun y => ?_⟩))
    exact Nat.lt_of_lt_of_le (pr1 (old z) y) (mo2 _)
theorem cx_order {post : SX → Prop} {B : Nat → Nat} {be vl cf ry : Nat → Int32} (Hp : cv_Pr g P op fX fY fZ) (hP : P ≤ 16) (hg : ∀ k, cv_L g k ≤ 16) (hLn : Ln ≤ 4) (hL1 : 1 ≤ Ln) (hD : D ≤ 5)
    (I : cv_I g P nx now h B F T su va sc ce wk ho co si be fi vl cf ry)
    (K : ∀ (B' : Nat → Nat) (be' vl' cf' ry' : Nat → Int32), cv_I g P nx now h B' F T su va sc ce wk ho co si be' fi vl' cf' ry' → (∀ k, B k ≤ B' k) →
        ((∀ c, c < 4 → wk c = 0) ∨ ∃ u, u < 4 ∧ ¬ wk u = 0 ∧ (B (h u) < cv_L g (h u) → B (h u) < B' (h u))) → post (nI Ln, nI D, nI (cv_L g nx), nI P, nI nx, nI now, su, va, sc, ce, op, fX, fY, fZ, wk, ho, co, si, be', fi, vl', cf', ry')) :
    wpX_beginInOrder post (nI Ln, nI D, nI (cv_L g nx), nI P, nI nx, nI now, su, va, sc, ce, op, fX, fY, fZ, wk, ho, co, si, be, fi, vl, cf, ry) :=
  ⟨5, cx_order4 Hp hP hg hLn hL1 hD 4 0 5 (-1) B be vl cf ry (by omega) (by omega) I (fun B' be' vl' cf' ry' I' mo pr => K B' be' vl' cf' ry' I' mo (pr (by omega) rfl))⟩
end
end
section
section
variable {g : cv_G} {P nx now Ln D : Nat} {h B T : Nat → Nat} {op fX fY fZ ho co si be vl cf ry : Nat → Int32}
theorem cx_deliver {post : SX → Prop} {F : Nat → Nat} {su : Int32} {va sc ce wk fi : Nat → Int32} (Hp : cv_Pr g P op fX fY fZ) (hP : P ≤ 16) (hg : ∀ k, cv_L g k ≤ 16)
    (I : cv_I g P nx now h B F T su va sc ce wk ho co si be fi vl cf ry) {u : Nat} (hu : u < 4) (w : ¬ wk u = 0) (hB : F (h u) < B (h u))
    (H : ∀ (su' : Int32) (va' ce' : Nat → Int32), cv_I g P nx now h B (cv_pt F (h u) (F (h u) + 1)) T su' va' sc ce' wk ho co si be (upd fi u (nI (F (h u) + 1))) vl cf ry → post (nI Ln, nI D, nI (cv_L g nx), nI P, nI nx, nI now, su', va', sc, ce', op, fX, fY, fZ, wk, ho, co, si, be, fi, vl, cf, ry)) :
    wpX_deliver post (nI Ln, nI D, nI (cv_L g nx), nI P, nI nx, nI now, su, va, sc, ce, op, fX, fY, fZ, wk, ho, co, si, be, fi, vl, cf, ry) (nI u) (nI (F (h u))) := by
  obtain ⟨C, IV, IM, IS, IU, IW, IT⟩ := I
  have l0 := (C.2.1 u hu w).1
  have o9 := (C.2.1 u hu w).2.1
  have l1 := C.1
  have l2 := C.2.2.1 (h u) l0
  have l3 := hg (h u)
  obtain ⟨u1, u2, u3, u4, u5, u6⟩ := IU u hu w
  obtain ⟨⟨p1, p2, p3, p4⟩, q1, q2, q3, q4⟩ := Hp (h u) (by omega)
  obtain ⟨v1, v2⟩ := IW u hu w (F (h u)) (Nat.le_refl _) hB
  have hk := vp_in_nI (n := h u) (N := 16) (by omega) (by decide)
  have h4 := vp_in_nI (n := u) (N := 4) hu (by decide)
  have hs := vp_in_nI (n := 16 * u + F (h u)) (N := 64) (by omega) (by decide)
  have C' := cv_C_F C l0 hB
  have U' := cv_U_F (m := F (h u) + 1) C IU hu w
  have mo : ∀ k, F k ≤ cv_pt F (h u) (F (h u) + 1) k := cv_pt_ge (by omega)
  unfold wpX_deliver
  dsimp only
  rw [nI_clamp (n := u) (by omega), cv_ix, nI_clamp (n := 16 * u + F (h u)) (by omega)]
  refine ⟨h4, nm_r u1 ⟨hs, nm_r v1 ?_⟩⟩
  rw [nI_clamp (n := h u) (by omega), q2, cv_ix, nI_clamp (n := 16 * cv_x g (h u) + F (h u)) (by omega)]
  refine pk_eq u 3 (fun e3 => nm_e ?_) (fun e3 => ⟨hk, ?_⟩)
  · subst e3
    have h9 := cv_o9 C hu w rfl
    exact H _ va ce ⟨C', cv_V_F0 IV (fun v z => by have := z.1; omega), cv_M_F0 C IM hu w (fun z => absurd z (by decide)), cv_S_F3 C IS rfl w, U', cv_W_F IW mo, cv_T_F IT mo⟩
  · refine pk_eq (cv_o g (h u)) 7 (fun e7 => ⟨hs, ?_⟩) (fun e7 => ⟨hk, vp_in_nI (by omega) (by decide), nm_e ?_⟩) (hx := q1)
    · have e2 : u = 2 := by
        have a := (C.2.1 u hu w).2.2
        rw [e7] at a
        exact a.symm
      subst e2
      rw [v2 e7]
      obtain ⟨j, hj, ej⟩ := cv_63 (cv_S g (h 2) (cv_y g (h 2)) + nI (F (h 2)) * cv_Z g (h 2))
      have ec : cv_cell (cv_S g (h 2) (cv_y g (h 2))) (cv_Z g (h 2)) (F (h 2)) < 64 := by
        unfold cv_cell
        rw [ej, nI_clamp (by omega)]; exact hj
      rw [nI_clamp (n := cv_cell _ _ _) (by omega)]
      exact ⟨vp_in_nI ec (by decide), nm_e (H su va _ ⟨C', cv_V_F0 IV (fun v z => z.2.1 e7), cv_M_F7 IM rfl w e7, cv_S_F0 C IS hu w (by decide), U', cv_W_F IW mo, cv_T_F IT mo⟩)⟩
    · have o8 : cv_o g (h u) ≤ 8 := by
        have a := (C.2.1 u hu w).2.2
        unfold cv_un at a
        by_cases z : cv_o g (h u) ≤ 8
        · exact z
        · rw [if_neg (by omega), if_neg (by omega), if_neg (by omega), if_neg z] at a
          exact absurd a.symm e3
      exact H su _ ce ⟨C', cv_V_F C IV l0 rfl hB (by omega) ⟨o8, e7, rfl⟩, cv_M_F0 C IM hu w (fun z => by subst z; exact e7), cv_S_F0 C IS hu w e3, U', cv_W_F IW mo, cv_T_F IT mo⟩
theorem cx_fin12 {post : SX → Prop} {sc wk : Nat → Int32} (Hp : cv_Pr g P op fX fY fZ) (hP : P ≤ 16) (hg : ∀ k, cv_L g k ≤ 16) (hLn : Ln ≤ 4) (hnow : now ≤ 1000) {u : Nat} (hu : u < 4) (w : ¬ wk u = 0) :
    ∀ d m n (F : Nat → Nat) (su : Int32) (va ce fi : Nat → Int32), m + d = Ln → d < n → cv_I g P nx now h B F T su va sc ce wk ho co si be fi vl cf ry →
      (∀ (F' : Nat → Nat) (su' : Int32) (va' ce' fi' : Nat → Int32), cv_I g P nx now h B F' T su' va' sc ce' wk ho co si be fi' vl cf ry → (∀ k, F k ≤ F' k) →
        ((F' = F ∧ (0 < d → B (h u) ≤ F (h u) ∨ 1 ≤ T u)) ∨ F (h u) < F' (h u)) → wX_finishElements_81 post (nI u) (nI Ln) (nI D) (nI (cv_L g nx)) (nI P) (nI nx) (nI now) su' va' sc ce' op fX fY fZ wk ho co si be fi' vl cf ry) →
      wX_finishElements_12 post (nI u) n (nI m) (nI Ln) (nI D) (nI (cv_L g nx)) (nI P) (nI nx) (nI now) su va sc ce op fX fY fZ wk ho co si be fi vl cf ry := by
  intro d
  induction d with
  | zero =>
    intro m n F su va ce fi hm hn I K
    obtain ⟨n, rfl⟩ : ∃ m, n = m + 1 := ⟨n - 1, by omega⟩
    have e : m = Ln := by omega
    subst e
    exact br_t (nI_le (Nat.le_refl _) (by omega)) (K F su va ce fi I (fun _ => Nat.le_refl _) (Or.inl ⟨rfl, fun z => absurd z (Nat.lt_irrefl _)⟩))
  | succ d ih =>
    intro m n F su va ce fi hm hn I K
    obtain ⟨n, rfl⟩ : ∃ m, n = m + 1 := ⟨n - 1, by omega⟩
    have h4 := vp_in_nI (n := u) (N := 4) hu (by decide)
    have C := I.1
    obtain ⟨u1, u2, u3, u4, u5, u6⟩ := I.2.2.2.2.1 u hu w
    have l0 := (C.2.1 u hu w).1
    have l2 := C.2.2.1 (h u) l0
    have l3 := hg (h u)
    have KS := K F su va ce fi I (fun _ => Nat.le_refl _)
    refine br_f (nI_ge (by omega) (by omega)) ?_
    rw [nI_clamp (n := u) (by omega)]
    refine ⟨h4, nm_r u4 ⟨h4, ?_⟩⟩
    refine pk_le (B (h u)) (F (h u)) (fun e => KS (Or.inl ⟨rfl, fun _ => Or.inl e⟩)) (fun e => ?_) (hx := u3)
    obtain ⟨t1, t2, t3⟩ := I.2.2.2.2.2.2 u hu w
    obtain ⟨t, ht, et⟩ := t3 (F (h u)) (Nat.le_refl _) e
    have hs := vp_in_nI (n := 16 * u + F (h u)) (N := 64) (by omega) (by decide)
    rw [cv_ix, nI_clamp (n := 16 * u + F (h u)) (by omega)]
    refine ⟨hs, pk_le t now (fun le => ?_) (fun gt => KS (Or.inl ⟨rfl, fun _ => Or.inr (by omega)⟩)) (hx := et)⟩
    refine cx_deliver Hp hP hg I hu w e (fun su1 va1 ce1 I1 => ?_)
    have J := ih (m + 1) n _ su1 va1 ce1 _ (by omega) (by omega) I1 (fun F' su' va' ce' fi' I2 mo pr => K F' su' va' ce' fi' I2 (fun k => Nat.le_trans (cv_pt_ge (by omega) k) (mo k)) (Or.inr (by
      have z := mo (h u)
      rw [cv_ps] at z
      omega)))
    dsimp only
    rw [u4, nI_1, cv_by _ (by omega)]
    exact ⟨h4, h4, nm_e (nm_r (nI_1 m) J)⟩
theorem cx_fin81 {post : SX → Prop} {F : Nat → Nat} {su : Int32} {va sc ce wk fi : Nat → Int32} (Hp : cv_Pr g P op fX fY fZ) (hP : P ≤ 16) (hg : ∀ k, cv_L g k ≤ 16)
    (I : cv_I g P nx now h B F T su va sc ce wk ho co si be fi vl cf ry) {u : Nat} (hu : u < 4) (w : ¬ wk u = 0)
    (K : ∀ (sc' wk' : Nat → Int32), cv_I g P nx now h B F T su va sc' ce wk' ho co si be fi vl cf ry → ((wk' = wk ∧ F (h u) < cv_L g (h u)) ∨ wk' = upd wk u 0) → post (nI Ln, nI D, nI (cv_L g nx), nI P, nI nx, nI now, su, va, sc', ce, op, fX, fY, fZ, wk', ho, co, si, be, fi, vl, cf, ry)) :
    wX_finishElements_81 post (nI u) (nI Ln) (nI D) (nI (cv_L g nx)) (nI P) (nI nx) (nI now) su va sc ce op fX fY fZ wk ho co si be fi vl cf ry := by
  obtain ⟨C, IV, IM, IS, IU, IW, IT⟩ := I
  have l0 := (C.2.1 u hu w).1
  have l1 := C.1
  have l2 := C.2.2.1 (h u) l0
  have l3 := hg (h u)
  obtain ⟨u1, u2, u3, u4, u5, u6⟩ := IU u hu w
  obtain ⟨⟨p1, p2, p3, p4⟩, q1, q2, q3, q4⟩ := Hp (h u) (by omega)
  have hk := vp_in_nI (n := h u) (N := 16) (by omega) (by decide)
  have h4 := vp_in_nI (n := u) (N := 4) hu (by decide)
  unfold wX_finishElements_81
  rw [nI_clamp (n := u) (by omega), u1, nI_clamp (n := h u) (by omega), q2, nI_clamp (n := cv_x g (h u)) (by omega), cv_bo0]
  refine ⟨h4, h4, pk_le (cv_L g (h u)) (F (h u)) (fun e => ?_) (fun e => K sc wk ⟨C, IV, IM, IS, IU, IW, IT⟩ (Or.inl ⟨rfl, e⟩)) (hx := u2) (hy := u4)⟩
  have eF : F (h u) = cv_L g (h u) := by omega
  refine pk_eq u 3 (fun e3 => ?_) (fun e3 => ?_)
  · subst e3
    exact ⟨h4, hk, vp_in_nI p2 (by decide), nm_e ⟨h4, nm_e (K _ _ ⟨cv_C_free C eF, IV, cv_M_free IM w eF, cv_S_free3 C IS w eF, cv_U_free IU, cv_W_free IW, cv_T_free IT⟩ (Or.inr rfl))⟩⟩
  · exact ⟨h4, nm_e (K sc _ ⟨cv_C_free C eF, IV, cv_M_free IM w eF, cv_S_free IS e3, cv_U_free IU, cv_W_free IW, cv_T_free IT⟩ (Or.inr rfl))⟩
/-- unit u does not come on by finishing -/
def cv_still (g : cv_G) (wk : Nat → Int32) (h B F T : Nat → Nat) (u : Nat) : Prop := ¬ wk u = 0 → F (h u) < cv_L g (h u) ∧ (B (h u) < cv_L g (h u) ∨ 1 ≤ T u)
theorem cx_finish {post : SX → Prop} {F : Nat → Nat} {su : Int32} {va sc ce wk fi : Nat → Int32} (Hp : cv_Pr g P op fX fY fZ) (hP : P ≤ 16) (hg : ∀ k, cv_L g k ≤ 16) (hLn : Ln ≤ 4) (hL1 : 1 ≤ Ln) (hnow : now ≤ 1000)
    (I : cv_I g P nx now h B F T su va sc ce wk ho co si be fi vl cf ry) {u : Nat} (hu : u < 4)
    (K : ∀ (F' : Nat → Nat) (su' : Int32) (va' sc' ce' wk' fi' : Nat → Int32), cv_I g P nx now h B F' T su' va' sc' ce' wk' ho co si be fi' vl cf ry →
      (cv_phi g P nx wk' h B F' T < cv_phi g P nx wk h B F T ∨ (F' = F ∧ wk' = wk ∧ cv_still g wk h B F T u)) → post (nI Ln, nI D, nI (cv_L g nx), nI P, nI nx, nI now, su', va', sc', ce', op, fX, fY, fZ, wk', ho, co, si, be, fi', vl, cf, ry)) :
    wpX_finishElements post (nI Ln, nI D, nI (cv_L g nx), nI P, nI nx, nI now, su, va, sc, ce, op, fX, fY, fZ, wk, ho, co, si, be, fi, vl, cf, ry) (nI u) := by
  have h4 := vp_in_nI (n := u) (N := 4) hu (by decide)
  unfold wpX_finishElements
  dsimp only
  rw [nI_clamp (n := u) (by omega)]
  refine ⟨h4, br_c (fun w => K F su va sc ce wk fi I (Or.inr ⟨rfl, rfl, fun z => absurd w z⟩)) (fun w => ⟨Ln + 1, ?_⟩)⟩
  refine cx_fin12 Hp hP hg hLn hnow hu w Ln 0 (Ln + 1) F su va ce fi (by omega) (by omega) I (fun F' su' va' ce' fi' I1 mo pr => ?_)
  refine cx_fin81 Hp hP hg I1 hu w (fun sc' wk' I2 fr => K F' su' va' sc' ce' wk' fi' I2 ?_)
  have l0 := (I.1.2.1 u hu w).1
  have l2 := I1.1.2.2.1 (h u) l0
  have l4 := I.1.2.2.1 (h u) l0
  rcases fr with ⟨rfl, lt⟩ | rfl
  · rcases pr with ⟨rfl, a⟩ | a
    · refine Or.inr ⟨rfl, rfl, fun _ => ⟨lt, ?_⟩⟩
      rcases a (by omega) with b | b
      · exact Or.inl (by omega)
      · exact Or.inr b
    · refine Or.inl (cv_phi_lt hu (fun u' _ => cv_tm_le ?_ (Nat.le_refl _) (mo _) (fun _ => Nat.le_refl _)) (cv_tm_lt w (Nat.le_refl _) (mo _) (Nat.le_refl _) (Or.inr (Or.inl ⟨a, by omega⟩))))
      by_cases z : wk' u' = 0
      · exact Or.inl z
      · exact Or.inr z
  · refine Or.inl (cv_phi_lt hu (fun u' _ => cv_tm_le ?_ (Nat.le_refl _) (mo _) (fun _ => Nat.le_refl _)) (cv_tm_z w pk_us))
    by_cases z : upd wk u 0 u' = 0
    · exact Or.inl z
    · exact Or.inr (cv_wz z).2
end
end
section
section
variable {g : cv_G} {P nx now Ln D : Nat} {h B F T : Nat → Nat} {fL fD fN fP fx fw su : Int32} {va sc ce op fX fY fZ wk ho co si be fi vl cf ry : Nat → Int32}
def cv_cf (g : cv_G) (k c : Nat) : Prop := (cv_o g k = 4 ∨ cv_o g k = 5 → cv_z g k ≠ c) ∧ (cv_o g k = 6 ∨ cv_o g k = 7 → cv_y g k ≠ c) ∧ (cv_o g k = 11 → cv_x g k ≠ c ∧ cv_y g k ≠ c ∧ cv_z g k ≠ c) ∧ (9 ≤ cv_o g k → cv_x g k ≠ c)
theorem cx_waits {post : Int32 → Prop} {k : Nat} (Hp : cv_Pr g P op fX fY fZ) (hP : P ≤ 16) (C : cv_iC g P nx wk h B F) (U : cv_iU g wk h B F ho co si be fi) (hk : k < P)
    (H0 : (¬ wk 3 = 0 → cv_cf g k (cv_x g (h 3))) → post 0) (H1 : ¬ wk 3 = 0 → post 1) : wpX_waitsForScalar post (fL, fD, fN, fP, fx, fw, su, va, sc, ce, op, fX, fY, fZ, wk, ho, co, si, be, fi, vl, cf, ry) (nI k) := by
  unfold wpX_waitsForScalar
  dsimp only
  refine br_c (fun w => H0 (fun z => absurd w z)) (fun w => ?_)
  have G1 := H1 w
  have l0 := (C.2.1 3 (by decide) w).1
  have l1 := C.1
  obtain ⟨⟨p1, p2, p3, p4⟩, q1, q2, q3, q4⟩ := Hp k hk
  obtain ⟨⟨r1, r2, r3, r4⟩, s1, s2, s3, s4⟩ := Hp (h 3) (by omega)
  have hi := vp_in_nI (n := k) (N := 16) (by omega) (by decide)
  rw [(U 3 (by decide) w).1, nI_clamp (n := h 3) (by omega), nI_clamp (n := k) (by omega)]
  refine ⟨vp_in_nI (by omega) (by decide), nm_r s2 ⟨hi, nm_r q1 ?_⟩⟩
  have G0 : cv_cf g k (cv_x g (h 3)) → post 0 := fun z => H0 (fun _ => z)
  unfold cv_cf at G0
  have W40 : cv_o g k ≤ 5 → (cv_z g k ≠ cv_x g (h 3) → post 0) → wX_waitsForScalar_40 post (nI k) (nI (cv_x g (h 3))) fL fD fN fP fx fw su va sc ce op fX fY fZ wk ho co si be fi vl cf ry := by
    intro z G
    obtain ⟨eZ, lZ⟩ := p4 (Or.inl z)
    unfold wX_waitsForScalar_40
    rw [nI_clamp (n := k) (by omega)]
    exact ⟨hi, pk_eq (cv_z g k) (cv_x g (h 3)) (fun _ => G1) G (hx := q4.trans eZ)⟩
  have W68 : cv_o g k ≤ 7 → (cv_y g k ≠ cv_x g (h 3) → post 0) → wX_waitsForScalar_68 post (nI k) (nI (cv_x g (h 3))) fL fD fN fP fx fw su va sc ce op fX fY fZ wk ho co si be fi vl cf ry := by
    intro z G
    obtain ⟨eY, lY⟩ := p3 (by omega) (by omega)
    unfold wX_waitsForScalar_68
    rw [nI_clamp (n := k) (by omega)]
    exact ⟨hi, pk_eq (cv_y g k) (cv_x g (h 3)) (fun _ => G1) G (hx := q3.trans eY)⟩
  refine pk_eq (cv_o g k) 4 (fun e => W40 (by omega) (fun n => G0 ⟨fun _ => n, fun _ => by omega, fun _ => by omega, fun _ => by omega⟩)) (fun e4 => ?_)
  refine pk_eq (cv_o g k) 5 (fun e => W40 (by omega) (fun n => G0 ⟨fun _ => n, fun _ => by omega, fun _ => by omega, fun _ => by omega⟩)) (fun e5 => ?_)
  refine pk_eq (cv_o g k) 6 (fun e => W68 (by omega) (fun n => G0 ⟨fun _ => by omega, fun _ => n, fun _ => by omega, fun _ => by omega⟩)) (fun e6 => ?_)
  refine pk_eq (cv_o g k) 7 (fun e => W68 (by omega) (fun n => G0 ⟨fun _ => by omega, fun _ => n, fun _ => by omega, fun _ => by omega⟩)) (fun e7 => ?_)
  refine pk_eq (cv_o g k) 11 (fun e => ?_) (fun e11 => ?_)
  · obtain ⟨eY, lY⟩ := p3 (by omega) (by omega)
    obtain ⟨eZ, lZ⟩ := p4 (Or.inr e)
    refine ⟨hi, pk_eq (cv_x g k) (cv_x g (h 3)) (fun _ => G1) (fun n1 => ⟨hi, ?_⟩) (hx := q2)⟩
    refine pk_eq (cv_y g k) (cv_x g (h 3)) (fun _ => G1) (fun n2 => ⟨hi, ?_⟩) (hx := q3.trans eY)
    exact pk_eq (cv_z g k) (cv_x g (h 3)) (fun _ => G1) (fun n3 => G0 ⟨fun _ => n3, fun _ => n2, fun _ => ⟨n1, n2, n3⟩, fun _ => n1⟩) (hx := q4.trans eZ)
  · refine pk_lt (cv_o g k) 9 (fun e => G0 ⟨fun _ => by omega, fun _ => by omega, fun _ => by omega, fun _ => by omega⟩) (fun e => ⟨hi, ?_⟩)
    exact pk_eq (cv_x g k) (cv_x g (h 3)) (fun _ => G1) (fun n => G0 ⟨fun _ => by omega, fun _ => by omega, fun _ => by omega, fun _ => n⟩) (hx := q2)
theorem cx_scalarWork {post : SX → Prop} (Hp : cv_Pr g P op fX fY fZ) (hP : P ≤ 16) (hn : nx < P) (h10 : 10 ≤ cv_o g nx) (C : cv_iC g P nx wk h B F) (I : cv_iS g nx wk h F sc su) (W : ¬ wk 3 = 0 → cv_cf g nx (cv_x g (h 3)))
    (K : ∀ sc', cv_iS g (nx + 1) wk h (cv_pt F nx 0) sc' su → post (nI Ln, nI D, nI (cv_L g (nx + 1)), nI P, nI nx, nI now, su, va, sc', ce, op, fX, fY, fZ, wk, ho, co, si, be, fi, vl, cf, ry)) : wpX_scalarWork post (nI Ln, nI D, nI (cv_L g nx), nI P, nI nx, nI now, su, va, sc, ce, op, fX, fY, fZ, wk, ho, co, si, be, fi, vl, cf, ry) (nI nx) := by
  obtain ⟨⟨p1, p2, p3, p4⟩, q1, q2, q3, q4⟩ := Hp nx hn
  have hi := vp_in_nI (n := nx) (N := 16) (by omega) (by decide)
  have hx4 := vp_in_nI (n := cv_x g nx) (N := 4) p2 (by decide)
  have A : ∀ s, (¬ wk 3 = 0 → s ≠ cv_x g (h 3)) → sc s = cv_S g nx s := fun s z => by
    by_cases w : wk 3 = 0
    · exact I.1 s (Or.inl w)
    · exact I.1 s (Or.inr (fun y => z w y.symm))
  have X : ¬ wk 3 = 0 → cv_x g nx ≠ cv_x g (h 3) := fun w => (W w).2.2.2 (by omega)
  unfold wpX_scalarWork
  dsimp only
  rw [nI_clamp (n := nx) (by omega)]
  refine ⟨hi, nm_r q2 ⟨hi, nm_r q1 ?_⟩⟩
  rw [nI_clamp (n := cv_x g nx) (by omega)]
  refine pk_eq (cv_o g nx) 10 (fun e => ⟨hi, hx4, nm_e ?_⟩) (fun e10 => ?_)
  · have eL : cv_L g (nx + 1) = cv_L g nx := by rw [cv_Ls]; unfold cv_ln; rw [if_neg (by omega)]
    have eS : cv_S g (nx + 1) = upd (cv_S g nx) (cv_x g nx) (cv_Y g nx) := by rw [cv_Ss]; unfold cv_sn; rw [if_neg (by omega), if_pos e]
    rw [← eL, q3]
    refine K _ (cv_S_sc C I (fun s z => ?_) (fun w => ?_))
    · rw [eS]
      by_cases y : s = cv_x g nx
      · subst y; rw [pk_us, pk_us]
      · rw [pk_un y, pk_un y]; exact I.1 s z
    · rw [eS, pk_un (fun z => X w z.symm)]
  · refine pk_eq (cv_o g nx) 11 (fun e => ?_) (fun e11 => ⟨hx4, ?_⟩)
    · have eL : cv_L g (nx + 1) = cv_L g nx := by rw [cv_Ls]; unfold cv_ln; rw [if_neg (by omega)]
      have eS : cv_S g (nx + 1) = upd (cv_S g nx) (cv_x g nx) (cv_S g nx (cv_y g nx) + cv_S g nx (cv_z g nx)) := by rw [cv_Ss]; unfold cv_sn; rw [if_neg (by omega), if_neg e10, if_pos e]
      obtain ⟨eY, lY⟩ := p3 (by omega) (by omega)
      obtain ⟨eZ, lZ⟩ := p4 (Or.inr e)
      rw [← eL, q3, q4, eY, eZ, nI_clamp (n := cv_y g nx) (by omega), nI_clamp (n := cv_z g nx) (by omega), A (cv_y g nx) (fun w => ((W w).2.2.1 e).2.1), A (cv_z g nx) (fun w => ((W w).2.2.1 e).2.2)]
      refine ⟨hi, vp_in_nI lY (by decide), hi, vp_in_nI lZ (by decide), hx4, nm_e (K _ (cv_S_sc C I (fun s z => ?_) (fun w => ?_)))⟩
      · rw [eS]
        by_cases y : s = cv_x g nx
        · subst y; rw [pk_us, pk_us]
        · rw [pk_un y, pk_un y]; exact I.1 s z
      · rw [eS, pk_un (fun z => X w z.symm)]
    · have e12 : cv_o g nx = 12 := by omega
      have eL : cv_L g (nx + 1) = cv_cl (cv_S g nx (cv_x g nx)) := by rw [cv_Ls]; unfold cv_ln; rw [if_pos e12]
      have eS : cv_S g (nx + 1) = cv_S g nx := by rw [cv_Ss]; unfold cv_sn; rw [if_neg (by omega), if_neg e10, if_neg e11]
      have G := K sc (cv_S_sc C I (fun s z => by rw [eS]; exact I.1 s z) (fun w => by rw [eS]))
      refine nm_r (A (cv_x g nx) X) ?_
      rw [eL] at G
      refine br_c (fun z0 => br_c (fun z16 => ?_) (fun z16 => ?_)) (fun z0 => ?_)
      · rw [← cv_clI _ z0 z16] at G; exact G
      · unfold cv_cl at G
        rw [if_pos z0, if_neg z16] at G; exact G
      · unfold cv_cl at G
        rw [if_neg z0] at G; exact G
theorem cx_unitFor {post : Int32 → Prop} {o : Nat} (lo : o < 64) (H : post (nI (cv_un o))) : wpX_unitFor post (fL, fD, fN, fP, fx, fw, su, va, sc, ce, op, fX, fY, fZ, wk, ho, co, si, be, fi, vl, cf, ry) (nI o) := by
  unfold cv_un at H
  unfold wpX_unitFor
  dsimp only
  refine pk_eq o 2 (fun e => ?_) (fun e => ?_)
  · rw [if_pos e] at H; exact H
  rw [if_neg e] at H
  refine pk_eq o 5 (fun e => ?_) (fun e => ?_)
  · rw [if_pos e] at H; exact H
  rw [if_neg e] at H
  refine pk_lt 4 o (fun e => ?_) (fun e => ?_)
  · rw [if_neg (by omega)] at H
    refine pk_lt 8 o (fun e => ?_) (fun e => ?_)
    · rw [if_neg (by omega)] at H; exact H
    · rw [if_pos e] at H; exact H
  · rw [if_pos e] at H; exact H
theorem cv_I_iss (I : cv_I g P nx now h B F T su va sc ce wk ho co si be fi vl cf ry) (hn : nx < P) (h9 : cv_o g nx ≤ 9) {u : Nat} (hu : cv_un (cv_o g nx) = u) (w : wk u = 0) {si' : Nat → Int32} {su' : Int32}
    (s1 : cv_o g nx = 4 ∨ cv_o g nx = 5 → si' u = cv_S g nx (cv_z g nx)) (s2 : cv_o g nx = 6 ∨ cv_o g nx = 7 → si' u = cv_S g nx (cv_y g nx)) (s3 : ∀ j, j ≠ u → si' j = si j)
    (s4 : (cv_o g nx = 9 ∧ su' = 0) ∨ (cv_o g nx ≠ 9 ∧ su' = su)) :
    cv_I g P (nx + 1) now (cv_pt h u nx) (cv_pt B nx 0) (cv_pt F nx 0) (cv_pt T u 5) su' va sc ce (upd wk u 1) (upd ho u (nI nx)) (upd co u (nI (cv_L g nx))) si' (upd be u (nI 0)) (upd fi u (nI 0)) vl cf ry := by
  obtain ⟨C, IV, IM, IS, IU, IW, IT⟩ := I
  have S' : cv_iS g (nx + 1) (upd wk u 1) (cv_pt h u nx) (cv_pt F nx 0) sc su' := by
    rcases s4 with ⟨e, rfl⟩ | ⟨e, rfl⟩
    · have e3 : u = 3 := by rw [← hu, e]; rfl
      subst e3
      exact cv_S_iss3 IS e w
    · refine cv_S_iss C IS (by omega) (fun z => ?_)
      rw [z] at hu
      unfold cv_un at hu
      revert hu
      repeat' split
      all_goals (intro b; omega)
  exact ⟨cv_C_iss C hn h9 hu w, cv_V_iss IV, cv_M_iss C IM h9 hu w, S', cv_U_iss C IU s1 s2 s3, cv_W_iss C IW, cv_T_iss C IT⟩
theorem cx_180 {post : SX → Prop} {o : Nat} (ho' : o < 64) (H9 : o = 9 → post (fL, fD, fN, fP, nI (nx + 1), fw, 0, va, sc, ce, op, fX, fY, fZ, wk, ho, co, si, be, fi, vl, cf, ry)) (Hn : o ≠ 9 → post (fL, fD, fN, fP, nI (nx + 1), fw, su, va, sc, ce, op, fX, fY, fZ, wk, ho, co, si, be, fi, vl, cf, ry)) : wX_issue_180 post (nI o) fL fD fN fP (nI nx) fw su va sc ce op fX fY fZ wk ho co si be fi vl cf ry := by
  unfold wX_issue_180
  exact pk_eq o 9 (fun e => nm_r (nI_1 nx) (H9 e)) (fun e => nm_r (nI_1 nx) (Hn e))
theorem cx_issue {post : SX → Prop} (Hp : cv_Pr g P op fX fY fZ) (hP : P ≤ 16) (hg : ∀ k, cv_L g k ≤ 16) (I : cv_I g P nx now h B F T su va sc ce wk ho co si be fi vl cf ry)
    (K : ∀ (nx' : Nat) (h' B' F' T' : Nat → Nat) (su' : Int32) (sc' wk' ho' co' si' be' fi' : Nat → Int32), cv_I g P nx' now h' B' F' T' su' va sc' ce wk' ho' co' si' be' fi' vl cf ry →
      (cv_phi g P nx' wk' h' B' F' T' < cv_phi g P nx wk h B F T ∨ (nx' = nx ∧ h' = h ∧ B' = B ∧ F' = F ∧ T' = T ∧ wk' = wk ∧ (nx = P ∨ ∃ u, u < 4 ∧ ¬ wk u = 0))) →
      post (nI Ln, nI D, nI (cv_L g nx'), nI P, nI nx', nI now, su', va, sc', ce, op, fX, fY, fZ, wk', ho', co', si', be', fi', vl, cf, ry)) : wpX_issue post (nI Ln, nI D, nI (cv_L g nx), nI P, nI nx, nI now, su, va, sc, ce, op, fX, fY, fZ, wk, ho, co, si, be, fi, vl, cf, ry) := by
  have C := I.1
  have l1 := C.1
  have KS : (nx = P ∨ ∃ u, u < 4 ∧ ¬ wk u = 0) → post (nI Ln, nI D, nI (cv_L g nx), nI P, nI nx, nI now, su, va, sc, ce, op, fX, fY, fZ, wk, ho, co, si, be, fi, vl, cf, ry) := fun z => K nx h B F T su sc wk ho co si be fi I (Or.inr ⟨rfl, rfl, rfl, rfl, rfl, rfl, z⟩)
  unfold wpX_issue
  dsimp only
  refine pk_lt nx P (fun hn => ?_) (fun hn => KS (Or.inl (by omega)))
  obtain ⟨⟨p1, p2, p3, p4⟩, q1, q2, q3, q4⟩ := Hp nx hn
  have hi := vp_in_nI (n := nx) (N := 16) (by omega) (by decide)
  rw [nI_clamp (n := nx) (by omega)]
  refine ⟨hi, nm_r q1 ?_⟩
  refine cx_waits Hp hP C I.2.2.2.2.1 hn (fun W => br_t rfl ?_) (fun w3 => br_f cv_10 (KS (Or.inr ⟨3, by decide, w3⟩)))
  refine pk_lt (cv_o g nx) 10 (fun o10 => ?_) (fun o10 => ?_)
  · refine cx_unitFor (by omega) ?_
    have hu := cv_un4 (cv_o g nx)
    generalize eu : cv_un (cv_o g nx) = u at hu ⊢
    have h4 := vp_in_nI (n := u) (N := 4) hu (by decide)
    rw [nI_clamp (n := u) (by omega)]
    refine ⟨h4, br_c (fun w => ?_) (fun w => KS (Or.inr ⟨u, hu, w⟩))⟩
    have IS := I.2.2.2.1
    have A : ∀ s, (¬ wk 3 = 0 → s ≠ cv_x g (h 3)) → sc s = cv_S g nx s := fun s z => by
      by_cases w : wk 3 = 0
      · exact IS.1 s (Or.inl w)
      · exact IS.1 s (Or.inr (fun y => z w y.symm))
    have eL : cv_L g (nx + 1) = cv_L g nx := by rw [cv_Ls]; unfold cv_ln; rw [if_neg (by omega)]
    have ph := cv_phi_iss (T := T) C hg hu w hn
    have l16 := hg nx
    have Z : ∀ si' : Nat → Int32, (cv_o g nx = 4 ∨ cv_o g nx = 5 → si' u = cv_S g nx (cv_z g nx)) → (cv_o g nx = 6 ∨ cv_o g nx = 7 → si' u = cv_S g nx (cv_y g nx)) → (∀ j, j ≠ u → si' j = si j) →
        wX_issue_180 post (nI (cv_o g nx)) (nI Ln) (nI D) (nI (cv_L g nx)) (nI P) (nI nx) (nI now) su va sc ce op fX fY fZ (upd wk u 1) (upd ho u (nI nx)) (upd co u (nI (cv_L g nx))) si' (upd be u (nI 0)) (upd fi u (nI 0)) vl cf ry := by
      intro si' s1 s2 s3
      refine cx_180 (by omega) (fun e => ?_) (fun e => ?_)
      · have G := K (nx + 1) _ _ _ _ 0 sc _ _ _ si' _ _ (cv_I_iss I hn (by omega) eu w s1 s2 s3 (Or.inl ⟨e, rfl⟩)) (Or.inl ph)
        rw [eL] at G; exact G
      · have G := K (nx + 1) _ _ _ _ su sc _ _ _ si' _ _ (cv_I_iss I hn (by omega) eu w s1 s2 s3 (Or.inr ⟨e, rfl⟩)) (Or.inl ph)
        rw [eL] at G; exact G
    rw [cv_bo1, cv_by nx (by omega), cv_by (cv_L g nx) (by omega), cv_by0]
    refine ⟨h4, nm_e ⟨h4, nm_e ⟨h4, nm_e ⟨h4, nm_e ⟨h4, nm_e ?_⟩⟩⟩⟩⟩
    have W128 : (cv_o g nx = 4 ∨ cv_o g nx = 5) → wX_issue_128 post (nI (cv_o g nx)) (nI u) (nI Ln) (nI D) (nI (cv_L g nx)) (nI P) (nI nx) (nI now) su va sc ce op fX fY fZ (upd wk u 1) (upd ho u (nI nx)) (upd co u (nI (cv_L g nx))) si (upd be u (nI 0)) (upd fi u (nI 0)) vl cf ry := by
      intro e
      obtain ⟨eZ, lZ⟩ := p4 (Or.inl (by omega))
      unfold wX_issue_128
      rw [nI_clamp (n := nx) (by omega), nI_clamp (n := u) (by omega), q4, eZ, nI_clamp (n := cv_z g nx) (by omega), A (cv_z g nx) (fun w => (W w).1 e)]
      refine ⟨hi, vp_in_nI lZ (by decide), h4, nm_e ?_⟩
      unfold wX_issue_148
      refine pk_eq (cv_o g nx) 6 (fun _ => by omega) (fun _ => pk_eq (cv_o g nx) 7 (fun _ => by omega) (fun _ => ?_))
      exact Z _ (fun _ => pk_us) (fun _ => by omega) (fun j hj => pk_un hj)
    have W160 : (cv_o g nx = 6 ∨ cv_o g nx = 7) → wX_issue_160 post (nI (cv_o g nx)) (nI u) (nI Ln) (nI D) (nI (cv_L g nx)) (nI P) (nI nx) (nI now) su va sc ce op fX fY fZ (upd wk u 1) (upd ho u (nI nx)) (upd co u (nI (cv_L g nx))) si (upd be u (nI 0)) (upd fi u (nI 0)) vl cf ry := by
      intro e
      obtain ⟨eY, lY⟩ := p3 (by omega) (by omega)
      unfold wX_issue_160
      rw [nI_clamp (n := nx) (by omega), nI_clamp (n := u) (by omega), q3, eY, nI_clamp (n := cv_y g nx) (by omega), A (cv_y g nx) (fun w => (W w).2.1 e)]
      refine ⟨hi, vp_in_nI lY (by decide), h4, nm_e ?_⟩
      exact Z _ (fun _ => by omega) (fun _ => pk_us) (fun j hj => pk_un hj)
    refine pk_eq (cv_o g nx) 4 (fun e => W128 (Or.inl e)) (fun e4 => ?_)
    refine pk_eq (cv_o g nx) 5 (fun e => W128 (Or.inr e)) (fun e5 => ?_)
    unfold wX_issue_148
    refine pk_eq (cv_o g nx) 6 (fun e => W160 (Or.inl e)) (fun e6 => ?_)
    refine pk_eq (cv_o g nx) 7 (fun e => W160 (Or.inr e)) (fun e7 => ?_)
    exact Z si (fun _ => by omega) (fun _ => by omega) (fun _ _ => rfl)
  · obtain ⟨_, IV, IM, IS, IU, IW, IT⟩ := I
    refine cx_scalarWork Hp hP hn o10 C IS W (fun sc' S' => nm_r (nI_1 nx) ?_)
    exact K (nx + 1) h (cv_pt B nx 0) (cv_pt F nx 0) T su sc' wk ho co si be fi ⟨cv_C_sc C hn o10, cv_V_iss IV, cv_M_sc C IM o10, S', cv_U_sc C IU, cv_W_sc C IW, cv_T_sc C IT⟩ (Or.inl (cv_phi_sc C hn))
end
end
section
section
variable {g : cv_G} {P Ln D : Nat} {op fX fY fZ : Nat → Int32}
theorem cv_z_or {wk : Nat → Int32} (u : Nat) : wk u = 0 ∨ ¬ wk u = 0 := Decidable.em _
theorem cx_29 {post : Int32 → SX → Prop} {J10 : Int32 → Int32 → Int32 → Int32 → Int32 → Int32 → Int32 → (Nat → Int32) → (Nat → Int32) → (Nat → Int32) → (Nat → Int32) → (Nat → Int32) → (Nat → Int32) → (Nat → Int32) → (Nat → Int32) → (Nat → Int32) → (Nat → Int32) → (Nat → Int32) → (Nat → Int32) → (Nat → Int32) → (Nat → Int32) → (Nat → Int32) → (Nat → Int32) → Prop}
    {nx now : Nat} {h B T F0 : Nat → Nat} {wk0 ho co si be vl cf ry : Nat → Int32}
    (Hp : cv_Pr g P op fX fY fZ) (hP : P ≤ 16) (hg : ∀ k, cv_L g k ≤ 16) (hLn : Ln ≤ 4) (hL1 : 1 ≤ Ln) (hD : D ≤ 5) (hnow : now ≤ 1000)
    (live : nx < P ∨ ∃ u, u < 4 ∧ ¬ wk0 u = 0)
    (K : ∀ (nx' : Nat) (h' B' F' T' : Nat → Nat) (su' : Int32) (va' sc' ce' wk' ho' co' si' be' fi' vl' cf' ry' : Nat → Int32), cv_I g P nx' (now + 1) h' B' F' T' su' va' sc' ce' wk' ho' co' si' be' fi' vl' cf' ry' →
      cv_phi g P nx' wk' h' B' F' T' < cv_phi g P nx wk0 h B F0 T →
      J10 (nI Ln) (nI D) (nI (cv_L g nx')) (nI P) (nI nx') (nI (now + 1)) su' va' sc' ce' op fX fY fZ wk' ho' co' si' be' fi' vl' cf' ry') :
    ∀ d u n (F : Nat → Nat) (su : Int32) (va sc ce wk fi : Nat → Int32), u + d = 4 → d < n → cv_I g P nx now h B F T su va sc ce wk ho co si be fi vl cf ry →
      (cv_phi g P nx wk h B F T < cv_phi g P nx wk0 h B F0 T ∨ (F = F0 ∧ wk = wk0 ∧ ∀ u', u' < u → cv_still g wk h B F T u')) →
      wX_run_29 post J10 n (nI u) (nI Ln) (nI D) (nI (cv_L g nx)) (nI P) (nI nx) (nI now) su va sc ce op fX fY fZ wk ho co si be fi vl cf ry := by
  intro d
  induction d with
  | zero =>
    intro u n F su va sc ce wk fi hu hn I A
    obtain ⟨n, rfl⟩ : ∃ m, n = m + 1 := ⟨n - 1, by omega⟩
    have e : u = 4 := by omega
    subst e
    refine br_t (nI_le (a := 4) (b := 4) (by decide) (by decide)) ?_
    refine cx_order Hp hP hg hLn hL1 hD I (fun B1 be1 vl1 cf1 ry1 I1 mo1 pr1 => ?_)
    have le1 : cv_phi g P nx wk h B1 F T ≤ cv_phi g P nx wk h B F T := cv_phi_le (fun u' _ => cv_tm_le (cv_z_or u') (mo1 _) (Nat.le_refl _) (fun _ => Nat.le_refl _))
    refine cx_issue Hp hP hg I1 (fun nx2 h2 B2 F2 T2 su2 sc2 wk2 ho2 co2 si2 be2 fi2 I2 pr2 => nm_r (nI_1 now) ?_)
    obtain ⟨C2, V2, M2, S2, U2, W2, IT2⟩ := I2
    have tk : ∀ u', u' < 4 → ¬ wk2 u' = 0 → cv_tick g h2 B2 T2 u' ≤ T2 u' := fun u' hu' w => by
      unfold cv_tick
      by_cases z : B2 (h2 u') < cv_L g (h2 u')
      · rw [if_pos z, (IT2 u' hu' w).2.1 z]; exact Nat.le_refl _
      · rw [if_neg z]; omega
    have le3 : ∀ u', u' < 4 → cv_tm g wk2 h2 B2 F2 (cv_tick g h2 B2 T2) u' ≤ cv_tm g wk2 h2 B2 F2 T2 u' := fun u' hu' => cv_tm_le (cv_z_or u') (Nat.le_refl _) (Nat.le_refl _) (tk u' hu')
    have le3' := cv_phi_le (P := P) (nx := nx2) le3
    refine K nx2 h2 B2 F2 (cv_tick g h2 B2 T2) su2 va sc2 ce wk2 ho2 co2 si2 be2 fi2 vl1 cf1 ry1 ⟨C2, V2, M2, S2, U2, W2, cv_T_tick IT2⟩ ?_
    rcases A with a | ⟨rfl, rfl, st⟩
    · rcases pr2 with b | ⟨rfl, rfl, rfl, rfl, rfl, rfl, _⟩ <;> omega
    · rcases pr2 with b | ⟨rfl, rfl, rfl, rfl, rfl, rfl, b⟩
      · omega
      · rcases pr1 with c | ⟨u, hu, w, pr⟩
        · exfalso
          rcases live with l | ⟨u', hu', w'⟩
          · rcases b with b | ⟨u', hu', w'⟩
            · omega
            · exact w' (c u' hu')
          · exact w' (c u' hu')
        · by_cases z : B (h2 u) < cv_L g (h2 u)
          · have lt1 : cv_phi g P nx2 wk2 h2 B2 F2 T2 < cv_phi g P nx2 wk2 h2 B F2 T2 := cv_phi_lt hu (fun u' _ => cv_tm_le (cv_z_or u') (mo1 _) (Nat.le_refl _) (fun _ => Nat.le_refl _)) (cv_tm_lt w (mo1 _) (Nat.le_refl _) (Nat.le_refl _) (Or.inl ⟨pr z, z⟩))
            omega
          · have t1 : 1 ≤ T2 u := (st u hu w).2.resolve_left z
            have mu := mo1 (h2 u)
            have lt3 : cv_phi g P nx2 wk2 h2 B2 F2 (cv_tick g h2 B2 T2) < cv_phi g P nx2 wk2 h2 B2 F2 T2 := cv_phi_lt hu le3 (cv_tm_lt w (Nat.le_refl _) (Nat.le_refl _) (tk u hu w) (Or.inr (Or.inr (by
              unfold cv_tick
              rw [if_neg (by omega)]
              omega))))
            omega
  | succ d ih =>
    intro u n F su va sc ce wk fi hu hn I A
    obtain ⟨n, rfl⟩ : ∃ m, n = m + 1 := ⟨n - 1, by omega⟩
    refine br_f (nI_ge (b := 4) (by omega) (by decide)) ?_
    refine cx_finish Hp hP hg hLn hL1 hnow I (u := u) (by omega) (fun F' su' va' sc' ce' wk' fi' I' pr => nm_r (nI_1 u) ?_)
    refine ih (u + 1) n F' su' va' sc' ce' wk' fi' (by omega) (by omega) I' ?_
    rcases pr with b | ⟨rfl, rfl, b⟩
    · rcases A with a | ⟨rfl, rfl, a⟩
      · exact Or.inl (by omega)
      · exact Or.inl b
    · rcases A with a | ⟨rfl, rfl, a⟩
      · exact Or.inl a
      · refine Or.inr ⟨rfl, rfl, fun u' hu' => ?_⟩
        by_cases z : u' = u
        · subst z; exact b
        · exact a u' (by omega)
theorem cx_idle {post : Int32 → Prop} {nx : Nat} {fL fD fN fw su : Int32} {va sc ce op fX fY fZ wk ho co si be fi vl cf ry : Nat → Int32} (hn : nx ≤ P) (hP : P ≤ 16) (H1 : nx = P → (∀ u, u < 4 → wk u = 0) → post 1) (H0 : (nx < P ∨ ∃ u, u < 4 ∧ ¬ wk u = 0) → post 0) :
    wpX_isIdle post (fL, fD, fN, nI P, nI nx, fw, su, va, sc, ce, op, fX, fY, fZ, wk, ho, co, si, be, fi, vl, cf, ry) := by
  unfold wpX_isIdle
  dsimp only
  refine pk_le P nx (fun e => ?_) (fun e => H0 (Or.inl e))
  refine br_c (fun w0 => ?_) (fun w0 => H0 (Or.inr ⟨0, by decide, w0⟩))
  refine br_c (fun w1 => ?_) (fun w1 => H0 (Or.inr ⟨1, by decide, w1⟩))
  refine br_c (fun w2 => ?_) (fun w2 => H0 (Or.inr ⟨2, by decide, w2⟩))
  refine br_c (fun w3 => ?_) (fun w3 => H0 (Or.inr ⟨3, by decide, w3⟩))
  refine H1 (by omega) (fun u hu => ?_)
  have c : u = 0 ∨ u = 1 ∨ u = 2 ∨ u = 3 := by omega
  rcases c with rfl | rfl | rfl | rfl
  · exact w0
  · exact w1
  · exact w2
  · exact w3
theorem cx_run10 {post : Int32 → SX → Prop} (Hp : cv_Pr g P op fX fY fZ) (hP : P ≤ 16) (hg : ∀ k, cv_L g k ≤ 16) (hLn : Ln ≤ 4) (hL1 : 1 ≤ Ln) (hD : D ≤ 5)
    (K : ∀ (now : Nat) (h B F T : Nat → Nat) (su : Int32) (va sc ce wk ho co si be fi vl cf ry : Nat → Int32), cv_I g P P now h B F T su va sc ce wk ho co si be fi vl cf ry → (∀ u, u < 4 → wk u = 0) →
      post (nI P) (nI Ln, nI D, nI (cv_L g P), 0, nI P, nI now, su, va, sc, ce, op, fX, fY, fZ, wk, ho, co, si, be, fi, vl, cf, ry)) :
    ∀ m (nx now : Nat) (h B F T : Nat → Nat) (su : Int32) (va sc ce wk ho co si be fi vl cf ry : Nat → Int32), cv_I g P nx now h B F T su va sc ce wk ho co si be fi vl cf ry →
      cv_phi g P nx wk h B F T < m → now + cv_phi g P nx wk h B F T ≤ 999 → wX_run_10 post m (nI Ln) (nI D) (nI (cv_L g nx)) (nI P) (nI nx) (nI now) su va sc ce op fX fY fZ wk ho co si be fi vl cf ry := by
  intro m
  induction m with
  | zero => intro nx now h B F T su va sc ce wk ho co si be fi vl cf ry _ z; exact absurd z (Nat.not_lt_zero _)
  | succ m ih =>
    intro nx now h B F T su va sc ce wk ho co si be fi vl cf ry I hm ht
    refine br_f (nI_ge (b := 1000) (by omega) (by decide)) ?_
    refine cx_idle I.1.1 hP (fun e w => br_f cv_10 ?_) (fun live => br_t rfl ⟨5, ?_⟩)
    · subst e
      exact K now h B F T su va sc ce wk ho co si be fi vl cf ry I w
    · refine cx_29 Hp hP hg hLn hL1 hD (by omega) live (fun nx' h' B' F' T' su' va' sc' ce' wk' ho' co' si' be' fi' vl' cf' ry' I' lt => ?_) 4 0 5 F su va sc ce wk fi (by omega) (by omega) I (Or.inr ⟨rfl, rfl, fun u' z => absurd z (Nat.not_lt_zero _)⟩)
      exact ih nx' (now + 1) h' B' F' T' su' va' sc' ce' wk' ho' co' si' be' fi' vl' cf' ry' I' (by omega) (by omega)
theorem cv_end {now : Nat} {h B F T : Nat → Nat} {su : Int32} {va sc ce wk ho co si be fi vl cf ry : Nat → Int32} (I : cv_I g P P now h B F T su va sc ce wk ho co si be fi vl cf ry) (w : ∀ u, u < 4 → wk u = 0) :
    va = cv_V g P ∧ sc = cv_S g P ∧ ce = cv_M g P := by
  obtain ⟨C, IV, IM, IS, IU, IW, IT⟩ := I
  refine ⟨?_, ?_, IM.1 (w 2 (by decide))⟩
  · funext j
    have e : j = 16 * (j / 16) + j % 16 := by omega
    rw [e]
    refine IV (j / 16) (j % 16) P (by omega) (Nat.le_refl _) (fun c hc hw hl => ?_) (fun c h1 h2 => absurd h2 (by omega))
    rw [C.2.2.2.1 c hc (Nat.le_trans hw.1 (by decide)) (Or.inl (w _ (cv_un4 _)))]
    exact hl
  · funext s
    exact IS.1 s (Or.inl (w 3 (by decide)))
theorem cv_start {su : Int32} {wk ho co si be fi vl cf ry : Nat → Int32} (w : ∀ u, u < 4 → wk u = 0) :
    cv_I g P 0 0 (fun _ => 0) (fun _ => 0) (fun _ => 0) (fun _ => 0) su (cv_V g 0) (cv_S g 0) (cv_M g 0) wk ho co si be fi vl cf ry := by
  refine ⟨⟨Nat.zero_le _, fun u hu z => absurd (w u hu) z, fun k hk => absurd hk (Nat.not_lt_zero _), fun k hk => absurd hk (Nat.not_lt_zero _), fun a b v i _ hb => absurd hb (Nat.not_lt_zero _)⟩, ?_, ⟨fun _ => rfl, fun z => absurd (w 2 (by decide)) z⟩, ⟨fun _ _ => rfl, fun z => absurd (w 3 (by decide)) z⟩, fun u hu z => absurd (w u hu) z, fun u hu z => absurd (w u hu) z, fun u hu z => absurd (w u hu) z⟩
  intro v i k hi hk _ _
  have e : k = 0 := by omega
  subst e; rfl
theorem cx_run {post : Int32 → SX → Prop} {fx fw su : Int32} {wk ho co si be fi vl cf ry : Nat → Int32} (Hp : cv_Pr g P op fX fY fZ) (hP : P ≤ 16) (hg : ∀ k, cv_L g k ≤ 16) (hLn : Ln ≤ 4) (hL1 : 1 ≤ Ln) (hD : D ≤ 5)
    (w : ∀ u, u < 4 → wk u = 0)
    (K : ∀ (fx fw su : Int32) (wk ho co si be fi vl cf ry : Nat → Int32), (∀ u, u < 4 → wk u = 0) → post (nI P) (nI Ln, nI D, nI (cv_L g P), 0, fx, fw, su, cv_V g P, cv_S g P, cv_M g P, op, fX, fY, fZ, wk, ho, co, si, be, fi, vl, cf, ry)) :
    wpX_run post (nI Ln, nI D, nI (cv_L g 0), nI P, fx, fw, su, cv_V g 0, cv_S g 0, cv_M g 0, op, fX, fY, fZ, wk, ho, co, si, be, fi, vl, cf, ry) := by
  have ph : cv_phi g P 0 wk (fun _ => 0) (fun _ => 0) (fun _ => 0) (fun _ => 0) ≤ 624 := by
    unfold cv_phi cv_tm
    rw [if_pos (w 0 (by decide)), if_pos (w 1 (by decide)), if_pos (w 2 (by decide)), if_pos (w 3 (by decide))]
    omega
  refine ⟨1000, cx_run10 Hp hP hg hLn hL1 hD (fun now h B F T su' va' sc' ce' wk' ho' co' si' be' fi' vl' cf' ry' I' w' => ?_) 1000 0 0 _ _ _ _ su _ _ _ wk ho co si be fi vl cf ry (cv_start w) (by omega) (by omega)⟩
  obtain ⟨rfl, rfl, rfl⟩ := cv_end I' w'
  exact K _ _ _ _ _ _ _ _ _ _ _ _ w'
end
end
section
/-! the relation -/
def cw_rg (p : Int32) : Prop := ¬ p < 0 ∧ ¬ 3 < p
def cw_fit (o x y z : Int32) : Prop := ¬ o < 0 ∧ ¬ 12 < o ∧ cw_rg x ∧ (o = 10 ∨ o = 12 ∨ cw_rg y) ∧ ((¬ o ≤ 5 ∧ ¬ o = 11) ∨ cw_rg z)
def cw_F (Ln D len P : Nat) (op fX fY fZ wk : Nat → Int32) : Prop :=
  1 ≤ Ln ∧ Ln ≤ 4 ∧ 1 ≤ D ∧ D ≤ 5 ∧ len ≤ 16 ∧ P ≤ 16 ∧ (∀ u, u < 4 → wk u = 0) ∧ ∀ k, k < P → cw_fit (op k) (fX k) (fY k) (fZ k)
/-- the same vectors, scalars, cells, length and program on both sides; every unit free; a well formed program -/
def i_Rel (k : Nat) (u : SX) (v : SY) : Prop := match u, v with
  | (fL, fD, fN, fP, fx, fw, su, va, sc, ce, op, fX, fY, fZ, wk, ho, co, si, be, fi, vl, cf, ry), (yN, yn, va', sc', ce', op', fX', fY', fZ') => ∃ Ln D len P : Nat, cw_F Ln D len P op fX fY fZ wk ∧ fL = nI Ln ∧ fD = nI D ∧ fN = nI len ∧ fP = nI P ∧ yN = nI len ∧ yn = nI P ∧ va' = va ∧ sc' = sc ∧ ce' = ce ∧ op' = op ∧ fX' = fX ∧ fY' = fY ∧ fZ' = fZ
theorem i_up {k : Nat} {u : SX} {v : SY} (h : i_Rel k u v) : i_Rel (k + 5) u v := h
theorem cw_in {k Ln D len P : Nat} {fx fw su : Int32} {va sc ce op fX fY fZ wk ho co si be fi vl cf ry : Nat → Int32} (H : cw_F Ln D len P op fX fY fZ wk) :
    i_Rel k (nI Ln, nI D, nI len, nI P, fx, fw, su, va, sc, ce, op, fX, fY, fZ, wk, ho, co, si, be, fi, vl, cf, ry) (nI len, nI P, va, sc, ce, op, fX, fY, fZ) := ⟨Ln, D, len, P, H, rfl, rfl, rfl, rfl, rfl, rfl, rfl, rfl, rfl, rfl, rfl, rfl, rfl⟩
theorem cw_el {k : Nat} {u : SX} {v : SY} {Q : SX → SY → Prop}
    (H : ∀ (Ln D len P : Nat) (fx fw su : Int32) (va sc ce op fX fY fZ wk ho co si be fi vl cf ry : Nat → Int32), cw_F Ln D len P op fX fY fZ wk → Q (nI Ln, nI D, nI len, nI P, fx, fw, su, va, sc, ce, op, fX, fY, fZ, wk, ho, co, si, be, fi, vl, cf, ry) (nI len, nI P, va, sc, ce, op, fX, fY, fZ)) (I : i_Rel k u v) : Q u v := by
  obtain ⟨fL, fD, fN, fP, fx, fw, su, va, sc, ce, op, fX, fY, fZ, wk, ho, co, si, be, fi, vl, cf, ry⟩ := u
  obtain ⟨yN, yn, va', sc', ce', op', fX', fY', fZ'⟩ := v
  obtain ⟨Ln, D, len, P, hF, rfl, rfl, rfl, rfl, rfl, rfl, rfl, rfl, rfl, rfl, rfl, rfl, rfl⟩ := I
  exact H Ln D len P fx fw su va' sc' ce' op' fX' fY' fZ' wk ho co si be fi vl cf ry hF
/-! registers -/
theorem cw_rgN {p : Int32} (r : cw_rg p) : ∃ j : Nat, j < 4 ∧ p = nI j := by
  obtain ⟨j, hj, e⟩ := nI_of2 (M := 3) (n := 3) (by decide) r.1 (Int32.not_lt.mp r.2)
  exact ⟨j, by omega, e⟩
theorem cw_12 {p : Int32} (h0 : ¬ p < 0) (h1 : ¬ 12 < p) : ∃ j : Nat, j ≤ 12 ∧ p = nI j := nI_of2 (M := 12) (n := 12) (by decide) h0 (Int32.not_lt.mp h1)
theorem cw_15 {p : Int32} (h0 : ¬ p < 0) (h1 : ¬ 15 < p) : ∃ j : Nat, j ≤ 15 ∧ p = nI j := nI_of2 (M := 15) (n := 15) (by decide) h0 (Int32.not_lt.mp h1)
theorem cw_63 {p : Int32} (h0 : ¬ p < 0) (h1 : ¬ 63 < p) : ∃ j : Nat, j ≤ 63 ∧ p = nI j := nI_of2 (M := 63) (n := 63) (by decide) h0 (Int32.not_lt.mp h1)
theorem cw_reg {p : Int32} {A B : Prop} (H1 : cw_rg p → A) (H0 : ¬ cw_rg p → B) : (p < 0 → B) ∧ (¬ p < 0 → ((3 < p → B) ∧ (¬ 3 < p → A))) :=
  br_c (fun z => H0 (fun y => y.1 z)) (fun z => br_c (fun w => H0 (fun y => y.2 w)) (fun w => H1 ⟨z, w⟩))
theorem cw_regX {post : Int32 → Prop} {u : SX} {p : Int32} (H1 : cw_rg p → post 1) (H0 : ¬ cw_rg p → post 0) : wpX_isRegister post u p := by
  obtain ⟨fL, fD, fN, fP, fx, fw, su, va, sc, ce, op, fX, fY, fZ, wk, ho, co, si, be, fi, vl, cf, ry⟩ := u
  exact cw_reg H1 H0
theorem cw_regY {post : Int32 → Prop} {u : SY} {p : Int32} (H1 : cw_rg p → post 1) (H0 : ¬ cw_rg p → post 0) : wpY_isRegister post u p := by
  obtain ⟨yN, yn, va, sc, ce, op, fX, fY, fZ⟩ := u
  exact cw_reg H1 H0
/-- the program is one that the run's rows take -/
theorem cw_Pr {P len : Nat} {va sc ce op fX fY fZ : Nat → Int32} (H : ∀ k, k < P → cw_fit (op k) (fX k) (fY k) (fZ k)) : cv_Pr (op, fX, fY, fZ, va, sc, ce, len) P op fX fY fZ := by
  intro k hk
  obtain ⟨f1, f2, f3, f4, f5⟩ := H k hk
  obtain ⟨o, ho, eo⟩ := cw_12 f1 f2
  obtain ⟨x, hx, ex⟩ := cw_rgN f3
  have Eo : cv_o (op, fX, fY, fZ, va, sc, ce, len) k = o := by show (op k).toNatClampNeg = o; rw [eo, nI_clamp (by omega)]
  have Ex : cv_x (op, fX, fY, fZ, va, sc, ce, len) k = x := by show (fX k).toNatClampNeg = x; rw [ex, nI_clamp (by omega)]
  rw [eo] at f4 f5
  refine ⟨⟨by omega, by omega, fun n10 n12 => ?_, fun n => ?_⟩, by rw [Eo]; exact eo, by rw [Ex]; exact ex, rfl, rfl⟩
  · have r : cw_rg (fY k) := by
      rcases f4 with z | z | z
      · exact absurd ((nI_eq (b := 10) (by omega) (by decide)).mp z) (by omega)
      · exact absurd ((nI_eq (b := 12) (by omega) (by decide)).mp z) (by omega)
      · exact z
    obtain ⟨y, hy, ey⟩ := cw_rgN r
    have Ey : cv_y (op, fX, fY, fZ, va, sc, ce, len) k = y := by show (fY k).toNatClampNeg = y; rw [ey, nI_clamp (by omega)]
    exact ⟨by rw [Ey]; exact ey, by omega⟩
  · have r : cw_rg (fZ k) := by
      rcases f5 with ⟨z, z'⟩ | z
      · exfalso
        rcases n with n | n
        · exact z (nI_le (b := 5) (by omega) (by decide))
        · exact z' (by rw [← Eo, n]; rfl)
      · exact z
    obtain ⟨y, hy, ey⟩ := cw_rgN r
    have Ey : cv_z (op, fX, fY, fZ, va, sc, ce, len) k = y := by show (fZ k).toNatClampNeg = y; rw [ey, nI_clamp (by omega)]
    exact ⟨by rw [Ey]; exact ey, by omega⟩
/-! emit -/
theorem cw_emitX {post : Int32 → SX → Prop} {P : Nat} {v1 v2 v3 v4 : Int32} {fL fD fN fx fw su : Int32} {va sc ce op fX fY fZ wk ho co si be fi vl cf ry : Nat → Int32} (hP : P ≤ 16)
    (H2 : P = 16 → post (-2) (fL, fD, fN, nI P, fx, fw, su, va, sc, ce, op, fX, fY, fZ, wk, ho, co, si, be, fi, vl, cf, ry)) (Hb : P < 16 → ¬ cw_fit v1 v2 v3 v4 → post (-1) (fL, fD, fN, nI P, fx, fw, su, va, sc, ce, op, fX, fY, fZ, wk, ho, co, si, be, fi, vl, cf, ry))
    (Hg : P < 16 → cw_fit v1 v2 v3 v4 → post (nI (P + 1)) (fL, fD, fN, nI (P + 1), fx, fw, su, va, sc, ce, upd op P v1, upd fX P v2, upd fY P v3, upd fZ P v4, wk, ho, co, si, be, fi, vl, cf, ry)) :
    wpX_emit post (fL, fD, fN, nI P, fx, fw, su, va, sc, ce, op, fX, fY, fZ, wk, ho, co, si, be, fi, vl, cf, ry) v1 v2 v3 v4 := by
  unfold wpX_emit
  dsimp only
  refine pk_lt P 16 (fun lt => ?_) (fun ge => H2 (by omega))
  refine br_c (fun a => Hb lt (fun z => z.1 a)) (fun a => br_c (fun b => Hb lt (fun z => z.2.1 b)) (fun b => ?_))
  refine cw_regX (fun r => br_f cv_10 ?_) (fun r => br_t rfl (Hb lt (fun z => r z.2.2.1)))
  have W76 : cw_fit v1 v2 v3 v4 → wX_emit_76 post v1 v2 v3 v4 fL fD fN (nI P) fx fw su va sc ce op fX fY fZ wk ho co si be fi vl cf ry := by
    intro f
    have hi := vp_in_nI (n := P) (N := 16) lt (by decide)
    obtain ⟨o, ho, eo⟩ := cw_12 f.1 f.2.1
    obtain ⟨x, hx, ex⟩ := cw_rgN f.2.2.1
    have b1 : vp_nar .byte v1.toInt8.toInt32 = v1 := by rw [eo]; exact cv_by o (by omega)
    have b2 : vp_nar .byte v2.toInt8.toInt32 = v2 := by rw [ex]; exact cv_by x (by omega)
    unfold wX_emit_76
    rw [nI_clamp (n := P) (by omega), b1, b2]
    exact ⟨hi, nm_e ⟨hi, nm_e ⟨hi, nm_e ⟨hi, nm_e (nm_r (nI_1 P) (Hg lt f))⟩⟩⟩⟩
  have W54 : (v1 = 10 ∨ v1 = 12 ∨ cw_rg v3) → wX_emit_54 post v1 v2 v3 v4 fL fD fN (nI P) fx fw su va sc ce op fX fY fZ wk ho co si be fi vl cf ry := by
    intro q
    have W65 : (v1 ≤ 5 ∨ v1 = 11) → wX_emit_65 post v1 v2 v3 v4 fL fD fN (nI P) fx fw su va sc ce op fX fY fZ wk ho co si be fi vl cf ry := fun c => by
      unfold wX_emit_65
      refine cw_regX (fun r4 => br_f cv_10 (W76 ⟨a, b, r, q, Or.inr r4⟩)) (fun r4 => br_t rfl (Hb lt (fun z => ?_)))
      rcases z.2.2.2.2 with y | y
      · exact c.elim y.1 y.2
      · exact r4 y
    unfold wX_emit_54
    exact br_c (fun c => W65 (Or.inl c)) (fun c => br_c (fun d => W65 (Or.inr d)) (fun d => W76 ⟨a, b, r, q, Or.inl ⟨c, d⟩⟩))
  refine br_c (fun c => W54 (Or.inl c)) (fun c => br_c (fun d => W54 (Or.inr (Or.inl d))) (fun d => ?_))
  exact cw_regX (fun r3 => br_f cv_10 (W54 (Or.inr (Or.inr r3)))) (fun r3 => br_t rfl (Hb lt (fun z => z.2.2.2.1.elim c (fun y => y.elim d r3))))
theorem cw_fitsY {post : Int32 → Prop} {v1 v2 v3 v4 : Int32} {yN yn : Int32} {va sc ce op fX fY fZ : Nat → Int32} (H1 : cw_fit v1 v2 v3 v4 → post 1) (H0 : ¬ cw_fit v1 v2 v3 v4 → post 0) : wpY_fits post (yN, yn, va, sc, ce, op, fX, fY, fZ) v1 v2 v3 v4 := by
  unfold wpY_fits
  dsimp only
  refine br_c (fun a => H0 (fun z => z.1 a)) (fun a => br_c (fun b => H0 (fun z => z.2.1 b)) (fun b => ?_))
  refine cw_regY (fun r => br_f cv_10 ?_) (fun r => br_t rfl (H0 (fun z => r z.2.2.1)))
  have W42 : (v1 = 10 ∨ v1 = 12 ∨ cw_rg v3) → wY_fits_42 post v1 v4 yN yn va sc ce op fX fY fZ := by
    intro q
    have W53 : (v1 ≤ 5 ∨ v1 = 11) → wY_fits_53 post v4 yN yn va sc ce op fX fY fZ := fun c => by
      unfold wY_fits_53
      refine cw_regY (fun r4 => br_f cv_10 (H1 ⟨a, b, r, q, Or.inr r4⟩)) (fun r4 => br_t rfl (H0 (fun z => ?_)))
      rcases z.2.2.2.2 with y | y
      · exact c.elim y.1 y.2
      · exact r4 y
    unfold wY_fits_42
    exact br_c (fun c => W53 (Or.inl c)) (fun c => br_c (fun d => W53 (Or.inr d)) (fun d => H1 ⟨a, b, r, q, Or.inl ⟨c, d⟩⟩))
  refine br_c (fun c => W42 (Or.inl c)) (fun c => br_c (fun d => W42 (Or.inr (Or.inl d))) (fun d => ?_))
  exact cw_regY (fun r3 => br_f cv_10 (W42 (Or.inr (Or.inr r3)))) (fun r3 => br_t rfl (H0 (fun z => z.2.2.2.1.elim c (fun y => y.elim d r3))))
theorem cw_emitY {post : Int32 → SY → Prop} {P : Nat} {v1 v2 v3 v4 : Int32} {yN : Int32} {va sc ce op fX fY fZ : Nat → Int32} (hP : P ≤ 16)
    (H2 : P = 16 → post (-2) (yN, nI P, va, sc, ce, op, fX, fY, fZ)) (Hb : P < 16 → ¬ cw_fit v1 v2 v3 v4 → post (-1) (yN, nI P, va, sc, ce, op, fX, fY, fZ))
    (Hg : P < 16 → cw_fit v1 v2 v3 v4 → post (nI (P + 1)) (yN, nI (P + 1), va, sc, ce, upd op P v1, upd fX P v2, upd fY P v3, upd fZ P v4)) :
    wpY_emit post (yN, nI P, va, sc, ce, op, fX, fY, fZ) v1 v2 v3 v4 := by
  unfold wpY_emit
  dsimp only
  refine pk_eq P 16 (fun e => H2 e) (fun ne => ?_)
  have lt : P < 16 := by omega
  have hi := vp_in_nI (n := P) (N := 16) lt (by decide)
  rw [nI_clamp (n := P) (by omega)]
  refine cw_fitsY (fun f => br_f cv_10 ?_) (fun f => br_t rfl (Hb lt f))
  exact ⟨hi, nm_e ⟨hi, nm_e ⟨hi, nm_e ⟨hi, nm_e (nm_r (nI_1 P) (Hg lt f))⟩⟩⟩⟩
/-! clear -/
def cw_zr (f : Nat → Int32) : Nat → (Nat → Int32)
  | 0 => f
  | n + 1 => upd (cw_zr f n) n 0
section
variable {fL fD fN fP fx fw su yN yn : Int32} {va sc ce op fX fY fZ wk ho co si be fi vl cf ry : Nat → Int32}
theorem cw_cX30 {post : SX → Prop} (H : post (fL, fD, 16, 0, fx, fw, su, va, cw_zr sc 4, ce, op, fX, fY, fZ, wk, ho, co, si, be, fi, vl, cf, ry)) : ∀ d i n, i + d = 4 → d < n → wX_clear_30 post fL fD fN fP fx fw su n (nI i) va (cw_zr sc i) ce op fX fY fZ wk ho co si be fi vl cf ry := by
  intro d
  induction d with
  | zero =>
    intro i n hi hn
    obtain ⟨n, rfl⟩ : ∃ m, n = m + 1 := ⟨n - 1, by omega⟩
    have e : i = 4 := by omega
    subst e
    exact br_t (nI_le (a := 4) (b := 4) (by decide) (by decide)) H
  | succ d ih =>
    intro i n hi hn
    obtain ⟨n, rfl⟩ : ∃ m, n = m + 1 := ⟨n - 1, by omega⟩
    refine br_f (nI_ge (b := 4) (by omega) (by decide)) ⟨vp_in_nI (by omega) (by decide), ?_⟩
    rw [nI_clamp (n := i) (by omega)]
    exact nm_e (nm_r (nI_1 i) (ih (i + 1) n (by omega) (by omega)))
theorem cw_cX2 {post : SX → Prop} (H : post (fL, fD, 16, 0, fx, fw, su, cw_zr va 64, cw_zr sc 4, cw_zr ce 64, op, fX, fY, fZ, wk, ho, co, si, be, fi, vl, cf, ry)) : ∀ d i n, i + d = 64 → d < n → wX_clear_2 post fL fD fN fP fx fw su n (nI i) (cw_zr va i) sc (cw_zr ce i) op fX fY fZ wk ho co si be fi vl cf ry := by
  intro d
  induction d with
  | zero =>
    intro i n hi hn
    obtain ⟨n, rfl⟩ : ∃ m, n = m + 1 := ⟨n - 1, by omega⟩
    have e : i = 64 := by omega
    subst e
    exact br_t (nI_le (a := 64) (b := 64) (by decide) (by decide)) ⟨5, cw_cX30 H 4 0 5 (by omega) (by omega)⟩
  | succ d ih =>
    intro i n hi hn
    obtain ⟨n, rfl⟩ : ∃ m, n = m + 1 := ⟨n - 1, by omega⟩
    have h64 := vp_in_nI (n := i) (N := 64) (by omega) (by decide)
    refine br_f (nI_ge (b := 64) (by omega) (by decide)) ⟨h64, ?_⟩
    rw [nI_clamp (n := i) (by omega)]
    exact nm_e ⟨h64, nm_e (nm_r (nI_1 i) (ih (i + 1) n (by omega) (by omega)))⟩
theorem cw_cY41 {post : SY → Prop} (H : post (yN, yn, va, cw_zr sc 4, ce, op, fX, fY, fZ)) : ∀ d i n, i + d = 4 → d < n → wY_clear_41 post yN yn n (nI i) va (cw_zr sc i) ce op fX fY fZ := by
  intro d
  induction d with
  | zero =>
    intro i n hi hn
    obtain ⟨n, rfl⟩ : ∃ m, n = m + 1 := ⟨n - 1, by omega⟩
    have e : i = 4 := by omega
    subst e
    exact br_t (nI_le (a := 4) (b := 4) (by decide) (by decide)) H
  | succ d ih =>
    intro i n hi hn
    obtain ⟨n, rfl⟩ : ∃ m, n = m + 1 := ⟨n - 1, by omega⟩
    refine br_f (nI_ge (b := 4) (by omega) (by decide)) ⟨vp_in_nI (by omega) (by decide), ?_⟩
    rw [nI_clamp (n := i) (by omega)]
    exact nm_e (nm_r (nI_1 i) (ih (i + 1) n (by omega) (by omega)))
theorem cw_cY13 {post : SY → Prop} (H : post (yN, yn, cw_zr va 64, cw_zr sc 4, cw_zr ce 64, op, fX, fY, fZ)) : ∀ d i n, i + d = 64 → d < n → wY_clear_13 post yN yn n (nI i) (cw_zr va i) sc (cw_zr ce i) op fX fY fZ := by
  intro d
  induction d with
  | zero =>
    intro i n hi hn
    obtain ⟨n, rfl⟩ : ∃ m, n = m + 1 := ⟨n - 1, by omega⟩
    have e : i = 64 := by omega
    subst e
    exact br_t (nI_le (a := 64) (b := 64) (by decide) (by decide)) ⟨5, cw_cY41 H 4 0 5 (by omega) (by omega)⟩
  | succ d ih =>
    intro i n hi hn
    obtain ⟨n, rfl⟩ : ∃ m, n = m + 1 := ⟨n - 1, by omega⟩
    have h64 := vp_in_nI (n := i) (N := 64) (by omega) (by decide)
    refine br_f (nI_ge (b := 64) (by omega) (by decide)) ⟨h64, ?_⟩
    rw [nI_clamp (n := i) (by omega)]
    exact nm_e ⟨h64, nm_e (nm_r (nI_1 i) (ih (i + 1) n (by omega) (by omega)))⟩
/-! the constructor -/
theorem cw_init {post : SX → Prop} {x2 z0 : Int32} (H : ∀ D : Nat, 1 ≤ D → D ≤ 5 → post (z0, nI D, nI 16, fP, fx, fw, su, va, sc, ce, op, fX, fY, fZ, wk, ho, co, si, be, fi, vl, cf, ry)) : wX_init_145 post x2 z0 fL fD fN fP fx fw su va sc ce op fX fY fZ wk ho co si be fi vl cf ry := by
  unfold wX_init_145
  refine br_c (fun h1 => br_c (fun h5 => ?_) (fun h5 => H 5 (by decide) (by decide))) (fun h1 => H 1 (by decide) (by decide))
  have h0 : ¬ x2 < 0 := Int32.not_lt.mpr (Int32.le_trans (by decide) h1)
  obtain ⟨j, hj, rfl⟩ := nI_of2 (M := 5) (n := 5) (by decide) h0 h5
  exact H j ((nI_leI (a := 1) (by decide) (by omega)).mp h1) hj
end
end
section
theorem i_vc0 (k0 : Int32) (k1 : Int32) : wpX_init (fun u => wpY_init (fun v => i_Rel 2 u v) k0 k1) k0 k1 := by
  have A : ∀ Ln : Nat, 1 ≤ Ln → Ln ≤ 4 → wX_init_145 (fun u => wpY_init (fun v => i_Rel 2 u v) k0 k1) k1 (nI Ln) 0 0 0 0 0 0 0 (fun _ => 0) (fun _ => 0) (fun _ => 0) (fun _ => 0) (fun _ => 0) (fun _ => 0) (fun _ => 0) (fun _ => 0) (fun _ => 0) (fun _ => 0) (fun _ => 0) (fun _ => 0) (fun _ => 0) (fun _ => 0) (fun _ => 0) (fun _ => 0) :=
    fun Ln l1 l4 => cw_init (fun D d1 d5 => cw_in (k := 2) (P := 0) (len := 16) (fx := 0) (fw := 0) (su := 0) (va := fun _ => 0) (sc := fun _ => 0) (ce := fun _ => 0) (op := fun _ => 0) (fX := fun _ => 0) (fY := fun _ => 0) (fZ := fun _ => 0) (wk := fun _ => 0) (ho := fun _ => 0) (co := fun _ => 0) (si := fun _ => 0) (be := fun _ => 0) (fi := fun _ => 0) (vl := fun _ => 0) (cf := fun _ => 0) (ry := fun _ => 0) ⟨l1, l4, d1, d5, by decide, by decide, fun _ _ => rfl, fun k hk => absurd hk (Nat.not_lt_zero _)⟩)
  unfold wpX_init
  refine br_c (fun h1 => br_c (fun h4 => ?_) (fun h4 => A 4 (by decide) (by decide))) (fun h1 => A 1 (by decide) (by decide))
  have h0 : ¬ k0 < 0 := Int32.not_lt.mpr (Int32.le_trans (by decide) h1)
  obtain ⟨j, hj, rfl⟩ := nI_of2 (M := 4) (n := 4) (by decide) h0 h4
  exact A j ((nI_leI (a := 1) (by decide) (by omega)).mp h1) hj
theorem i_vc_emit {k : Nat} {u : SX} {v : SY} (I : i_Rel k u v) (hk : k + 5 ≤ 2562) (v1 : Int32) (v2 : Int32) (v3 : Int32) (v4 : Int32) : wpX_emit (fun r u' => wpY_emit (fun r' v' => r' = r ∧ i_Rel (k + 5) u' v') v v1 v2 v3 v4) u v1 v2 v3 v4 := by
  refine cw_el (Q := fun u v => wpX_emit (fun r u' => wpY_emit (fun r' v' => r' = r ∧ i_Rel (k + 5) u' v') v v1 v2 v3 v4) u v1 v2 v3 v4) ?_ I
  intro Ln D len P fx fw su va sc ce op fX fY fZ wk ho co si be fi vl cf ry hF
  have hP : P ≤ 16 := hF.2.2.2.2.2.1
  refine cw_emitX hP (fun e => ?_) (fun lt f => ?_) (fun lt f => ?_)
  · exact cw_emitY hP (fun _ => ⟨rfl, cw_in hF⟩) (fun lt => absurd lt (by omega)) (fun lt => absurd lt (by omega))
  · exact cw_emitY hP (fun e => absurd lt (by omega)) (fun _ _ => ⟨rfl, cw_in hF⟩) (fun _ z => absurd z f)
  · refine cw_emitY hP (fun e => absurd lt (by omega)) (fun _ z => absurd f z) (fun _ _ => ⟨rfl, cw_in ?_⟩)
    obtain ⟨a1, a2, a3, a4, a5, a6, a7, a8⟩ := hF
    refine ⟨a1, a2, a3, a4, a5, lt, a7, fun j hj => ?_⟩
    by_cases e : j = P
    · subst e; rw [pk_us, pk_us, pk_us, pk_us]; exact f
    · rw [pk_un e, pk_un e, pk_un e, pk_un e]; exact a8 j (by omega)
theorem i_vc_run {k : Nat} {u : SX} {v : SY} (I : i_Rel k u v) (hk : k + 5 ≤ 2562) : wpX_run (fun r u' => wpY_run (fun r' v' => r' = r ∧ i_Rel (k + 5) u' v') v) u := by
  refine cw_el (Q := fun u v => wpX_run (fun r u' => wpY_run (fun r' v' => r' = r ∧ i_Rel (k + 5) u' v') v) u) ?_ I
  intro Ln D len P fx fw su va sc ce op fX fY fZ wk ho co si be fi vl cf ry hF
  obtain ⟨a1, a2, a3, a4, a5, a6, a7, a8⟩ := hF
  have Hp := cw_Pr (va := va) (sc := sc) (ce := ce) (len := len) a8
  have hg := cv_L16 (op, fX, fY, fZ, va, sc, ce, len) a5
  refine cx_run (g := (op, fX, fY, fZ, va, sc, ce, len)) Hp a6 hg a2 a1 a4 a7 (fun fx' fw' su' wk' ho' co' si' be' fi' vl' cf' ry' w' => ?_)
  exact cy_run (g := (op, fX, fY, fZ, va, sc, ce, len)) Hp a6 hg ⟨rfl, cw_in (P := 0) ⟨a1, a2, a3, a4, hg P, by decide, w', fun k hk => absurd hk (Nat.not_lt_zero _)⟩⟩
theorem i_vc_element {k : Nat} {u : SX} {v : SY} (I : i_Rel k u v) (hk : k + 5 ≤ 2562) (v1 : Int32) (v2 : Int32) : wpX_element (fun r => wpY_element (fun r' => r' = r ∧ i_Rel (k + 5) u v) v v1 v2) u v1 v2 := by
  refine cw_el (Q := fun u v => wpX_element (fun r => wpY_element (fun r' => r' = r ∧ i_Rel (k + 5) u v) v v1 v2) u v1 v2) ?_ I
  intro Ln D len P fx fw su va sc ce op fX fY fZ wk ho co si be fi vl cf ry hF
  unfold wpX_element wpY_element
  dsimp only
  refine cw_regX (fun r => br_f cv_10 ?_) (fun r => br_t rfl (cw_regY (fun z => absurd z r) (fun _ => br_t rfl ⟨rfl, cw_in hF⟩)))
  refine br_c (fun a => cw_regY (fun _ => br_f cv_10 (br_t a ⟨rfl, cw_in hF⟩)) (fun z => absurd r z)) (fun a => ?_)
  refine br_c (fun b => cw_regY (fun _ => br_f cv_10 (br_f a (br_t b ⟨rfl, cw_in hF⟩))) (fun z => absurd r z)) (fun b => ?_)
  obtain ⟨x, hx, ex⟩ := cw_rgN r
  obtain ⟨i, hi, ei⟩ := cw_15 a b
  have h64 : vp_in (16 * v1 + v2) 64 := by rw [ex, ei, cv_ix]; exact vp_in_nI (by omega) (by decide)
  exact ⟨h64, cw_regY (fun _ => br_f cv_10 (br_f a (br_f b ⟨h64, rfl, cw_in hF⟩))) (fun z => absurd r z)⟩
theorem i_vc_setElement {k : Nat} {u : SX} {v : SY} (I : i_Rel k u v) (hk : k + 5 ≤ 2562) (v1 : Int32) (v2 : Int32) (v3 : Int32) : wpX_setElement (fun r u' => wpY_setElement (fun r' v' => r' = r ∧ i_Rel (k + 5) u' v') v v1 v2 v3) u v1 v2 v3 := by
  refine cw_el (Q := fun u v => wpX_setElement (fun r u' => wpY_setElement (fun r' v' => r' = r ∧ i_Rel (k + 5) u' v') v v1 v2 v3) u v1 v2 v3) ?_ I
  intro Ln D len P fx fw su va sc ce op fX fY fZ wk ho co si be fi vl cf ry hF
  unfold wpX_setElement wpY_setElement
  dsimp only
  refine cw_regX (fun r => br_f cv_10 ?_) (fun r => br_t rfl (cw_regY (fun z => absurd z r) (fun _ => br_t rfl ⟨rfl, cw_in hF⟩)))
  refine br_c (fun a => cw_regY (fun _ => br_f cv_10 (br_t a ⟨rfl, cw_in hF⟩)) (fun z => absurd r z)) (fun a => ?_)
  refine br_c (fun b => ?_) (fun b => cw_regY (fun _ => br_f cv_10 (br_f a (br_f b ⟨rfl, cw_in hF⟩))) (fun z => absurd r z))
  obtain ⟨x, hx, ex⟩ := cw_rgN r
  obtain ⟨i, hi, ei⟩ := cw_15 a (Int32.not_lt.mpr b)
  have h64 : vp_in (16 * v1 + v2) 64 := by rw [ex, ei, cv_ix]; exact vp_in_nI (by omega) (by decide)
  exact ⟨h64, nm_e (cw_regY (fun _ => br_f cv_10 (br_f a (br_t b ⟨h64, nm_e ⟨rfl, cw_in hF⟩⟩))) (fun z => absurd r z))⟩
theorem i_vc_scalar {k : Nat} {u : SX} {v : SY} (I : i_Rel k u v) (hk : k + 5 ≤ 2562) (v1 : Int32) : wpX_scalar (fun r => wpY_scalar (fun r' => r' = r ∧ i_Rel (k + 5) u v) v v1) u v1 := by
  refine cw_el (Q := fun u v => wpX_scalar (fun r => wpY_scalar (fun r' => r' = r ∧ i_Rel (k + 5) u v) v v1) u v1) ?_ I
  intro Ln D len P fx fw su va sc ce op fX fY fZ wk ho co si be fi vl cf ry hF
  unfold wpX_scalar wpY_scalar
  dsimp only
  refine cw_regX (fun r => br_f cv_10 ?_) (fun r => br_t rfl (cw_regY (fun z => absurd z r) (fun _ => br_t rfl ⟨rfl, cw_in hF⟩)))
  obtain ⟨x, hx, ex⟩ := cw_rgN r
  have h4 : vp_in v1 4 := by rw [ex]; exact vp_in_nI hx (by decide)
  exact ⟨h4, cw_regY (fun _ => br_f cv_10 ⟨h4, rfl, cw_in hF⟩) (fun z => absurd r z)⟩
theorem i_vc_vectorLength {k : Nat} {u : SX} {v : SY} (I : i_Rel k u v) (hk : k + 5 ≤ 2562) : wpX_vectorLength (fun r => wpY_vectorLength (fun r' => r' = r ∧ i_Rel (k + 5) u v) v) u := by
  refine cw_el (Q := fun u v => wpX_vectorLength (fun r => wpY_vectorLength (fun r' => r' = r ∧ i_Rel (k + 5) u v) v) u) ?_ I
  intro Ln D len P fx fw su va sc ce op fX fY fZ wk ho co si be fi vl cf ry hF
  exact ⟨rfl, cw_in hF⟩
theorem i_vc_memory {k : Nat} {u : SX} {v : SY} (I : i_Rel k u v) (hk : k + 5 ≤ 2562) (v1 : Int32) : wpX_memory (fun r => wpY_memory (fun r' => r' = r ∧ i_Rel (k + 5) u v) v v1) u v1 := by
  refine cw_el (Q := fun u v => wpX_memory (fun r => wpY_memory (fun r' => r' = r ∧ i_Rel (k + 5) u v) v v1) u v1) ?_ I
  intro Ln D len P fx fw su va sc ce op fX fY fZ wk ho co si be fi vl cf ry hF
  unfold wpX_memory wpY_memory
  dsimp only
  refine br_c (fun a => br_t a ⟨rfl, cw_in hF⟩) (fun a => br_c (fun b => ?_) (fun b => br_f a (br_t (Int32.not_le.mp b) ⟨rfl, cw_in hF⟩)))
  obtain ⟨i, hi, ei⟩ := cw_63 a (Int32.not_lt.mpr b)
  have h64 : vp_in v1 64 := by rw [ei]; exact vp_in_nI (by omega) (by decide)
  exact ⟨h64, br_f a (br_f (Int32.not_lt.mpr b) ⟨h64, rfl, cw_in hF⟩)⟩
theorem i_vc_setMemory {k : Nat} {u : SX} {v : SY} (I : i_Rel k u v) (hk : k + 5 ≤ 2562) (v1 : Int32) (v2 : Int32) : wpX_setMemory (fun r u' => wpY_setMemory (fun r' v' => r' = r ∧ i_Rel (k + 5) u' v') v v1 v2) u v1 v2 := by
  refine cw_el (Q := fun u v => wpX_setMemory (fun r u' => wpY_setMemory (fun r' v' => r' = r ∧ i_Rel (k + 5) u' v') v v1 v2) u v1 v2) ?_ I
  intro Ln D len P fx fw su va sc ce op fX fY fZ wk ho co si be fi vl cf ry hF
  unfold wpX_setMemory wpY_setMemory
  dsimp only
  refine br_c (fun a => br_t a ⟨rfl, cw_in hF⟩) (fun a => br_c (fun b => ?_) (fun b => br_f a (br_f b ⟨rfl, cw_in hF⟩)))
  obtain ⟨i, hi, ei⟩ := cw_63 a (Int32.not_lt.mpr b)
  have h64 : vp_in v1 64 := by rw [ei]; exact vp_in_nI (by omega) (by decide)
  exact ⟨h64, nm_e (br_f a (br_t b ⟨h64, nm_e ⟨rfl, cw_in hF⟩⟩))⟩
theorem i_vc_clear {k : Nat} {u : SX} {v : SY} (I : i_Rel k u v) (hk : k + 5 ≤ 2562) : wpX_clear (fun u' => wpY_clear (fun v' => i_Rel (k + 5) u' v') v) u := by
  refine cw_el (Q := fun u v => wpX_clear (fun u' => wpY_clear (fun v' => i_Rel (k + 5) u' v') v) u) ?_ I
  intro Ln D len P fx fw su va sc ce op fX fY fZ wk ho co si be fi vl cf ry hF
  obtain ⟨a1, a2, a3, a4, a5, a6, a7, a8⟩ := hF
  refine ⟨65, cw_cX2 ?_ 64 0 65 (by omega) (by omega)⟩
  refine ⟨65, cw_cY13 ?_ 64 0 65 (by omega) (by omega)⟩
  exact cw_in (P := 0) (len := 16) ⟨a1, a2, a3, a4, by decide, by decide, a7, fun k hk => absurd hk (Nat.not_lt_zero _)⟩
end
