section
/-- an int by its value -/
def db_i (z : Int) : Int32 := Int32.ofInt z
theorem db_nI (n : Nat) : nI n = db_i (n : Int) := Int32.ofInt_eq_ofNat.symm
theorem db_add (a b : Int) : db_i a + db_i b = db_i (a + b) := (Int32.ofInt_add a b).symm
theorem db_sub (a b : Int) : db_i a - db_i b = db_i (a - b) := (Int32.ofInt_sub a b).symm
theorem db_neg (a : Int) : -db_i a = db_i (-a) := Int32.neg_ofInt
theorem db_t {z : Int} (h : -2147483648 ≤ z) (h' : z ≤ 2147483647) : (db_i z).toInt = z :=
  Int32.toInt_ofInt_of_le (by omega) (by omega)
theorem db_leI {a b : Int} (ha : -2147483648 ≤ a) (ha' : a ≤ 2147483647) (hb : -2147483648 ≤ b) (hb' : b ≤ 2147483647) : db_i a ≤ db_i b ↔ a ≤ b := by
  rw [Int32.le_iff_toInt_le, db_t ha ha', db_t hb hb']
theorem db_ltI {a b : Int} (ha : -2147483648 ≤ a) (ha' : a ≤ 2147483647) (hb : -2147483648 ≤ b) (hb' : b ≤ 2147483647) : db_i a < db_i b ↔ a < b := by
  rw [Int32.lt_iff_toInt_lt, db_t ha ha', db_t hb hb']
theorem db_eqI {a b : Int} (ha : -2147483648 ≤ a) (ha' : a ≤ 2147483647) (hb : -2147483648 ≤ b) (hb' : b ≤ 2147483647) : db_i a = db_i b ↔ a = b := by
  rw [← Int32.toInt_inj, db_t ha ha', db_t hb hb']
theorem db_pLE {x y : Int32} {A B : Prop} (a b : Int) (f : a ≤ b → A) (g : b < a → B) (hx : x = db_i a) (hy : y = db_i b)
    (ha : -2147483648 ≤ a := by omega) (ha' : a ≤ 2147483647 := by omega) (hb : -2147483648 ≤ b := by omega) (hb' : b ≤ 2147483647 := by omega) : (x ≤ y → A) ∧ (¬ x ≤ y → B) := by
  subst hx hy
  rw [db_leI ha ha' hb hb']
  exact ⟨f, fun z => g (by omega)⟩
theorem db_pLT {x y : Int32} {A B : Prop} (a b : Int) (f : a < b → A) (g : b ≤ a → B) (hx : x = db_i a) (hy : y = db_i b)
    (ha : -2147483648 ≤ a := by omega) (ha' : a ≤ 2147483647 := by omega) (hb : -2147483648 ≤ b := by omega) (hb' : b ≤ 2147483647 := by omega) : (x < y → A) ∧ (¬ x < y → B) := by
  subst hx hy
  rw [db_ltI ha ha' hb hb']
  exact ⟨f, fun z => g (by omega)⟩
theorem db_pEQ {x y : Int32} {A B : Prop} (a b : Int) (f : a = b → A) (g : a ≠ b → B) (hx : x = db_i a) (hy : y = db_i b)
    (ha : -2147483648 ≤ a := by omega) (ha' : a ≤ 2147483647 := by omega) (hb : -2147483648 ≤ b := by omega) (hb' : b ≤ 2147483647 := by omega) : (x = y → A) ∧ (¬ x = y → B) := by
  subst hx hy
  rw [db_eqI ha ha' hb hb']
  exact ⟨f, g⟩
/-- v is the least of f over l+1 .. l+n -/
def db_m (f : Nat → Int) (l n : Nat) (v : Int) : Prop := (∀ j, l < j → j ≤ l + n → v ≤ f j) ∧ ∃ j, l < j ∧ j ≤ l + n ∧ f j = v
theorem db_m1 (f : Nat → Int) (l : Nat) : db_m f l 1 (f (l + 1)) :=
  ⟨fun j h1 h2 => by rw [show j = l + 1 by omega]; exact Int.le_refl _, l + 1, by omega, by omega, rfl⟩
theorem db_mL {f : Nat → Int} {l n k : Nat} {v w : Int} (h : db_m f l n v) (h' : db_m f (l + n) k w) (hw : w ≤ v) : db_m f l (n + k) w := by
  obtain ⟨h1, -⟩ := h
  obtain ⟨h2, j, j1, j2, j3⟩ := h'
  refine ⟨fun i i1 i2 => ?_, j, by omega, by omega, j3⟩
  rcases Nat.lt_or_ge (l + n) i with z | z
  · exact h2 i z (by omega)
  · exact Int.le_trans hw (h1 i i1 z)
theorem db_mR {f : Nat → Int} {l n k : Nat} {v w : Int} (h : db_m f l n v) (h' : db_m f (l + n) k w) (hw : v ≤ w) : db_m f l (n + k) v := by
  obtain ⟨h1, j, j1, j2, j3⟩ := h
  obtain ⟨h2, -⟩ := h'
  refine ⟨fun i i1 i2 => ?_, j, by omega, by omega, j3⟩
  rcases Nat.lt_or_ge (l + n) i with z | z
  · exact Int.le_trans hw (h2 i z (by omega))
  · exact h1 i i1 z
theorem db_mu {f : Nat → Int} {l n : Nat} {v w : Int} (h : db_m f l n v) (h' : db_m f l n w) : v = w := by
  obtain ⟨h1, j, j1, j2, j3⟩ := h
  obtain ⟨h2, i, i1, i2, i3⟩ := h'
  have e1 := h1 i i1 i2
  have e2 := h2 j j1 j2
  omega
theorem db_ms {f g : Nat → Int} {l n : Nat} {v c : Int} (h : db_m f l n v) (hc : ∀ j, l ≤ j → j ≤ l + n → g j = f j + c) : db_m g l n (v + c) := by
  obtain ⟨h1, j, j1, j2, j3⟩ := h
  refine ⟨fun i i1 i2 => ?_, j, j1, j2, ?_⟩
  · rw [hc i (by omega) i2]
    have := h1 i i1 i2
    omega
  · rw [hc j (by omega) j2, j3]
/-- the picture: sums of changes of the days below j, by account; small -/
def db_B (P : Nat → Nat → Int) : Prop := (∀ a, P a 0 = 0) ∧ ∀ a j, -50000 ≤ P a j ∧ P a j ≤ 50000
theorem db_mb {P : Nat → Nat → Int} {a l n : Nat} {v : Int} (hb : db_B P) (h : db_m (P a) l n v) : -50000 ≤ v ∧ v ≤ 50000 := by
  obtain ⟨-, j, -, -, j3⟩ := h
  rw [← j3]
  exact hb.2 a j
/-- a node of the tree of account a: height h, the k-th of its height -/
def db_N (f : Nat → Int) (a6 a7 : Nat → Int32) (a h k : Nat) : Prop :=
  a6 (128 * a + (2 ^ (6 - h) + k)) = db_i (f (k * 2 ^ h + 2 ^ h) - f (k * 2 ^ h)) ∧
  ∃ v, db_m f (k * 2 ^ h) (2 ^ h) v ∧ a7 (128 * a + (2 ^ (6 - h) + k)) = db_i (v - f (k * 2 ^ h))
/-- the four trees hold the picture -/
def db_T (P : Nat → Nat → Int) (a6 a7 : Nat → Int32) : Prop := db_B P ∧ ∀ a h k, a < 4 → h ≤ 6 → k < 2 ^ (6 - h) → db_N (P a) a6 a7 a h k
theorem db_Nk {f : Nat → Int} {a6 a7 b6 b7 : Nat → Int32} {a h k : Nat} (e6 : b6 (128 * a + (2 ^ (6 - h) + k)) = a6 (128 * a + (2 ^ (6 - h) + k)))
    (e7 : b7 (128 * a + (2 ^ (6 - h) + k)) = a7 (128 * a + (2 ^ (6 - h) + k))) (H : db_N f a6 a7 a h k) : db_N f b6 b7 a h k := by
  obtain ⟨h1, v, h2, h3⟩ := H
  exact ⟨e6.trans h1, v, h2, e7.trans h3⟩
theorem db_Ns {f g : Nat → Int} {a6 a7 : Nat → Int32} {a h k : Nat} {c : Int} (hc : ∀ j, k * 2 ^ h ≤ j → j ≤ k * 2 ^ h + 2 ^ h → g j = f j + c)
    (H : db_N f a6 a7 a h k) : db_N g a6 a7 a h k := by
  obtain ⟨h1, v, h2, h3⟩ := H
  have e1 := hc (k * 2 ^ h) (Nat.le_refl _) (Nat.le_add_right _ _)
  have e2 := hc (k * 2 ^ h + 2 ^ h) (Nat.le_add_right _ _) (Nat.le_refl _)
  refine ⟨?_, v + c, db_ms h2 hc, ?_⟩
  · rw [h1, e1, e2]
    congr 1
    omega
  · rw [h3, e1]
    congr 1
    omega
theorem db_pw {h : Nat} (hh : h ≤ 6) : (h = 0 ∧ 2 ^ (6 - h) = 64 ∧ 2 ^ h = 1) ∨ (h = 1 ∧ 2 ^ (6 - h) = 32 ∧ 2 ^ h = 2) ∨ (h = 2 ∧ 2 ^ (6 - h) = 16 ∧ 2 ^ h = 4) ∨ (h = 3 ∧ 2 ^ (6 - h) = 8 ∧ 2 ^ h = 8) ∨
    (h = 4 ∧ 2 ^ (6 - h) = 4 ∧ 2 ^ h = 16) ∨ (h = 5 ∧ 2 ^ (6 - h) = 2 ∧ 2 ^ h = 32) ∨ (h = 6 ∧ 2 ^ (6 - h) = 1 ∧ 2 ^ h = 64) := by
  have : h = 0 ∨ h = 1 ∨ h = 2 ∨ h = 3 ∨ h = 4 ∨ h = 5 ∨ h = 6 := by omega
  rcases this with e | e | e | e | e | e | e <;> subst e <;> decide
theorem db_ix {h k : Nat} (hh : h ≤ 6) (hk : k < 2 ^ (6 - h)) : 2 ^ (6 - h) + k < 128 := by
  have := db_pw hh
  omega
theorem db_inj {a a' h h' k k' : Nat} (hh : h ≤ 6) (hk : k < 2 ^ (6 - h)) (hh' : h' ≤ 6) (hk' : k' < 2 ^ (6 - h'))
    (e : 128 * a + (2 ^ (6 - h) + k) = 128 * a' + (2 ^ (6 - h') + k')) : a = a' ∧ h = h' ∧ k = k' := by
  have i1 := db_ix hh hk
  have i2 := db_ix hh' hk'
  have e1 : a = a' := by omega
  have e2 : 2 ^ (6 - h) + k = 2 ^ (6 - h') + k' := by omega
  have p1 := db_pw hh
  have p2 := db_pw hh'
  rcases p1 with ⟨p, q, -⟩ | ⟨p, q, -⟩ | ⟨p, q, -⟩ | ⟨p, q, -⟩ | ⟨p, q, -⟩ | ⟨p, q, -⟩ | ⟨p, q, -⟩ <;>
    rw [q] at e2 hk <;> omega
/-- a node's values out of those of its two below -/
theorem db_Nx {f : Nat → Int} {a6 a7 : Nat → Int32} {a t k : Nat} (hL : db_N f a6 a7 a t (2 * k)) (hR : db_N f a6 a7 a t (2 * k + 1)) :
    ∃ v1 v2, db_m f (k * 2 ^ (t + 1)) (2 ^ t) v1 ∧ db_m f (k * 2 ^ (t + 1) + 2 ^ t) (2 ^ t) v2 ∧
      a7 (128 * a + (2 ^ (6 - t) + 2 * k)) = db_i (v1 - f (k * 2 ^ (t + 1))) ∧
      a6 (128 * a + (2 ^ (6 - t) + 2 * k)) + a7 (128 * a + (2 ^ (6 - t) + (2 * k + 1))) = db_i (v2 - f (k * 2 ^ (t + 1))) ∧
      a6 (128 * a + (2 ^ (6 - t) + 2 * k)) + a6 (128 * a + (2 ^ (6 - t) + (2 * k + 1))) = db_i (f (k * 2 ^ (t + 1) + 2 ^ (t + 1)) - f (k * 2 ^ (t + 1))) := by
  obtain ⟨l1, v1, l2, l3⟩ := hL
  obtain ⟨r1, v2, r2, r3⟩ := hR
  have e1 : 2 * k * 2 ^ t = k * 2 ^ (t + 1) := by rw [Nat.pow_succ, Nat.mul_comm 2 k, Nat.mul_assoc, Nat.mul_comm 2]
  have e2 : (2 * k + 1) * 2 ^ t = k * 2 ^ (t + 1) + 2 ^ t := by rw [Nat.add_mul, e1, Nat.one_mul]
  have e3 : k * 2 ^ (t + 1) + 2 ^ t + 2 ^ t = k * 2 ^ (t + 1) + 2 ^ (t + 1) := by rw [Nat.add_assoc, Nat.pow_succ]; omega
  rw [e1] at l1 l2 l3
  rw [e2] at r1 r2 r3
  rw [e3] at r1
  refine ⟨v1, v2, l2, r2, l3, ?_, ?_⟩
  · rw [l1, r3, db_add]
    congr 1
    omega
  · rw [l1, r1, db_add]
    congr 1
    omega
end
section
section
variable {post : St2 → Prop} {f1 f2 f3 f4 f5 f6 f7 : Int32} {a1 a2 a3 a4 a5 a6 a7 a8 a9 : Nat → Int32}
theorem db_174 {J : Int32 → Int32 → Int32 → (Nat → Int32) → (Nat → Int32) → (Nat → Int32) → (Nat → Int32) → (Nat → Int32) → (Nat → Int32) → (Nat → Int32) → (Nat → Int32) → (Nat → Int32) → Prop}
    {b n l t : Nat} {x6 z0 : Int32} (hl : l + 1 < 512) (hi : b + n < 512)
    (hJ : ∀ (x6' : Int32) (a8' : Nat → Int32), J (nI n) x6' (nI (t + 1)) a1 a2 a3 a4 a5 a6 (upd a7 (b + n) z0) (a8') a9) :
    wX_add_174 post J (nI b) (nI n) x6 (nI t) (nI l) z0 (nI b + nI n) f1 f2 f3 f4 f5 f6 f7 a1 a2 a3 a4 a5 a6 a7 a8 a9 := by
  unfold wX_add_174
  rw [nI_add b n, nI_1 l]
  exact ⟨pk_in (b + n) 512 hi, nm_r (e' := upd a7 (b + n) z0) (by rw [nI_clamp (by omega)])
    ⟨pk_in l 512 (by omega), pk_in (l + 1) 512 hl, pk_in l 512 (by omega), pk_in (b + n) 512 hi, nm_e (nm_e (nm_r (nI_1 t) (hJ _ _)))⟩⟩
end
section
variable {post : St2 → Prop} {f1 f2 f3 f4 f5 f6 f7 : Int32} {a1 a2 a3 a4 a5 a9 : Nat → Int32}
theorem db_73 {P : Nat → Nat → Int} {acc day : Nat} (hb : db_B P) (ha : acc < 4) (hd : day < 64)
    (H : ∀ a6 a7 a8, db_T P a6 a7 → post (f1, f2, f3, f4, f5, f6, f7, a1, a2, a3, a4, a5, a6, a7, a8, a9)) :
    ∀ (m t n : Nat) (x6 : Int32) (a6 a7 a8 : Nat → Int32), t + m = 6 → n = 2 ^ (6 - t) + day / 2 ^ t →
      (∀ a h k, a < 4 → h ≤ 6 → k < 2 ^ (6 - h) → (a ≠ acc ∨ h ≤ t ∨ k ≠ day / 2 ^ h) → db_N (P a) a6 a7 a h k) →
      wX_add_73 post (nI (128 * acc)) f1 f2 f3 f4 f5 f6 f7 (m + 1) (nI n) x6 (nI t) a1 a2 a3 a4 a5 a6 a7 a8 a9 := by
  intro m
  induction m with
  | zero =>
    intro t n x6 a6 a7 a8 ht hn I
    exact pk_le 6 t (fun _ => H a6 a7 a8 ⟨hb, fun a h k h1 h2 h3 => I a h k h1 h2 h3 (Or.inr (Or.inl (by omega)))⟩) (fun z => absurd z (by omega))
  | succ m ih =>
    intro t n x6 a6 a7 a8 ht hn I
    have hu : 2 ^ (6 - t) = 2 * 2 ^ (6 - (t + 1)) := by rw [show 6 - t = (6 - (t + 1)) + 1 by omega, Nat.pow_succ]; omega
    have hk : day / 2 ^ (t + 1) = day / 2 ^ t / 2 := by rw [Nat.pow_succ, Nat.div_div_eq_div_mul]
    have hK : day / 2 ^ (t + 1) < 2 ^ (6 - (t + 1)) := by
      have := db_pw (show t + 1 ≤ 6 by omega)
      rcases this with ⟨-, p, q⟩ | ⟨-, p, q⟩ | ⟨-, p, q⟩ | ⟨-, p, q⟩ | ⟨-, p, q⟩ | ⟨-, p, q⟩ | ⟨-, p, q⟩ <;> rw [p, q] <;> omega
    have hU := db_ix (show t + 1 ≤ 6 by omega) hK
    have hU2 : 2 ^ (6 - (t + 1)) + day / 2 ^ (t + 1) < 64 := by have := db_pw (show t + 1 ≤ 6 by omega); omega
    have hN : n / 2 = 2 ^ (6 - (t + 1)) + day / 2 ^ (t + 1) := by omega
    have cL := I acc t (2 * (day / 2 ^ (t + 1))) ha (by omega) (by omega) (Or.inr (Or.inl (Nat.le_refl t)))
    have cR := I acc t (2 * (day / 2 ^ (t + 1)) + 1) ha (by omega) (by omega) (Or.inr (Or.inl (Nat.le_refl t)))
    obtain ⟨v1, v2, m1, m2, q7, q9, q6⟩ := db_Nx cL cR
    have b1 := db_mb hb m1
    have b2 := db_mb hb m2
    have b3 := hb.2 acc (day / 2 ^ (t + 1) * 2 ^ (t + 1))
    have iL : 128 * acc + (2 ^ (6 - t) + 2 * (day / 2 ^ (t + 1))) = 128 * acc + 2 * (n / 2) := by omega
    have iR : 128 * acc + (2 ^ (6 - t) + (2 * (day / 2 ^ (t + 1)) + 1)) = 128 * acc + 2 * (n / 2) + 1 := by omega
    have iI : 128 * acc + (2 ^ (6 - (t + 1)) + day / 2 ^ (t + 1)) = 128 * acc + n / 2 := by omega
    rw [iL] at q7 q9 q6
    rw [iR] at q9 q6
    have step : ∀ (z0 : Int32) (w : Int), z0 = db_i (w - P acc (day / 2 ^ (t + 1) * 2 ^ (t + 1))) → db_m (P acc) (day / 2 ^ (t + 1) * 2 ^ (t + 1)) (2 ^ (t + 1)) w → ∀ (x6' : Int32) (a8' : Nat → Int32),
        wX_add_73 post (nI (128 * acc)) f1 f2 f3 f4 f5 f6 f7 (m + 1) (nI (n / 2)) x6' (nI (t + 1))
          a1 a2 a3 a4 a5 (upd a6 (128 * acc + n / 2) (a6 (128 * acc + 2 * (n / 2)) + a6 (128 * acc + 2 * (n / 2) + 1))) (upd a7 (128 * acc + n / 2) z0) (a8') a9 := by
      intro z0 w hz hw x6' a8'
      refine ih (t + 1) (n / 2) x6' _ _ _ (by omega) hN (fun a h k h1 h2 h3 h4 => ?_)
      by_cases hh : a = acc ∧ h = t + 1 ∧ k = day / 2 ^ (t + 1)
      · obtain ⟨rfl, rfl, rfl⟩ := hh
        refine ⟨?_, w, hw, ?_⟩
        · rw [iI, pk_us, q6]
        · rw [iI, pk_us, hz]
      · have hne : 128 * a + (2 ^ (6 - h) + k) ≠ 128 * acc + n / 2 := by
          rw [← iI]
          exact fun z => hh (db_inj h2 h3 (by omega) hK z)
        refine db_Nk (pk_un hne) (pk_un hne) (I a h k h1 h2 h3 ?_)
        by_cases g1 : a = acc
        · by_cases g2 : k = day / 2 ^ h
          · refine Or.inr (Or.inl ?_)
            have g3 : h ≤ t + 1 := by
              rcases h4 with z | z | z
              · exact absurd g1 z
              · exact z
              · exact absurd g2 z
            rcases Nat.lt_or_ge h (t + 1) with z | z
            · omega
            · have g4 : h = t + 1 := by omega
              exact absurd ⟨g1, g4, by rw [g2, g4]⟩ hh
          · exact Or.inr (Or.inr g2)
        · exact Or.inl g1
    have wpos : ∀ l v, db_m (P acc) l (2 ^ t + 2 ^ t) v → db_m (P acc) l (2 ^ (t + 1)) v := by
      intro l v h
      rw [show 2 ^ (t + 1) = 2 ^ t + 2 ^ t by rw [Nat.pow_succ]; omega]
      exact h
    refine pk_le 6 t (fun z => absurd z (by omega)) (fun _ => nm_r (e' := nI (n / 2)) (pk_shrN (by omega) _ 1 (by decide)) (nm_r (e' := nI (128 * acc + 2 * (n / 2))) ?_ ?_))
    · rw [show (2 : Int32) * nI (n / 2) = nI (2 * (n / 2)) from pk_mul 2 (n / 2), nI_add]
    · rw [nI_1, nI_clamp (show 128 * acc + 2 * (n / 2) < 2 ^ 31 by omega), nI_clamp (show 128 * acc + 2 * (n / 2) + 1 < 2 ^ 31 by omega)]
      have hin : vp_in (nI (128 * acc + 2 * (n / 2))) 512 := pk_in (128 * acc + 2 * (n / 2)) 512 (by omega)
      have hin1 : vp_in (nI (128 * acc + 2 * (n / 2) + 1)) 512 := pk_in (128 * acc + 2 * (n / 2) + 1) 512 (by omega)
      have hin2 : vp_in (nI (128 * acc) + nI (n / 2)) 512 := pk_in (128 * acc + n / 2) 512 (by omega) (nI_add _ _)
      refine ⟨hin, hin1, nm_r q9 ⟨hin, hin1, hin2, nm_r (e' := upd a6 (128 * acc + n / 2) (a6 (128 * acc + 2 * (n / 2)) + a6 (128 * acc + 2 * (n / 2) + 1))) ?_ ⟨hin, ?_⟩⟩⟩
      · rw [nI_add, nI_clamp (by omega)]
      · refine db_pLE (v2 - P acc (day / 2 ^ (t + 1) * 2 ^ (t + 1))) (v1 - P acc (day / 2 ^ (t + 1) * 2 ^ (t + 1))) (fun z => ?_) (fun z => ⟨hin, ?_⟩) rfl q7
        · exact db_174 (by omega) (by omega) (step _ v2 rfl (wpos _ _ (db_mL m1 m2 (by omega))))
        · exact db_174 (by omega) (by omega) (step _ v1 q7 (wpos _ _ (db_mR m1 m2 (by omega))))
end
section
variable {post : St2 → Prop} {f1 f2 f3 f4 f5 f6 f7 : Int32} {a1 a2 a3 a4 a5 a6 a7 a8 a9 : Nat → Int32}
/-- add: the picture grows by z from a day on -/
theorem db_addP {P Q : Nat → Nat → Int} {acc day : Nat} {z : Int} (hT : db_T P a6 a7) (ha : acc < 4) (hd : day < 64)
    (hQ : ∀ a j, Q a j = P a j + (if a = acc ∧ day < j then z else 0)) (hb : db_B Q)
    (H : ∀ b6 b7 b8, db_T Q b6 b7 → post (f1, f2, f3, f4, f5, f6, f7, a1, a2, a3, a4, a5, b6, b7, b8, a9)) : wpX_add post (f1, f2, f3, f4, f5, f6, f7, a1, a2, a3, a4, a5, a6, a7, a8, a9) (nI acc) (nI day) (db_i z) := by
  have e64 : 2 ^ (6 - 0) = 64 := rfl
  have leaf := hT.2 acc 0 day ha (by omega) (by omega)
  have I : ∀ a h k, a < 4 → h ≤ 6 → k < 2 ^ (6 - h) → (a ≠ acc ∨ h ≤ 0 ∨ k ≠ day / 2 ^ h) →
      db_N (Q a) (upd a6 (128 * acc + (64 + day)) (a6 (128 * acc + (64 + day)) + db_i z)) (upd a7 (128 * acc + (64 + day)) (a6 (128 * acc + (64 + day)) + db_i z)) a h k := by
    intro a h k h1 h2 h3 h4
    by_cases hh : a = acc ∧ h = 0 ∧ k = day
    · obtain ⟨rfl, rfl, rfl⟩ := hh
      have l1 : a6 (128 * a + (64 + k)) = db_i (P a (k * 2 ^ 0 + 2 ^ 0) - P a (k * 2 ^ 0)) := leaf.1
      have e1 : a6 (128 * a + (64 + k)) + db_i z = db_i (Q a (k * 2 ^ 0 + 2 ^ 0) - Q a (k * 2 ^ 0)) := by
        rw [l1, db_add, hQ, hQ, if_pos ⟨rfl, by omega⟩, if_neg (by omega)]
        congr 1
        omega
      refine ⟨?_, Q a (k * 2 ^ 0 + 2 ^ 0), db_m1 (Q a) _, ?_⟩
      · rw [e64, pk_us]
        exact e1
      · rw [e64, pk_us]
        exact e1
    · have hne : 128 * a + (2 ^ (6 - h) + k) ≠ 128 * acc + (64 + day) := fun g =>
        hh (db_inj h2 h3 (Nat.zero_le 6) (show day < 2 ^ (6 - 0) by omega) g)
      refine db_Nk (pk_un hne) (pk_un hne) ?_
      have old := hT.2 a h k h1 h2 h3
      by_cases g1 : a = acc
      · have g2 : k ≠ day / 2 ^ h := by
          intro g
          have g3 : h = 0 := by
            rcases h4 with y | y | y
            · exact absurd g1 y
            · omega
            · exact absurd g y
          refine hh ⟨g1, g3, ?_⟩
          rw [g, g3, Nat.pow_zero, Nat.div_one]
        have hp : 0 < 2 ^ h := Nat.two_pow_pos h
        rcases Nat.lt_or_ge k (day / 2 ^ h) with y | y
        · have y2 : k * 2 ^ h + 2 ^ h ≤ day := by
            have := (Nat.le_div_iff_mul_le hp).mp (show k + 1 ≤ day / 2 ^ h from y)
            rw [Nat.add_mul, Nat.one_mul] at this
            exact this
          refine db_Ns (c := 0) (fun j j1 j2 => ?_) old
          rw [hQ, if_neg (by omega)]
        · have y2 : day < k * 2 ^ h := (Nat.div_lt_iff_lt_mul hp).mp (by omega)
          refine db_Ns (c := z) (fun j j1 j2 => ?_) old
          rw [hQ, if_pos ⟨g1, by omega⟩]
      · refine db_Ns (c := 0) (fun j j1 j2 => ?_) old
        rw [hQ, if_neg (fun g => g1 g.1)]
  have hi : nI (128 * acc) + nI (64 + day) = nI (128 * acc + (64 + day)) := nI_add _ _
  have hin : vp_in (nI (128 * acc + (64 + day))) 512 := pk_in (128 * acc + (64 + day)) 512 (by omega)
  refine nm_r (e' := nI (128 * acc)) (pk_mul 128 acc) (nm_r (e' := nI (64 + day)) (nI_add 64 day) ?_)
  rw [hi, nI_clamp (show 128 * acc + (64 + day) < 2 ^ 31 by omega)]
  refine ⟨hin, hin, nm_e ⟨hin, hin, nm_r (e' := upd a7 (128 * acc + (64 + day)) (a6 (128 * acc + (64 + day)) + db_i z)) (by rw [pk_us]) ⟨hin, hin, nm_e ⟨7, ?_⟩⟩⟩⟩
  exact db_73 hb ha hd H 6 0 (64 + day) 1 _ _ _ rfl (by rw [Nat.pow_zero, Nat.div_one]) I
end
end
section
theorem db_s32 : ∀ h, h < 32 → ((nI h &&& 31).toBitVec.smod 32).toNat = h := by decide +kernel
/-- the height that widest finds -/
def db_w (p l : Nat) : Nat → Nat → Nat
  | 0, h => h
  | n + 1, h => if p / 2 ^ h % 2 = 0 ∧ p + 2 * 2 ^ h ≤ l + 1 then db_w p l n (h + 1) else h
theorem db_wid2 {post : Int32 → Prop} {p l : Nat} (hp : p < 64) (hl : l < 64) : ∀ n h, h + n = 6 → post (nI (db_w p l n h)) → wX_widest_2 post (nI p) (nI l) (n + 1) (nI h) := by
  intro n
  induction n with
  | zero => exact fun h hh hq => pk_le 6 h (fun _ => hq) (fun z => absurd z (by omega))
  | succ n ih =>
    intro h hh hq
    have h2 : 2 ^ h ≤ 64 := by have := db_pw (show h ≤ 6 by omega); omega
    have e1 : (nI p >>> (nI h &&& 31)) &&& 1 = nI (p / 2 ^ h % 2) := by
      rw [pk_shrN (by omega) _ h (db_s32 h (by omega))]
      exact pk_andN (Nat.lt_of_le_of_lt (Nat.div_le_self _ _) (by omega)) 1 rfl
    have e2 : (nI p + ((2 : Int32) <<< (nI h &&& 31))) - 1 = nI (p + 2 * 2 ^ h - 1) := by
      rw [show (2 : Int32) <<< (nI h &&& 31) = nI (2 * 2 ^ h) from pk_shlN (n := 2) _ h (db_s32 h (by omega)) (by omega), nI_add]
      exact pk_sub (b := 1) (by have := Nat.two_pow_pos h; omega)
    refine pk_le 6 h (fun z => absurd z (by omega)) (fun _ => ?_)
    rw [e1, e2]
    have hq' : post (nI (if p / 2 ^ h % 2 = 0 ∧ p + 2 * 2 ^ h ≤ l + 1 then db_w p l n (h + 1) else h)) := hq
    have hpos := Nat.two_pow_pos h
    refine pk_eq (p / 2 ^ h % 2) 0 (fun z1 => pk_lt l (p + 2 * 2 ^ h - 1) (fun z2 => ?_) (fun z2 => nm_r (nI_1 h) (ih (h + 1) (by omega) ?_))) (fun z1 => ?_)
    · rw [if_neg (fun g => absurd g.2 (by omega))] at hq'
      exact hq'
    · rw [if_pos ⟨z1, by omega⟩] at hq'
      exact hq'
    · rw [if_neg (fun g => z1 g.1)] at hq'
      exact hq'
theorem db_wid {post : Int32 → Prop} {p l : Nat} (hp : p < 64) (hl : l < 64) (H : post (nI (db_w p l 6 0))) : wpX_widest post () (nI p) (nI l) :=
  ⟨7, db_wid2 hp hl 6 0 rfl H⟩
theorem db_wf : ∀ l, l < 64 → ∀ p, p ≤ l → db_w p l 6 0 ≤ 6 ∧ p % 2 ^ (db_w p l 6 0) = 0 ∧ p + 2 ^ (db_w p l 6 0) ≤ l + 1 := by
  have H : ∀ l, l < 64 → ∀ p, p < l + 1 → db_w p l 6 0 ≤ 6 ∧ p % 2 ^ (db_w p l 6 0) = 0 ∧ p + 2 ^ (db_w p l 6 0) ≤ l + 1 := by decide +kernel
  exact fun l hl p hp => H l hl p (by omega)
/-- where walk stands after so many steps from day 0 -/
def db_p (l : Nat) : Nat → Nat
  | 0 => 0
  | n + 1 => if l < db_p l n then db_p l n else db_p l n + 2 ^ (db_w (db_p l n) l 6 0)
theorem db_p14 : ∀ l, l < 64 → db_p l 14 = l + 1 := by decide +kernel
theorem db_pl (l : Nat) (hl : l < 64) : ∀ n, db_p l n ≤ l + 1 := by
  intro n
  induction n with
  | zero => exact Nat.zero_le _
  | succ n ih =>
    show (if l < db_p l n then db_p l n else db_p l n + 2 ^ (db_w (db_p l n) l 6 0)) ≤ l + 1
    by_cases h : l < db_p l n
    · rw [if_pos h]
      exact ih
    · rw [if_neg h]
      exact (db_wf l hl _ (by omega)).2.2
theorem db_nd {p h : Nat} (hh : h ≤ 6) (hp : p < 64) (hm : p % 2 ^ h = 0) : (64 + p) / 2 ^ h = 2 ^ (6 - h) + p / 2 ^ h ∧ p / 2 ^ h < 2 ^ (6 - h) ∧ p / 2 ^ h * 2 ^ h = p := by
  rcases db_pw hh with ⟨-, q, r⟩ | ⟨-, q, r⟩ | ⟨-, q, r⟩ | ⟨-, q, r⟩ | ⟨-, q, r⟩ | ⟨-, q, r⟩ | ⟨-, q, r⟩ <;> rw [r] at hm <;> rw [q, r] <;> omega
section
variable {post : St2 → Prop} {f1 f2 f3 f4 f5 f6 f7 : Int32} {a1 a2 a3 a4 a5 a6 a7 a8 a9 : Nat → Int32}
theorem db_96 {J : Int32 → Int32 → Int32 → Int32 → Int32 → Prop} {x3 x4 z0 : Int32} {p st h i : Nat} (hi : i < 512) (hh : h ≤ 6)
    (hJ : ∀ wa : Int32, J (nI (p + 2 ^ h)) (nI (st + 1)) (f5 + a6 i) z0 wa) :
    wX_walk_96 post J x3 x4 (nI p) (nI st) (nI h) (nI i) z0 f1 f2 f3 f4 f5 f6 f7 a1 a2 a3 a4 a5 a6 a7 a8 a9 := by
  have h2 : 2 ^ h ≤ 64 := by have := db_pw hh; omega
  unfold wX_walk_96
  rw [nI_clamp (show i < 2 ^ 31 by omega), show (1 : Int32) <<< (nI h &&& 31) = nI (1 * 2 ^ h) from pk_shlN (n := 1) _ h (db_s32 h (by omega)) (by omega), Nat.one_mul, nI_add, nI_1]
  exact ⟨pk_in i 512 hi, nm_e ⟨pk_in i 512 hi, nm_e (nm_e (nm_e (hJ _)))⟩⟩
theorem db_29 {P : Nat → Nat → Int} {acc l : Nat} (hT : db_T P a6 a7) (ha : acc < 4) (hl : l < 64)
    (H : ∀ wa v, db_m (P acc) 0 (l + 1) v → post (f1, f2, f3, f4, db_i (P acc (l + 1)), db_i v, wa, a1, a2, a3, a4, a5, a6, a7, a8, a9)) :
    ∀ (m st : Nat) (wl wa : Int32) (v : Int), st + m = 14 → wl = db_i v → (db_p l st = 0 ∧ v = 2147483647 ∨ db_m (P acc) 0 (db_p l st) v) →
      wX_walk_29 post (nI l) (nI (128 * acc)) f1 f2 f3 f4 a1 a2 a3 a4 a5 a6 a7 a8 a9 (m + 1) (nI (db_p l st)) (nI st) (db_i (P acc (db_p l st))) wl wa := by
  have hb := hT.1
  intro m
  induction m with
  | zero =>
    intro st wl wa v hst hw hv
    have e : db_p l st = l + 1 := by rw [show st = 14 by omega]; exact db_p14 l hl
    rw [e] at hv ⊢
    subst hw
    refine pk_le 14 st (fun _ => ?_) (fun z => absurd z (by omega))
    rcases hv with z | z
    · exact absurd z.1 (by omega)
    · exact H wa v z
  | succ m ih =>
    intro st wl wa v hst hw hv
    have hpl := db_pl l hl st
    refine pk_le 14 st (fun z => absurd z (by omega)) (fun _ => pk_lt l (db_p l st) (fun z => ?_) (fun z => ?_))
    · have e : db_p l st = l + 1 := by omega
      rw [e] at hv ⊢
      subst hw
      rcases hv with z | z
      · exact absurd z.1 (by omega)
      · exact H wa v z
    · obtain ⟨w1, w2, w3⟩ := db_wf l hl (db_p l st) z
      refine db_wid (by omega) hl ?_
      have en : db_p l (st + 1) = db_p l st + 2 ^ (db_w (db_p l st) l 6 0) := if_neg (by omega)
      generalize db_w (db_p l st) l 6 0 = h at w1 w2 w3 en ⊢
      generalize db_p l st = p at *
      obtain ⟨n1, n2, n3⟩ := db_nd w1 (show p < 64 by omega) w2
      obtain ⟨c6, u, c7, c8⟩ := hT.2 acc h (p / 2 ^ h) ha w1 n2
      rw [← n1, n3] at c6 c8
      rw [n3] at c7
      have hi : (64 + p) / 2 ^ h < 128 := by rw [n1]; exact db_ix w1 n2
      have bu := db_mb hb c7
      have bp := hb.2 acc p
      have step : ∀ (z0 wa' : Int32) (v' : Int), z0 = db_i v' → db_m (P acc) 0 (p + 2 ^ h) v' →
          wX_walk_29 post (nI l) (nI (128 * acc)) f1 f2 f3 f4 a1 a2 a3 a4 a5 a6 a7 a8 a9 (m + 1) (nI (p + 2 ^ h)) (nI (st + 1)) (db_i (P acc p) + a6 (128 * acc + (64 + p) / 2 ^ h)) z0 wa' := by
        intro z0 wa' v' hz hm
        have := ih (st + 1) z0 wa' v' (by omega) hz
        rw [en] at this
        rw [c6, db_add, show P acc p + (P acc (p + 2 ^ h) - P acc p) = P acc (p + 2 ^ h) by omega]
        exact this (Or.inr hm)
      refine nm_r (e' := nI (128 * acc + (64 + p) / 2 ^ h)) ?_ ⟨pk_in (128 * acc + (64 + p) / 2 ^ h) 512 (by omega), ?_⟩
      · rw [show (64 : Int32) + nI p = nI (64 + p) from nI_add 64 p, pk_shrN (by omega) _ h (db_s32 h (by omega)), nI_add]
      · rw [nI_clamp (show 128 * acc + (64 + p) / 2 ^ h < 2 ^ 31 by omega)]
        refine nm_r (e' := db_i u) ?_ ?_
        · rw [c8, db_add]
          congr 1
          omega
        · rcases hv with ⟨q1, q2⟩ | q
          · subst q1
            refine db_pLE v u (fun z => absurd z (by omega)) (fun z => ?_) hw rfl
            exact db_96 (by omega) w1 (fun wa' => step _ wa' u rfl (by rw [Nat.zero_add]; exact c7))
          · have bv := db_mb hb q
            refine db_pLE v u (fun z => ?_) (fun z => ?_) hw rfl
            · exact db_96 (by omega) w1 (fun wa' => step _ wa' v hw (db_mR q (by rw [Nat.zero_add]; exact c7) z))
            · exact db_96 (by omega) w1 (fun wa' => step _ wa' u rfl (db_mL q (by rw [Nat.zero_add]; exact c7) (by omega)))
/-- walk from day 0 -/
theorem db_walk {P : Nat → Nat → Int} {acc l : Nat} (hT : db_T P a6 a7) (ha : acc < 4) (hl : l < 64)
    (H : ∀ wa v, db_m (P acc) 0 (l + 1) v → post (f1, f2, f3, f4, db_i (P acc (l + 1)), db_i v, wa, a1, a2, a3, a4, a5, a6, a7, a8, a9)) : wpX_walk post (f1, f2, f3, f4, f5, f6, f7, a1, a2, a3, a4, a5, a6, a7, a8, a9) (nI acc) 0 (nI l) := by
  refine nm_r (e' := nI (128 * acc)) (pk_mul 128 acc) ⟨15, ?_⟩
  have := db_29 hT ha hl H 14 0 2147483647 0 2147483647 rfl rfl (Or.inl ⟨rfl, rfl⟩)
  rw [show db_p l 0 = 0 from rfl, hT.1.1 acc] at this
  exact this
theorem db_walkN {x : Int32} {p0 : Int32} (hx : x < 0) (H : post (f1, f2, f3, f4, 0, 2147483647, 0, a1, a2, a3, a4, a5, a6, a7, a8, a9)) : wpX_walk post (f1, f2, f3, f4, f5, f6, f7, a1, a2, a3, a4, a5, a6, a7, a8, a9) p0 0 x :=
  nm_e ⟨1, br_f (by decide) (br_t hx H)⟩
end
end
section
theorem db_0 : (0 : Int32) = db_i 0 := by decide
theorem db_acc {post : Int32 → Prop} {n : Nat} (h : n < 4) (H : post 1) : wpX_isAccount post () (nI n) :=
  pk_lt n 0 (fun z => absurd z (by omega)) (fun _ => pk_le 4 n (fun z => absurd z (by omega)) (fun _ => H))
theorem db_day {post : Int32 → Prop} {n : Nat} (h : n < 48) (H : post 1) : wpX_isDay post () (nI n) :=
  pk_lt n 0 (fun z => absurd z (by omega)) (fun _ => pk_le 48 n (fun z => absurd z (by omega)) (fun _ => H))
theorem db_ent {post : Int32 → Prop} {f2 f3 f4 f5 f6 f7 : Int32} {a1 a2 a3 a4 a5 a6 a7 a8 a9 : Nat → Int32} {c : Nat} (hc : 0 < c) (hc' : c < 2 ^ 31) (H : post 1) : wpX_isEntry post (nI c, f2, f3, f4, f5, f6, f7, a1, a2, a3, a4, a5, a6, a7, a8, a9) 0 :=
  br_f (by decide) (pk_le c 0 (fun z => absurd z (by omega)) (fun _ => H))
/-- no account is below its floor on any day -/
def db_sd (P : Nat → Nat → Int) : Prop := ∀ a j, a < 4 → 0 < j → j ≤ 48 → 0 ≤ P a j
/-- the entries behind the first, the newest ahead; the first is (0, 0, s) -/
def db_E (s : Int) (a1 a2 a3 : Nat → Int32) : List (Nat × Nat × Int) → Prop
  | [] => a1 0 = nI 0 ∧ a2 0 = nI 0 ∧ a3 0 = db_i s
  | e :: E => (a1 (E.length + 1) = nI e.1 ∧ a2 (E.length + 1) = nI e.2.1 ∧ a3 (E.length + 1) = db_i e.2.2 ∧ e.1 < 4 ∧ e.2.1 < 48 ∧ -64 ≤ e.2.2 ∧ e.2.2 ≤ 64) ∧ db_E s a1 a2 a3 E
/-- their sums below a day -/
def db_S (s : Int) (a j : Nat) : List (Nat × Nat × Int) → Int
  | [] => if a = 0 ∧ 0 < j then s else 0
  | e :: E => db_S s a j E + (if a = e.1 ∧ e.2.1 < j then e.2.2 else 0)
theorem db_Eu {s : Int} {a1 a2 a3 : Nat → Int32} {k : Nat} {x y w : Int32} : ∀ E : List (Nat × Nat × Int), E.length < k → db_E s a1 a2 a3 E → db_E s (upd a1 k x) (upd a2 k y) (upd a3 k w) E := by
  intro E
  induction E with
  | nil =>
    intro hk h
    have hk' : 0 ≠ k := by
      intro z
      subst z
      exact absurd hk (Nat.lt_irrefl _)
    exact ⟨(pk_un hk').trans h.1, (pk_un hk').trans h.2.1, (pk_un hk').trans h.2.2⟩
  | cons e E ih =>
    intro hk h
    have hl : E.length + 1 < k := hk
    have hk' : E.length + 1 ≠ k := by omega
    obtain ⟨⟨h1, h2, h3, h4⟩, h5⟩ := h
    exact ⟨⟨(pk_un hk').trans h1, (pk_un hk').trans h2, (pk_un hk').trans h3, h4⟩, ih (by omega) h5⟩
theorem db_Sb {s : Int} {a1 a2 a3 : Nat → Int32} (hs : -64 ≤ s ∧ s ≤ 64) (a j : Nat) : ∀ E : List (Nat × Nat × Int), db_E s a1 a2 a3 E → -64 * ((E.length : Int) + 1) ≤ db_S s a j E ∧ db_S s a j E ≤ 64 * ((E.length : Int) + 1) := by
  intro E
  induction E with
  | nil =>
    intro _
    show -64 * (((0 : Nat) : Int) + 1) ≤ (if a = 0 ∧ 0 < j then s else 0) ∧ (if a = 0 ∧ 0 < j then s else 0) ≤ 64 * (((0 : Nat) : Int) + 1)
    by_cases h : a = 0 ∧ 0 < j
    · rw [if_pos h]
      omega
    · rw [if_neg h]
      omega
  | cons e E ih =>
    intro h
    have hi := ih h.2
    obtain ⟨-, -, -, -, -, e1, e2⟩ := h.1
    show -64 * (((E.length + 1 : Nat) : Int) + 1) ≤ db_S s a j E + (if a = e.1 ∧ e.2.1 < j then e.2.2 else 0) ∧ db_S s a j E + (if a = e.1 ∧ e.2.1 < j then e.2.2 else 0) ≤ 64 * (((E.length + 1 : Nat) : Int) + 1)
    by_cases g : a = e.1 ∧ e.2.1 < j
    · rw [if_pos g]
      omega
    · rw [if_neg g]
      omega
theorem db_S0 (s : Int) (a : Nat) : ∀ E : List (Nat × Nat × Int), db_S s a 0 E = 0 := by
  intro E
  induction E with
  | nil => exact if_neg (fun g => absurd g.2 (by omega))
  | cons e E ih =>
    show db_S s a 0 E + (if a = e.1 ∧ e.2.1 < 0 then e.2.2 else 0) = 0
    rw [ih, if_neg (fun g => absurd g.2 (by omega))]
    rfl
/-- the picture of the entries, the first one changed by r -/
def db_Q (s r : Int) (E : List (Nat × Nat × Int)) (a j : Nat) : Int := db_S s a j E + (if a = 0 ∧ 0 < j then r else 0)
theorem db_QB {s r : Int} {a1 a2 a3 : Nat → Int32} {E : List (Nat × Nat × Int)} (hs : -64 ≤ s ∧ s ≤ 64) (hr : -64 ≤ r ∧ r ≤ 64) (hE : db_E s a1 a2 a3 E) (hl : E.length ≤ 50) : db_B (db_Q s r E) := by
  refine ⟨fun a => ?_, fun a j => ?_⟩
  · show db_S s a 0 E + (if a = 0 ∧ 0 < 0 then r else 0) = 0
    rw [db_S0, if_neg (fun g => absurd g.2 (by omega))]
    rfl
  · have h := db_Sb hs a j E hE
    show -50000 ≤ db_S s a j E + (if a = 0 ∧ 0 < j then r else 0) ∧ db_S s a j E + (if a = 0 ∧ 0 < j then r else 0) ≤ 50000
    by_cases g : a = 0 ∧ 0 < j
    · rw [if_pos g]
      omega
    · rw [if_neg g]
      omega
section
variable {post : Int32 → St2 → Prop} {f1 f2 f3 f4 f5 f6 f7 : Int32} {a1 a2 a3 a4 a5 a6 a7 a8 a9 : Nat → Int32}
theorem db_snd2 {P : Nat → Nat → Int} (hT : db_T P a6 a7) (h5 : ∀ j, a5 j = 0) (H1 : db_sd P → ∀ wc wl wa, post 1 (f1, f2, f3, f4, wc, wl, wa, a1, a2, a3, a4, a5, a6, a7, a8, a9)) (H0 : ¬ db_sd P → ∀ wc wl wa, post 0 (f1, f2, f3, f4, wc, wl, wa, a1, a2, a3, a4, a5, a6, a7, a8, a9)) :
    ∀ (m a : Nat) (wc wl wa : Int32), a + m = 4 → (∀ b j, b < a → 0 < j → j ≤ 48 → 0 ≤ P b j) → wX_isSound_2 post (m + 1) (nI a) f1 f2 f3 f4 wc wl wa a1 a2 a3 a4 a5 a6 a7 a8 a9 := by
  intro m
  induction m with
  | zero => exact fun a wc wl wa ha I => pk_le 4 a (fun _ => H1 (fun b j hb => I b j (by omega)) wc wl wa) (fun z => absurd z (by omega))
  | succ m ih =>
    intro a wc wl wa ha I
    refine pk_le 4 a (fun z => absurd z (by omega)) (fun _ => db_walk (l := 47) hT (by omega) (by omega) (fun wa' v hv => ?_))
    have bv := db_mb hT.1 hv
    refine ⟨pk_in a 4 (by omega), db_pLE 0 v (fun z => nm_r (nI_1 a) (ih (a + 1) _ _ _ (by omega) (fun b j hb h1 h2 => ?_))) (fun z => H0 (fun hs => ?_) _ _ _) ((h5 _).trans db_0) rfl⟩
    · by_cases g : b = a
      · rw [g]
        exact Int.le_trans z (hv.1 j h1 (by omega))
      · exact I b j (by omega) h1 h2
    · obtain ⟨-, j, j1, j2, j3⟩ := hv
      have := hs a j (by omega) j1 (by omega)
      omega
theorem db_isSound {P : Nat → Nat → Int} (hT : db_T P a6 a7) (h5 : ∀ j, a5 j = 0) (H1 : db_sd P → ∀ wc wl wa, post 1 (f1, f2, f3, f4, wc, wl, wa, a1, a2, a3, a4, a5, a6, a7, a8, a9)) (H0 : ¬ db_sd P → ∀ wc wl wa, post 0 (f1, f2, f3, f4, wc, wl, wa, a1, a2, a3, a4, a5, a6, a7, a8, a9)) :
    wpX_isSound post (f1, f2, f3, f4, f5, f6, f7, a1, a2, a3, a4, a5, a6, a7, a8, a9) :=
  ⟨5, db_snd2 hT h5 H1 H0 4 0 f5 f6 f7 rfl (fun b j hb => absurd hb (by omega))⟩
theorem db_sound {P : Nat → Nat → Int} (hT : db_T P a6 a7) (h5 : ∀ j, a5 j = 0) (H1 : db_sd P → ∀ wc wl wa, post 1 (f1, f2, f3, f4, wc, wl, wa, a1, a2, a3, a4, a5, a6, a7, a8, a9)) (H0 : ¬ db_sd P → ∀ wc wl wa, post 0 (f1, f2, f3, f4, wc, wl, wa, a1, a2, a3, a4, a5, a6, a7, a8, a9)) :
    wpX_sound post (f1, f2, f3, f4, f5, f6, f7, a1, a2, a3, a4, a5, a6, a7, a8, a9) :=
  db_isSound hT h5 (fun g wc wl wa => br_f (by decide) (H1 g wc wl wa)) (fun g wc wl wa => br_t rfl (H0 g wc wl wa))
theorem db_enter {P Q : Nat → Nat → Int} {c acc day : Nat} {z : Int} (hc : c < 60) (hT : db_T P a6 a7) (ha : acc < 4) (hd : day < 64)
    (hQ : ∀ a j, Q a j = P a j + (if a = acc ∧ day < j then z else 0)) (hb : db_B Q)
    (H : ∀ b6 b7 b8, db_T Q b6 b7 → post (nI c) (nI (c + 1), f2, f3, f4, f5, f6, f7, upd a1 c (nI acc), upd a2 c (nI day), upd a3 c (db_i z), upd a4 c 0, a5, b6, b7, b8, a9)) :
    wpX_enter post (nI c, f2, f3, f4, f5, f6, f7, a1, a2, a3, a4, a5, a6, a7, a8, a9) (nI acc) (nI day) (db_i z) := by
  unfold wpX_enter
  dsimp only
  rw [nI_clamp (show c < 2 ^ 31 by omega)]
  have hin : vp_in (nI c) 60 := pk_in c 60 hc
  refine ⟨hin, nm_e ⟨hin, nm_e ⟨hin, nm_e ⟨hin, nm_e (db_addP hT ha hd hQ hb (fun b6 b7 b8 hT' => nm_r (nI_1 c) ?_))⟩⟩⟩⟩
  rw [nI_pred]
  exact H b6 b7 b8 hT'
theorem db_post {P Q : Nat → Nat → Int} {c acc day : Nat} {z : Int} (hc : c < 60) (hT : db_T P a6 a7) (ha : acc < 4) (hd : day < 48) (hz : z ≠ 0) (hz1 : -10000 ≤ z) (hz2 : z ≤ 10000) (hz3 : f4 = 0 → 0 < z)
    (hQ : ∀ a j, Q a j = P a j + (if a = acc ∧ day < j then z else 0)) (hb : db_B Q)
    (H : ∀ b6 b7 b8, db_T Q b6 b7 → post (nI c) (nI (c + 1), f2, f3, f4, f5, f6, f7, upd a1 c (nI acc), upd a2 c (nI day), upd a3 c (db_i z), upd a4 c 0, a5, b6, b7, b8, a9)) :
    wpX_post post (nI c, f2, f3, f4, f5, f6, f7, a1, a2, a3, a4, a5, a6, a7, a8, a9) (nI acc) (nI day) (db_i z) := by
  have h72 : wX_post_72 post (nI acc) (nI day) (db_i z) (nI c) f2 f3 f4 f5 f6 f7 a1 a2 a3 a4 a5 a6 a7 a8 a9 := by
    unfold wX_post_72
    exact db_enter hc hT ha (by omega) hQ hb H
  unfold wpX_post
  dsimp only
  refine db_acc ha (br_f (by decide) (db_day hd (br_f (by decide) (db_pEQ z 0 (fun g => absurd g hz) (fun _ => db_pLT z (-10000) (fun g => absurd g (by omega)) (fun _ =>
    db_pLE z 10000 (fun _ => pk_eq c 60 (fun g => absurd g (by omega)) (fun _ => br_c (fun g => ?_) (fun g => h72))) (fun g => absurd g (by omega)) rfl (by decide)) rfl (by decide)) rfl db_0))))
  have hp : (0 : Int32) < db_i z := by
    rw [db_0, db_ltI (by omega) (by omega) (by omega) (by omega)]
    exact hz3 g
  exact br_t hp (br_f (by decide) h72)
theorem db_post0 {acc day : Nat} (ha : acc < 4) (hd : day < 48) (H : post (-3) (f1, f2, f3, f4, f5, f6, f7, a1, a2, a3, a4, a5, a6, a7, a8, a9)) : wpX_post post (f1, f2, f3, f4, f5, f6, f7, a1, a2, a3, a4, a5, a6, a7, a8, a9) (nI acc) (nI day) (db_i 0) := by
  unfold wpX_post
  dsimp only
  exact db_acc ha (br_f (by decide) (db_day hd (br_f (by decide) (br_t db_0.symm H))))
theorem db_cancel {P Q : Nat → Nat → Int} {c lg : Nat} {s : Int} (hc : 0 < c) (hc' : c < 60) (hlg : lg < 60) (h1 : a1 0 = nI 0) (h2 : a2 0 = nI 0) (h3 : a3 0 = db_i s) (h4 : a4 0 = 0) (hb4 : ¬ f4 = 0)
    (hT : db_T P a6 a7) (hQ : ∀ a j, Q a j = P a j + (if a = 0 ∧ 0 < j then -s else 0)) (hb : db_B Q)
    (H : ∀ b6 b7 b8, db_T Q b6 b7 → post (db_i s) (nI c, nI (lg + 1), f3, f4, f5, f6, f7, a1, a2, a3, upd a4 0 1, a5, b6, b7, b8, upd a9 lg 0)) :
    wpX_cancel post (nI c, nI lg, f3, f4, f5, f6, f7, a1, a2, a3, a4, a5, a6, a7, a8, a9) 0 := by
  have hin : vp_in (0 : Int32) 60 := pk_in 0 60 (by omega)
  have h60 : wX_cancel_60 post 0 (db_i s) (nI c) (nI lg) f3 f4 f5 f6 f7 a1 a2 a3 a4 a5 a6 a7 a8 a9 := by
    unfold wX_cancel_60
    rw [sb_cl0, h1, h2, db_neg]
    exact ⟨hin, nm_e ⟨hin, hin, db_addP hT (by omega) (by omega) hQ hb (fun b6 b7 b8 hT' => br_f hb4 ⟨pk_in lg 60 hlg, nm_r (e' := upd a9 lg 0) (by rw [nI_clamp (by omega)]) (nm_r (nI_1 lg) (H b6 b7 b8 hT'))⟩)⟩⟩
  unfold wpX_cancel
  dsimp only
  exact db_ent hc (by omega) (br_f (by decide) ⟨hin, br_t (by rw [sb_cl0]; exact h4) ⟨hin, nm_r (e' := db_i s) (by rw [sb_cl0]; exact h3) (br_f hb4 h60)⟩⟩)
theorem db_floor (hb4 : ¬ f4 = 0) (H : post (-3) (f1, f2, f3, f4, f5, f6, f7, a1, a2, a3, a4, a5, a6, a7, a8, a9)) : wpX_floor post (f1, f2, f3, f4, f5, f6, f7, a1, a2, a3, a4, a5, a6, a7, a8, a9) 3 0 := by
  unfold wpX_floor
  dsimp only
  exact db_acc (n := 3) (by omega) (br_f (by decide) (br_f (by decide) (br_t (by decide) (br_f hb4 H))))
theorem db_85 {s r : Int} {lg : Nat} (hs : -64 ≤ s ∧ s ≤ 64) (h9 : ∀ j, a9 j = 0) (hE : db_E s a1 a2 a3 []) (hT : db_T (db_Q s r []) a6 a7)
    (hlg : lg = 0 ∧ r = 0 ∧ a4 0 = 0 ∨ lg = 1 ∧ r = -s)
    (H : ∀ b4 b6 b7 b8, b4 0 = 0 → db_T (db_Q s 0 []) b6 b7 → post 0 (nI 1, nI lg, nI 1, f4, f5, f6, f7, a1, a2, a3, b4, a5, b6, b7, b8, a9)) :
    ∃ n, wX_close_85 post n 0 f1 (nI lg) (nI 1) f4 f5 f6 f7 a1 a2 a3 a4 a5 a6 a7 a8 a9 := by
  have hin : vp_in (0 : Int32) 60 := pk_in 0 60 (by omega)
  have hB : db_B (db_Q s 0 []) := db_QB hs (by omega) hE (by decide)
  rcases hlg with ⟨rfl, rfl, h4⟩ | ⟨rfl, rfl⟩
  · exact ⟨0 + 1, pk_le 0 0 (fun _ => H a4 a6 a7 a8 h4 hT) (fun z => absurd z (by omega))⟩
  · obtain ⟨e1, e2, e3⟩ := hE
    refine ⟨0 + 1 + 1, pk_le 1 0 (fun z => absurd z (by omega)) (fun _ => ⟨hin, nm_r (e' := 0) (h9 _) (pk_le 1 0 (fun z => absurd z (by omega)) (fun _ => ⟨hin, nm_e ⟨hin, hin, hin, ?_⟩⟩))⟩)⟩
    rw [sb_cl0, e1, e2, e3]
    refine db_addP hT (by omega) (by omega) (fun a j => ?_) hB (fun b6 b7 b8 hT' => nm_r (nI_1 0) (pk_le 1 1 (fun _ => H _ b6 b7 b8 pk_us hT') (fun z => absurd z (by omega))))
    show db_S s a j [] + (if a = 0 ∧ 0 < j then 0 else 0) = db_S s a j [] + (if a = 0 ∧ 0 < j then -s else 0) + (if a = 0 ∧ 0 < j then s else 0)
    by_cases g : a = 0 ∧ 0 < j
    · rw [if_pos g, if_pos g, if_pos g]
      omega
    · rw [if_neg g, if_neg g, if_neg g]
      omega
end
section
variable {post : Int32 → St2 → Prop} {f1 f2 f3 f4 f5 f6 f7 : Int32} {a1 a2 a3 a5 a9 : Nat → Int32}
theorem db_30 {s r : Int} {lg : Nat} (hs : -64 ≤ s ∧ s ≤ 64) (hr : -64 ≤ r ∧ r ≤ 64) (h9 : ∀ j, a9 j = 0)
    (H : ∀ b4 b6 b7 b8, b4 0 = 0 → db_T (db_Q s 0 []) b6 b7 → post 0 (nI 1, nI lg, nI 1, f4, f5, f6, f7, a1, a2, a3, b4, a5, b6, b7, b8, a9)) :
    ∀ (E : List (Nat × Nat × Int)) (a4 a6 a7 a8 : Nat → Int32), E.length ≤ 50 → db_E s a1 a2 a3 E → (∀ j, 0 < j → a4 j = 0) → (lg = 0 ∧ r = 0 ∧ a4 0 = 0 ∨ lg = 1 ∧ r = -s) → db_T (db_Q s r E) a6 a7 →
      wX_close_30 post (E.length + 1) (nI E.length) f1 (nI lg) (nI 1) f4 f5 f6 f7 a1 a2 a3 a4 a5 a6 a7 a8 a9 := by
  intro E
  induction E with
  | nil => exact fun a4 a6 a7 a8 _ hE _ hlg hT => pk_lt 0 1 (fun _ => db_85 hs h9 hE hT hlg H) (fun z => absurd z (by omega))
  | cons e E ih =>
    intro a4 a6 a7 a8 hl hE h4 hlg hT
    have hl' : E.length + 1 ≤ 50 := hl
    obtain ⟨⟨e1, e2, e3, e4, e5, e6, e7⟩, hE'⟩ := hE
    have hin : vp_in (nI (E.length + 1)) 60 := pk_in (E.length + 1) 60 (by omega)
    show wX_close_30 post (E.length + 1 + 1) (nI (E.length + 1)) f1 (nI lg) (nI 1) f4 f5 f6 f7 a1 a2 a3 a4 a5 a6 a7 a8 a9
    refine pk_lt (E.length + 1) 1 (fun z => absurd z (by omega)) (fun _ => ⟨hin, br_t (h4 _ (by rw [nI_clamp (by omega)]; omega)) ⟨hin, hin, hin, ?_⟩⟩)
    rw [nI_clamp (show E.length + 1 < 2 ^ 31 by omega), e1, e2, e3, db_neg]
    refine db_addP hT e4 (by omega) (Q := db_Q s r E) (fun a j => ?_) (db_QB hs hr hE' (by omega)) (fun b6 b7 b8 hT' => ⟨hin, nm_e (nm_r (pk_m1 E.length) (ih _ b6 b7 b8 (by omega) hE' (fun j hj => ?_) ?_ hT'))⟩)
    · show db_S s a j E + (if a = 0 ∧ 0 < j then r else 0) = db_S s a j E + (if a = e.1 ∧ e.2.1 < j then e.2.2 else 0) + (if a = 0 ∧ 0 < j then r else 0) + (if a = e.1 ∧ e.2.1 < j then -e.2.2 else 0)
      by_cases g : a = e.1 ∧ e.2.1 < j
      · rw [if_pos g, if_pos g]
        omega
      · rw [if_neg g, if_neg g]
        omega
    · by_cases g : j = E.length + 1
      · rw [g, pk_us]
      · rw [pk_un g]
        exact h4 j hj
    · rw [pk_un (show 0 ≠ E.length + 1 by omega)]
      exact hlg
end
section
variable {post : Int32 → St2 → Prop} {f1 f2 f3 f4 f5 f6 f7 : Int32} {a1 a2 a3 a4 a5 a6 a7 a8 a9 : Nat → Int32}
theorem db_close {s r : Int} {lg : Nat} {E : List (Nat × Nat × Int)} (hs : -64 ≤ s ∧ s ≤ 64) (hr : -64 ≤ r ∧ r ≤ 64) (h9 : ∀ j, a9 j = 0) (h5 : ∀ j, a5 j = 0) (hl : E.length ≤ 50) (hE : db_E s a1 a2 a3 E)
    (h4 : ∀ j, 0 < j → a4 j = 0) (hlg : lg = 0 ∧ r = 0 ∧ a4 0 = 0 ∨ lg = 1 ∧ r = -s) (hT : db_T (db_Q s r E) a6 a7) (hb4 : ¬ f4 = 0)
    (H1 : db_sd (db_Q s r E) → ∀ wc wl wa, post 1 (nI (E.length + 1), nI lg, nI 1, 0, wc, wl, wa, a1, a2, a3, a4, a5, a6, a7, a8, a9))
    (H0 : ¬ db_sd (db_Q s r E) → ∀ wc wl wa b4 b6 b7 b8, b4 0 = 0 → db_T (db_Q s 0 []) b6 b7 → post 0 (nI 1, nI lg, nI 1, 0, wc, wl, wa, a1, a2, a3, b4, a5, b6, b7, b8, a9)) :
    wpX_close post (nI (E.length + 1), nI lg, nI 1, f4, f5, f6, f7, a1, a2, a3, a4, a5, a6, a7, a8, a9) :=
  br_f hb4 (db_isSound hT h5 (fun g wc wl wa => br_f (by decide) (H1 g wc wl wa))
    (fun g wc wl wa => br_t rfl (nm_r (nI_pred _) ⟨E.length + 1, db_30 hs hr h9 (H0 g wc wl wa) E a4 a6 a7 a8 hl hE h4 hlg hT⟩)))
theorem db_close0 (hb4 : f4 = 0) (H : post (-1) (f1, f2, f3, f4, f5, f6, f7, a1, a2, a3, a4, a5, a6, a7, a8, a9)) : wpX_close post (f1, f2, f3, f4, f5, f6, f7, a1, a2, a3, a4, a5, a6, a7, a8, a9) := br_t hb4 H
theorem db_bal {P : Nat → Nat → Int} {acc day : Nat} (hT : db_T P a6 a7) (ha : acc < 4) (hd : day < 48)
    (H : ∀ wl wa, post (db_i (P acc (day + 1))) (f1, f2, f3, f4, db_i (P acc (day + 1)), wl, wa, a1, a2, a3, a4, a5, a6, a7, a8, a9)) : wpX_balance post (f1, f2, f3, f4, f5, f6, f7, a1, a2, a3, a4, a5, a6, a7, a8, a9) (nI acc) (nI day) := by
  unfold wpX_balance
  dsimp only
  exact db_acc ha (br_f (by decide) (db_day hd (br_f (by decide) (db_walk hT ha (by omega) (fun wa v hv => H (db_i v) wa)))))
theorem db_lowest {P : Nat → Nat → Int} {acc : Nat} (hT : db_T P a6 a7) (ha : acc < 4)
    (H : ∀ v wc wl wa, db_m (P acc) 0 8 v → post (db_i v) (f1, f2, f3, f4, wc, wl, wa, a1, a2, a3, a4, a5, a6, a7, a8, a9)) : wpX_lowest post (f1, f2, f3, f4, f5, f6, f7, a1, a2, a3, a4, a5, a6, a7, a8, a9) (nI acc) 0 7 := by
  unfold wpX_lowest
  dsimp only
  refine db_acc ha (br_f (by decide) ?_)
  refine br_f (by decide) (br_f (by decide) (br_f (by decide) (br_f (by decide) ?_)))
  unfold wpX_lowestIn
  dsimp only
  refine db_walkN (by decide) (db_walk (l := 7) hT ha (by omega) (fun wa v hv => ?_))
  have e : (0 : Int32) + db_i v = db_i v := by rw [db_0, db_add, Int.zero_add]
  show post (0 + db_i v) (f1, f2, f3, f4, db_i (P acc (7 + 1)), db_i v, wa, a1, a2, a3, a4, a5, a6, a7, a8, a9)
  rw [e]
  exact H v _ _ wa hv
theorem db_cancelled {post : Int32 → Prop} {c : Nat} (hc : 0 < c) (hc' : c < 2 ^ 31) (H : (a4 0 = 0 → post 0) ∧ (¬ a4 0 = 0 → post 1)) : wpX_cancelled post (nI c, f2, f3, f4, f5, f6, f7, a1, a2, a3, a4, a5, a6, a7, a8, a9) 0 := by
  unfold wpX_cancelled
  dsimp only
  exact db_ent hc hc' (br_f (by decide) ⟨pk_in 0 60 (by omega), H⟩)
end
end
section
/-- the i-th part of the script -/
def db_X (p q : Int32) (i : Nat) : Nat := if i < 3 then (p >>> ((10 * nI i) &&& 31)).toBitVec.toNat % 2 ^ 10 else (q >>> (((10 * nI i) - 30) &&& 31)).toBitVec.toNat % 2 ^ 10
theorem db_Xl (p q : Int32) (i : Nat) : db_X p q i < 1024 := by
  unfold db_X
  by_cases h : i < 3
  · rw [if_pos h]
    exact Nat.mod_lt _ (by decide)
  · rw [if_neg h]
    exact Nat.mod_lt _ (by decide)
theorem db_part {post : Int32 → Prop} {p q : Int32} {i : Nat} (hi : i < 2 ^ 31) (H : post (nI (db_X p q i))) : wpL_part post () p q (nI i) := by
  unfold db_X at H
  refine pk_le 3 i (fun z => ?_) (fun z => ?_)
  · rw [if_neg (by omega)] at H
    rw [pk_and _ 10 (by decide)]
    exact H
  · rw [if_pos z] at H
    rw [pk_and _ 10 (by decide)]
    exact H
/-- the amount in a part -/
def db_z (x : Nat) : Int := ((x / 16 % 64 : Nat) : Int) - 32
theorem db_zb (x : Nat) : -32 ≤ db_z x ∧ db_z x ≤ 31 := by
  unfold db_z
  omega
theorem db_am {x : Nat} (hx : x < 1024) : ((nI x >>> ((4 : Int32) &&& 31)) &&& 63) - 32 = db_i (db_z x) := by
  rw [pk_shrN (by omega) _ 4 (by decide), pk_andN (by omega) 6 (by decide), db_nI]
  exact db_sub _ 32
theorem db_a7 {x : Nat} (hx : x < 1024) : nI x &&& 7 = nI (x % 8) := pk_andN (by omega) 3 (by decide)
theorem db_a1 {x : Nat} (hx : x < 1024) : (nI x >>> ((3 : Int32) &&& 31)) &&& 1 = nI (x / 8 % 2) := by
  rw [pk_shrN (by omega) _ 3 (by decide)]
  exact pk_andN (by omega) 1 (by decide)
/-- what the law calls worth: the sums below day j of the first m parts, st at the start of account 0 -/
def db_P (X : Nat → Nat) (st : Int) : Nat → Nat → Nat → Int
  | 0, a, j => if a = 0 ∧ 0 < j then st else 0
  | m + 1, a, j => db_P X st m a j + (if a = X m / 8 % 2 ∧ X m % 8 < j then db_z (X m) else 0)
theorem db_Pt {X : Nat → Nat} {st : Int} {m a j : Nat} (h : a = X m / 8 % 2 ∧ X m % 8 < j) : db_P X st (m + 1) a j = db_P X st m a j + db_z (X m) := by
  show db_P X st m a j + (if a = X m / 8 % 2 ∧ X m % 8 < j then db_z (X m) else 0) = _
  rw [if_pos h]
theorem db_Pf {X : Nat → Nat} {st : Int} {m a j : Nat} (h : ¬ (a = X m / 8 % 2 ∧ X m % 8 < j)) : db_P X st (m + 1) a j = db_P X st m a j := by
  show db_P X st m a j + (if a = X m / 8 % 2 ∧ X m % 8 < j then db_z (X m) else 0) = _
  rw [if_neg h, Int.add_zero]
theorem db_Pr (X : Nat → Nat) (st r : Int) (a j : Nat) : ∀ m, db_P X (st + r) m a j = db_P X st m a j + (if a = 0 ∧ 0 < j then r else 0) := by
  intro m
  induction m with
  | zero =>
    show (if a = 0 ∧ 0 < j then st + r else 0) = (if a = 0 ∧ 0 < j then st else 0) + (if a = 0 ∧ 0 < j then r else 0)
    by_cases h : a = 0 ∧ 0 < j
    · rw [if_pos h, if_pos h, if_pos h]
    · rw [if_neg h, if_neg h, if_neg h]
      rfl
  | succ m ih =>
    show db_P X (st + r) m a j + (if a = X m / 8 % 2 ∧ X m % 8 < j then db_z (X m) else 0) = db_P X st m a j + (if a = X m / 8 % 2 ∧ X m % 8 < j then db_z (X m) else 0) + (if a = 0 ∧ 0 < j then r else 0)
    rw [ih]
    omega
theorem db_P2 (X : Nat → Nat) (st : Int) {a : Nat} (j : Nat) (ha : 2 ≤ a) : ∀ m, db_P X st m a j = 0 := by
  intro m
  induction m with
  | zero => exact if_neg (fun g => absurd g.1 (by omega))
  | succ m ih =>
    rw [db_Pf (fun g => absurd g.1 (by omega))]
    exact ih
theorem db_P8 (X : Nat → Nat) (st : Int) (a : Nat) {j : Nat} (hj : 8 ≤ j) : ∀ m, db_P X st m a j = db_P X st m a 8 := by
  intro m
  induction m with
  | zero =>
    show (if a = 0 ∧ 0 < j then st else 0) = (if a = 0 ∧ 0 < 8 then st else 0)
    by_cases h : a = 0
    · rw [if_pos ⟨h, by omega⟩, if_pos ⟨h, by omega⟩]
    · rw [if_neg (fun g => h g.1), if_neg (fun g => h g.1)]
  | succ m ih =>
    by_cases h : a = X m / 8 % 2
    · rw [db_Pt ⟨h, by omega⟩, db_Pt ⟨h, by omega⟩, ih]
    · rw [db_Pf (fun g => h g.1), db_Pf (fun g => h g.1), ih]
/-- what the law's own check of soundness says -/
def db_s8 (P : Nat → Nat → Int) : Prop := ∀ a j, a < 2 → 0 < j → j ≤ 8 → 0 ≤ P a j
theorem db_s8s (X : Nat → Nat) (st : Int) (m : Nat) : db_s8 (db_P X st m) ↔ db_sd (db_P X st m) := by
  constructor
  · intro h a j ha hj hj'
    rcases Nat.lt_or_ge a 2 with z | z
    · rcases Nat.lt_or_ge j 8 with y | y
      · exact h a j z hj (by omega)
      · rw [db_P8 X st a y m]
        exact h a 8 z (by omega) (by omega)
    · rw [db_P2 X st j z m]
      exact Int.le_refl 0
  · intro h a j ha hj hj'
    exact h a j (by omega) hj (by omega)
section
variable {post : Int32 → Prop} {p q : Int32}
theorem db_w14 {st : Int} {acc day : Nat} (ha : acc < 4) (hd : day < 48) (H : post (db_i (db_P (db_X p q) st 6 acc (day + 1)))) :
    ∀ m i, i + m = 6 → wL_worth_14 post p q (nI acc) (nI day) 6 (m + 1) (db_i (db_P (db_X p q) st i acc (day + 1))) (nI i) := by
  intro m
  induction m with
  | zero =>
    intro i hi
    have e : i = 6 := by omega
    subst e
    exact pk_le 6 6 (fun _ => H) (fun z => absurd z (by omega))
  | succ m ih =>
    intro i hi
    refine pk_le 6 i (fun z => absurd z (by omega)) (fun _ => db_part (by omega) ?_)
    have hX := db_Xl p q i
    have t := ih (i + 1) (by omega)
    refine pk_le 6 i (fun z => absurd z (by omega)) (fun _ => ?_)
    rw [db_a7 hX, db_a1 hX]
    refine pk_lt day (db_X p q i % 8) (fun z => nm_r (nI_1 i) ?_) (fun z => pk_eq (db_X p q i / 8 % 2) acc (fun y => ?_) (fun y => nm_r (nI_1 i) ?_))
    · rw [db_Pf (fun g => absurd g.2 (by omega))] at t
      exact t
    · unfold wpL_amount
      rw [db_Pt ⟨y.symm, by omega⟩] at t
      exact nm_r (by rw [db_am hX, db_add]) (nm_r (nI_1 i) t)
    · rw [db_Pf (fun g => y g.1.symm)] at t
      exact t
theorem db_worth {st : Int} {x : Int32} {acc day : Nat} (hx : x = db_i st) (ha : acc < 4) (hd : day < 48) (H : post (db_i (db_P (db_X p q) st 6 acc (day + 1)))) :
    wpL_worth post () p q x (nI acc) (nI day) 6 := by
  have t := db_w14 ha hd H 6 0 rfl
  have e : db_P (db_X p q) st 0 acc (day + 1) = if acc = 0 ∧ 0 < day + 1 then st else 0 := rfl
  refine pk_eq acc 0 (fun z => ⟨7, ?_⟩) (fun z => ⟨7, ?_⟩)
  · rw [e, if_pos ⟨z, by omega⟩, ← hx] at t
    exact t
  · rw [e, if_neg (fun g => z g.1), ← db_0] at t
    exact t
end
end
section
section
variable {post : Int32 → St0 → Prop} {mc ms kc ks : Nat} {p q : Int32} {f1 f2 f3 f4 f5 f6 f7 : Int32} {a1 a2 a3 a4 a5 a6 a7 a8 a9 : Nat → Int32}
theorem db_491 {z0 z1 : Int32} (hp : post 1 ()) (hz : z1 = z0) (hf4 : f4 = 0) : wL_lawOf_491 post mc ms z0 z1 kc ks f1 f2 f3 f4 f5 f6 f7 a1 a2 a3 a4 a5 a6 a7 a8 a9 := by
  unfold wL_lawOf_491
  exact br_t hz (db_close0 hf4 (br_t rfl hp))
theorem db_467 {x7 x8 z0 z1 : Int32} {c : Nat} (hp : post 1 ()) (hz : z1 = z0) (hc : 0 < c) (hc' : c < 2 ^ 31) (hf4 : f4 = 0)
    (h : (¬ x7 = 0 ∧ ¬ x8 = 0 ∧ ¬ a4 0 = 0) ∨ ((x7 = 0 ∨ x8 = 0) ∧ a4 0 = 0)) : wL_lawOf_467 post mc ms x7 x8 z0 z1 kc ks (nI c) f2 f3 f4 f5 f6 f7 a1 a2 a3 a4 a5 a6 a7 a8 a9 := by
  unfold wL_lawOf_467
  refine br_t hz (db_cancelled hc hc' ?_)
  rcases h with ⟨h7, h8, h4⟩ | ⟨h78, h4⟩
  · exact br_f h4 (br_f h7 (br_f h8 (db_491 hp rfl hf4)))
  · have h490 : wL_lawOf_490 post mc ms 0 kc ks (nI c) f2 f3 f4 f5 f6 f7 a1 a2 a3 a4 a5 a6 a7 a8 a9 := by
      unfold wL_lawOf_490
      exact db_491 hp rfl hf4
    refine br_t h4 (br_c (fun _ => h490) (fun g => br_t ?_ h490))
    rcases h78 with y | y
    · exact absurd y g
    · exact y
theorem db_390 {P : Nat → Nat → Int} {x5 x6 x7 x8 : Int32} {c : Nat} (hp : post 1 ()) (hT : db_T P a6 a7) (hc : 0 < c) (hc' : c < 2 ^ 31) (hf4 : f4 = 0)
    (h : (¬ x7 = 0 ∧ ¬ x8 = 0 ∧ ¬ a4 0 = 0) ∨ ((x7 = 0 ∨ x8 = 0) ∧ a4 0 = 0)) (hcn : (x7 = 0 → c = 1) ∧ (¬ x7 = 0 → x6 = nI c))
    (hw0 : x7 = 0 → ∀ d, d < 8 → x5 = db_i (P 0 (d + 1)))
    (hw1 : ¬ x7 = 0 → ∀ d, d < 8 → ∀ ψ : Int32 → Prop, ψ (db_i (P 0 (d + 1))) → (x8 = 0 → wpL_worth ψ () p q x5 0 (nI d) 6) ∧ (¬ x8 = 0 → wpL_worth ψ () p q 0 0 (nI d) 6)) :
    ∀ (m d : Nat) (wc wl wa : Int32), d + m = 8 → wL_lawOf_390 post mc ms p q x5 x6 x7 x8 kc ks (m + 1) (nI d) (nI c) f2 f3 f4 wc wl wa a1 a2 a3 a4 a5 a6 a7 a8 a9 := by
  intro m
  induction m with
  | zero =>
    intro d wc wl wa hd
    refine pk_le 8 d (fun _ => ?_) (fun z => absurd z (by omega))
    unfold wpX_entries
    dsimp only
    exact br_c (fun g => db_467 hp (by rw [hcn.1 g]; rfl) hc hc' hf4 h) (fun g => db_467 hp (hcn.2 g).symm hc hc' hf4 h)
  | succ m ih =>
    intro d wc wl wa hd
    have key : ∀ z0, z0 = db_i (P 0 (d + 1)) → wL_lawOf_428 post mc ms (wL_lawOf_390 post mc ms p q x5 x6 x7 x8 kc ks (m + 1)) p q x5 x6 x7 x8 (nI d) z0 kc ks (nI c) f2 f3 f4 wc wl wa a1 a2 a3 a4 a5 a6 a7 a8 a9 := by
      intro z0 hz
      unfold wL_lawOf_428
      exact db_bal (acc := 0) hT (by omega) (by omega) (fun wl' wa' => br_t hz.symm (nm_r (nI_1 d) (ih (d + 1) _ _ _ (by omega))))
    refine pk_le 8 d (fun z => absurd z (by omega)) (fun z => br_c (fun g => key x5 (hw0 g d z)) (fun g => ?_))
    have t := hw1 g d z (fun r => wL_lawOf_428 post mc ms (wL_lawOf_390 post mc ms p q x5 x6 x7 x8 kc ks (m + 1)) p q x5 x6 x7 x8 (nI d) r kc ks (nI c) f2 f3 f4 wc wl wa a1 a2 a3 a4 a5 a6 a7 a8 a9) (key _ rfl)
    unfold wL_lawOf_415
    exact t
theorem db_365 {P : Nat → Nat → Int} {x5 x6 x7 x8 z0 z1 : Int32} {c : Nat} (hp : post 1 ()) (hz : z1 = z0) (h5 : ∀ j, a5 j = 0) (hT : db_T P a6 a7) (hsd : db_sd P) (hc : 0 < c) (hc' : c < 2 ^ 31) (hf4 : f4 = 0)
    (h : (¬ x7 = 0 ∧ ¬ x8 = 0 ∧ ¬ a4 0 = 0) ∨ ((x7 = 0 ∨ x8 = 0) ∧ a4 0 = 0)) (hcn : (x7 = 0 → c = 1) ∧ (¬ x7 = 0 → x6 = nI c))
    (hw0 : x7 = 0 → ∀ d, d < 8 → x5 = db_i (P 0 (d + 1)))
    (hw1 : ¬ x7 = 0 → ∀ d, d < 8 → ∀ ψ : Int32 → Prop, ψ (db_i (P 0 (d + 1))) → (x8 = 0 → wpL_worth ψ () p q x5 0 (nI d) 6) ∧ (¬ x8 = 0 → wpL_worth ψ () p q 0 0 (nI d) 6)) :
    wL_lawOf_365 post mc ms p q x5 x6 x7 x8 z0 z1 kc ks (nI c) f2 f3 f4 f5 f6 f7 a1 a2 a3 a4 a5 a6 a7 a8 a9 := by
  unfold wL_lawOf_365
  refine br_t hz ?_
  unfold wpX_isOpen
  dsimp only
  exact br_t hf4 (br_t rfl (db_sound hT h5 (fun _ wc wl wa => br_t rfl ⟨9, db_390 hp hT hc hc' hf4 h hcn hw0 hw1 8 0 wc wl wa rfl⟩) (fun g => absurd hsd g)))
/-- the object's arrays in the law's batch -/
def db_I (s r : Int) (E : List (Nat × Nat × Int)) (a1 a2 a3 a4 a5 a6 a7 a9 : Nat → Int32) : Prop :=
  db_E s a1 a2 a3 E ∧ (∀ j, 0 < j → a4 j = 0) ∧ (∀ j, a5 j = 0) ∧ db_T (db_Q s r E) a6 a7 ∧ (∀ j, a9 j = 0) ∧ E.length ≤ 50
/-- cancelled or not -/
def db_M (s r : Int) (lg : Nat) (x8 : Int32) (a4 : Nat → Int32) : Prop := (lg = 0 ∧ r = 0 ∧ x8 = 0 ∧ a4 0 = 0) ∨ (lg = 1 ∧ r = -s ∧ x8 = 1 ∧ a4 0 = 1)
theorem db_333 {s r : Int} {E : List (Nat × Nat × Int)} {lg : Nat} {x7 x8 z0 z1 : Int32} (hp : post 1 ()) (hz : z1 = z0) (hs : 1 ≤ s ∧ s ≤ 64) (hI : db_I s r E a1 a2 a3 a4 a5 a6 a7 a9) (hM : db_M s r lg x8 a4)
    (hPQ : db_Q s r E = db_P (db_X p q) (s + r) 6) (hx7 : x7 = 1 ∧ db_sd (db_Q s r E) ∨ x7 = 0 ∧ ¬ db_sd (db_Q s r E)) :
    wL_lawOf_333 post mc ms p q (db_i s) (nI (E.length + 1)) x7 x8 z0 z1 kc ks (nI (E.length + 1)) (nI lg) (nI 1) 1 f5 f6 f7 a1 a2 a3 a4 a5 a6 a7 a8 a9 := by
  obtain ⟨hE, h4, h5, hT, h9, hl⟩ := hI
  have hr : -64 ≤ r ∧ r ≤ 64 := by rcases hM with ⟨-, e, -⟩ | ⟨-, e, -⟩ <;> omega
  have hlg : lg = 0 ∧ r = 0 ∧ a4 0 = 0 ∨ lg = 1 ∧ r = -s := by
    rcases hM with ⟨e1, e2, -, e4⟩ | ⟨e1, e2, -, -⟩
    · exact Or.inl ⟨e1, e2, e4⟩
    · exact Or.inr ⟨e1, e2⟩
  unfold wL_lawOf_333
  refine br_t hz (db_floor (by decide) (br_t rfl (db_close ⟨by omega, hs.2⟩ hr h9 h5 hl hE h4 hlg hT (by decide) (fun g wc wl wa => ?_) (fun g wc wl wa b4 b6 b7 b8 hb4 hT0 => ?_))))
  · rcases hx7 with ⟨rfl, -⟩ | ⟨-, y⟩
    · refine br_f (by decide) (db_365 (P := db_Q s r E) hp rfl h5 hT g (by omega) (by omega) rfl ?_ ⟨fun y => absurd y (by decide), fun _ => rfl⟩ (fun y => absurd y (by decide)) (fun _ d hd ψ hψ => ?_))
      · rcases hM with ⟨-, -, e3, e4⟩ | ⟨-, -, e3, e4⟩
        · exact Or.inr ⟨Or.inr e3, e4⟩
        · exact Or.inl ⟨by decide, by rw [e3]; decide, by rw [e4]; decide⟩
      · rw [hPQ] at hψ
        rcases hM with ⟨-, e2, e3, -⟩ | ⟨-, e2, e3, -⟩
        · rw [e2, Int.add_zero] at hψ
          exact br_t e3 (db_worth (acc := 0) rfl (by omega) (by omega) hψ)
        · rw [e2, Int.add_right_neg] at hψ
          exact br_f (by rw [e3]; decide) (db_worth (acc := 0) db_0 (by omega) (by omega) hψ)
    · exact absurd g y
  · rcases hx7 with ⟨-, y⟩ | ⟨rfl, -⟩
    · exact absurd y g
    · have e : ∀ a j, db_Q s 0 [] a j = if a = 0 ∧ 0 < j then s else 0 := by
        intro a j
        show (if a = 0 ∧ 0 < j then s else 0) + (if a = 0 ∧ 0 < j then 0 else 0) = _
        by_cases y : a = 0 ∧ 0 < j
        · rw [if_pos y, if_pos y, Int.add_zero]
        · rw [if_neg y, if_neg y, Int.add_zero]
      refine br_t rfl (db_365 (P := db_Q s 0 []) hp rfl h5 hT0 (fun a j _ _ _ => ?_) (by omega) (by omega) rfl (Or.inr ⟨Or.inl rfl, hb4⟩) ⟨fun _ => rfl, fun y => absurd rfl y⟩ (fun _ d hd => ?_) (fun y => absurd rfl y))
      · rw [e]
        by_cases y : a = 0 ∧ 0 < j
        · rw [if_pos y]
          omega
        · rw [if_neg y]
          omega
      · rw [e, if_pos ⟨rfl, by omega⟩]
theorem db_318 {s r : Int} {E : List (Nat × Nat × Int)} {lg : Nat} {x7 x8 : Int32} (hp : post 1 ()) (hs : 1 ≤ s ∧ s ≤ 64) (hI : db_I s r E a1 a2 a3 a4 a5 a6 a7 a9) (hM : db_M s r lg x8 a4)
    (hPQ : db_Q s r E = db_P (db_X p q) (s + r) 6) (hx7 : x7 = 1 ∧ db_s8 (db_Q s r E) ∨ x7 = 0 ∧ ¬ db_s8 (db_Q s r E)) :
    wL_lawOf_318 post mc ms p q (db_i s) (nI (E.length + 1)) x7 x8 kc ks (nI (E.length + 1)) (nI lg) (nI 1) 1 f5 f6 f7 a1 a2 a3 a4 a5 a6 a7 a8 a9 := by
  have hx : x7 = 1 ∧ db_sd (db_Q s r E) ∨ x7 = 0 ∧ ¬ db_sd (db_Q s r E) := by
    rw [hPQ] at hx7 ⊢
    rw [db_s8s] at hx7
    exact hx7
  unfold wL_lawOf_318
  refine db_sound hI.2.2.2.1 hI.2.2.1 (fun g wc wl wa => ?_) (fun g wc wl wa => ?_)
  · have e : x7 = 1 := by
      rcases hx with ⟨y, -⟩ | ⟨-, y⟩
      · exact y
      · exact absurd g y
    exact br_f (by rw [e]; decide) (db_333 hp rfl hs hI hM hPQ hx)
  · have e : x7 = 0 := by
      rcases hx with ⟨-, y⟩ | ⟨y, -⟩
      · exact absurd y g
      · exact y
    exact br_t e (db_333 hp rfl hs hI hM hPQ hx)
theorem db_274 {s r : Int} {E : List (Nat × Nat × Int)} {lg : Nat} {x8 : Int32} (hp : post 1 ()) (hs : 1 ≤ s ∧ s ≤ 64) (hI : db_I s r E a1 a2 a3 a4 a5 a6 a7 a9) (hM : db_M s r lg x8 a4)
    (hr : r = -s) (hPQ : db_Q s r E = db_P (db_X p q) (s + r) 6) :
    ∀ (m d : Nat) (x7 : Int32), d + m = 8 → (x7 = 1 ∧ (∀ a j, a < 2 → 0 < j → j ≤ d → 0 ≤ db_Q s r E a j) ∨ x7 = 0 ∧ ¬ db_s8 (db_Q s r E)) →
      wL_lawOf_274 post mc ms p q (db_i s) (nI (E.length + 1)) x8 kc ks (nI (E.length + 1)) (nI lg) (nI 1) 1 f5 f6 f7 a1 a2 a3 a4 a5 a6 a7 a8 a9 (m + 1) x7 (nI d) := by
  intro m
  induction m with
  | zero =>
    intro d x7 hd hx
    refine pk_le 8 d (fun _ => db_318 hp hs hI hM hPQ ?_) (fun z => absurd z (by omega))
    have e : d = 8 := by omega
    subst e
    exact hx
  | succ m ih =>
    intro d x7 hd hx
    have hb := hI.2.2.2.1.1
    have b0 := hb.2 0 (d + 1)
    have b1 := hb.2 1 (d + 1)
    have hPQ' := hPQ
    rw [hr, Int.add_right_neg] at hPQ'
    have no : ∀ a, a < 2 → db_Q s r E a (d + 1) < 0 → ¬ db_s8 (db_Q s r E) := by
      intro a ha hn h8
      have := h8 a (d + 1) ha (by omega) (by omega)
      omega
    refine pk_le 8 d (fun z => absurd z (by omega)) (fun _ => db_worth (st := 0) (acc := 0) db_0 (by omega) (by omega) ?_)
    rw [← hPQ', ← hr]
    refine db_pLT (db_Q s r E 0 (d + 1)) 0 (fun z => nm_r (nI_1 d) (ih (d + 1) 0 (by omega) (Or.inr ⟨rfl, no 0 (by omega) z⟩))) (fun z => ?_) rfl db_0
    refine db_worth (st := 0) (acc := 1) db_0 (by omega) (by omega) ?_
    rw [← hPQ', ← hr]
    refine db_pLE 0 (db_Q s r E 1 (d + 1)) (fun y => nm_r (nI_1 d) (ih (d + 1) x7 (by omega) ?_)) (fun y => nm_r (nI_1 d) (ih (d + 1) 0 (by omega) (Or.inr ⟨rfl, no 1 (by omega) y⟩))) db_0 rfl
    rcases hx with ⟨e, hx⟩ | hx
    · refine Or.inl ⟨e, fun a j ha h1 h2 => ?_⟩
      rcases Nat.lt_or_ge j (d + 1) with w | w
      · exact hx a j ha h1 (by omega)
      · have ej : j = d + 1 := by omega
        subst ej
        have ea : a = 0 ∨ a = 1 := by omega
        rcases ea with ea | ea <;> subst ea
        · exact z
        · exact y
    · exact Or.inr hx
theorem db_243 {s : Int} {E : List (Nat × Nat × Int)} {x7 z0 : Int32} (hp : post 1 ()) (hs : 1 ≤ s ∧ s ≤ 64) (hI : db_I s 0 E a1 a2 a3 a4 a5 a6 a7 a9) (h40 : a4 0 = 0) (hz0 : z0 = 0 ∨ z0 = 1)
    (hPQ : db_Q s 0 E = db_P (db_X p q) s 6) (hx7 : x7 = 1 ∧ db_s8 (db_Q s 0 E) ∨ x7 = 0 ∧ ¬ db_s8 (db_Q s 0 E)) :
    wL_lawOf_243 post mc ms p q (db_i s) (nI (E.length + 1)) x7 z0 kc ks (nI (E.length + 1)) (nI 0) (nI 1) 1 f5 f6 f7 a1 a2 a3 a4 a5 a6 a7 a8 a9 := by
  unfold wL_lawOf_243
  rcases hz0 with rfl | rfl
  · refine br_t rfl ?_
    unfold wL_lawOf_263
    exact br_t rfl (db_318 hp hs hI (Or.inl ⟨rfl, rfl, rfl, h40⟩) (by rw [Int.add_zero]; exact hPQ) hx7)
  · refine br_f (by decide) ?_
    obtain ⟨hE, h4, h5, hT, h9, hl⟩ := hI
    have e0 : ∀ F : List (Nat × Nat × Int), db_E s a1 a2 a3 F → a1 0 = nI 0 ∧ a2 0 = nI 0 ∧ a3 0 = db_i s := by
      intro F
      induction F with
      | nil => exact fun h => h
      | cons e F ih => exact fun h => ih h.2
    obtain ⟨e1, e2, e3⟩ := e0 E hE
    refine db_cancel (Q := db_Q s (-s) E) (by omega) (by omega) (by omega) e1 e2 e3 h40 (by decide) hT (fun a j => ?_) (db_QB ⟨by omega, by omega⟩ ⟨by omega, by omega⟩ hE hl) (fun b6 b7 b8 hT' => br_t rfl ?_)
    · show db_S s a j E + (if a = 0 ∧ 0 < j then -s else 0) = db_S s a j E + (if a = 0 ∧ 0 < j then 0 else 0) + (if a = 0 ∧ 0 < j then -s else 0)
      by_cases g : a = 0 ∧ 0 < j
      · rw [if_pos g, if_pos g, Int.add_zero]
      · rw [if_neg g, if_neg g, Int.add_zero, Int.add_zero]
    · unfold wL_lawOf_263
      refine br_f (by decide) ⟨9, db_274 hp hs (r := -s) (lg := 1) ⟨hE, fun j hj => ?_, h5, hT', fun j => ?_, hl⟩ (Or.inr ⟨rfl, rfl, rfl, pk_us⟩) rfl ?_ 8 0 1 rfl (Or.inl ⟨rfl, fun a j _ h1 h2 => absurd h2 (by omega)⟩)⟩
      · rw [pk_un (by omega)]
        exact h4 j hj
      · by_cases g : j = 0
        · rw [g, pk_us]
        · rw [pk_un g]
          exact h9 j
      · funext a j
        rw [db_Pr, ← hPQ]
        show db_S s a j E + (if a = 0 ∧ 0 < j then -s else 0) = db_S s a j E + (if a = 0 ∧ 0 < j then 0 else 0) + (if a = 0 ∧ 0 < j then -s else 0)
        by_cases g : a = 0 ∧ 0 < j
        · rw [if_pos g, if_pos g, Int.add_zero]
        · rw [if_neg g, if_neg g, Int.add_zero, Int.add_zero]
theorem db_145 {J : Int32 → Int32 → Int32 → Int32 → Int32 → Int32 → Int32 → Int32 → Int32 → (Nat → Int32) → (Nat → Int32) → (Nat → Int32) → (Nat → Int32) → (Nat → Int32) → (Nat → Int32) → (Nat → Int32) → (Nat → Int32) → (Nat → Int32) → Prop}
    {P : Nat → Nat → Int} {s : Int} {x3 x6 x7 : Int32} {a : Nat} (hT : db_T P a6 a7) (hP : P = db_P (db_X p q) s 6) (ha : a < 2)
    (hJ1 : ∀ v wc wl wa, db_m (P a) 0 8 v → 0 ≤ v → J x7 (nI (a + 1)) f1 f2 f3 f4 wc wl wa a1 a2 a3 a4 a5 a6 a7 a8 a9) (hJ0 : ∀ v wc wl wa, db_m (P a) 0 8 v → v < 0 → J 0 (nI (a + 1)) f1 f2 f3 f4 wc wl wa a1 a2 a3 a4 a5 a6 a7 a8 a9) :
    ∀ (m d : Nat) (v : Int) (wc wl wa : Int32), d + m = 8 → (d = 0 ∧ v = 100000 ∨ db_m (P a) 0 d v) →
      wL_lawOf_145 post mc ms J p q x3 (db_i s) x6 x7 (nI a) kc ks (m + 1) (db_i v) (nI d) f1 f2 f3 f4 wc wl wa a1 a2 a3 a4 a5 a6 a7 a8 a9 := by
  intro m
  induction m with
  | zero =>
    intro d v wc wl wa hd hv
    have e : d = 8 := by omega
    subst e
    refine pk_le 8 8 (fun _ => db_lowest hT (by omega) (fun v' wc' wl' wa' hv' => ?_)) (fun z => absurd z (by omega))
    have hv2 : db_m (P a) 0 8 v := by
      rcases hv with y | y
      · exact absurd y.1 (by omega)
      · exact y
    have ev : v' = v := db_mu hv' hv2
    subst ev
    have bv := db_mb hT.1 hv2
    exact br_t rfl (db_pLE 0 v' (fun z => nm_r (nI_1 a) (hJ1 v' _ _ _ hv2 z)) (fun z => nm_r (nI_1 a) (hJ0 v' _ _ _ hv2 z)) db_0 rfl)
  | succ m ih =>
    intro d v wc wl wa hd hv
    refine pk_le 8 d (fun z => absurd z (by omega)) (fun _ => db_worth rfl (by omega) (by omega) ?_)
    rw [← hP]
    have bw := hT.1.2 a (d + 1)
    have key : ∀ (x9 : Int32) (v' : Int), x9 = db_i v' → db_m (P a) 0 (d + 1) v' →
        wL_lawOf_178 post mc ms J (wL_lawOf_145 post mc ms J p q x3 (db_i s) x6 x7 (nI a) kc ks (m + 1)) p q x3 (db_i s) x6 x7 (nI a) x9 (nI d) (db_i (P a (d + 1))) kc ks f1 f2 f3 f4 wc wl wa a1 a2 a3 a4 a5 a6 a7 a8 a9 := by
      intro x9 v' hx hv'
      subst hx
      unfold wL_lawOf_178
      exact db_bal hT (by omega) (by omega) (fun wl' wa' => br_t rfl (nm_r (nI_1 d) (ih (d + 1) v' _ _ _ (by omega) (Or.inr hv'))))
    have m1 : db_m (P a) (0 + d) 1 (P a (d + 1)) := by
      rw [Nat.zero_add]
      exact db_m1 (P a) d
    have bv : -50000 ≤ v ∧ v ≤ 100000 := by
      rcases hv with y | y
      · omega
      · have := db_mb hT.1 y
        omega
    refine db_pLE v (P a (d + 1)) (fun z => key _ v rfl ?_) (fun z => key _ _ rfl ?_) rfl rfl
    · rcases hv with y | y
      · omega
      · exact db_mR y m1 z
    · rcases hv with y | y
      · rw [y.1] at m1 ⊢
        exact m1
      · exact db_mL y m1 (by omega)
theorem db_132 {s : Int} {E : List (Nat × Nat × Int)} {x3 : Int32} (hp : post 1 ()) (hs : 1 ≤ s ∧ s ≤ 64) (hI : db_I s 0 E a1 a2 a3 a4 a5 a6 a7 a9) (h40 : a4 0 = 0) (hPQ : db_Q s 0 E = db_P (db_X p q) s 6) :
    ∀ (m a : Nat) (x7 wc wl wa : Int32), a + m = 2 → (x7 = 1 ∧ (∀ b j, b < a → 0 < j → j ≤ 8 → 0 ≤ db_Q s 0 E b j) ∨ x7 = 0 ∧ ¬ db_s8 (db_Q s 0 E)) →
      wL_lawOf_132 post mc ms p q x3 (db_i s) (nI (E.length + 1)) kc ks (m + 1) x7 (nI a) (nI (E.length + 1)) (nI 0) (nI 1) 1 wc wl wa a1 a2 a3 a4 a5 a6 a7 a8 a9 := by
  intro m
  induction m with
  | zero =>
    intro a x7 wc wl wa ha hx
    have e : a = 2 := by omega
    subst e
    exact pk_le 2 2 (fun _ => br_c (fun _ => db_243 hp hs hI h40 (Or.inr rfl) hPQ hx) (fun _ => db_243 hp hs hI h40 (Or.inl rfl) hPQ hx)) (fun z => absurd z (by omega))
  | succ m ih =>
    intro a x7 wc wl wa ha hx
    have e100 : (100000 : Int32) = db_i 100000 := by decide
    refine pk_le 2 a (fun z => absurd z (by omega)) (fun z => ⟨9, ?_⟩)
    rw [e100]
    refine db_145 hI.2.2.2.1 hPQ z (fun v wc' wl' wa' hv h0 => ih (a + 1) x7 wc' wl' wa' (by omega) ?_) (fun v wc' wl' wa' hv h0 => ih (a + 1) 0 wc' wl' wa' (by omega) (Or.inr ⟨rfl, fun h8 => ?_⟩)) 8 0 100000 wc wl wa rfl (Or.inl ⟨rfl, rfl⟩)
    · rcases hx with ⟨e, hx⟩ | hx
      · refine Or.inl ⟨e, fun b j hb h1 h2 => ?_⟩
        by_cases g : b = a
        · rw [g]
          exact Int.le_trans h0 (hv.1 j h1 (by omega))
        · exact hx b j (by omega) h1 h2
      · exact Or.inr hx
    · obtain ⟨-, j, j1, j2, j3⟩ := hv
      have := h8 a j z j1 (by omega)
      omega
end
end
section
section
variable {post : Int32 → St0 → Prop} {mc ms kc ks : Nat} {p q : Int32} {f1 f2 f3 f4 f5 f6 f7 : Int32} {a5 a9 : Nat → Int32}
theorem db_107 {J : Int32 → Int32 → Int32 → Int32 → Int32 → Int32 → Int32 → Int32 → Int32 → (Nat → Int32) → (Nat → Int32) → (Nat → Int32) → (Nat → Int32) → (Nat → Int32) → (Nat → Int32) → (Nat → Int32) → (Nat → Int32) → (Nat → Int32) → Prop}
    {x3 x5 x9 z0 z1 : Int32} {n i : Nat} {a1 a2 a3 a4 a6 a7 a8 : Nat → Int32} (hz : z1 = z0) (h0 : x9 = 0 → J (nI n) (nI (i + 1)) f1 f2 f3 f4 f5 f6 f7 a1 a2 a3 a4 a5 a6 a7 a8 a9) (h1 : ¬ x9 = 0 → J (nI (n + 1)) (nI (i + 1)) f1 f2 f3 f4 f5 f6 f7 a1 a2 a3 a4 a5 a6 a7 a8 a9) :
    wL_lawOf_107 post mc ms J p q x3 x5 (nI n) (nI i) x9 z0 z1 kc ks f1 f2 f3 f4 f5 f6 f7 a1 a2 a3 a4 a5 a6 a7 a8 a9 := by
  unfold wL_lawOf_107
  exact br_t hz (br_c (fun g => nm_r (nI_1 i) (h0 g)) (fun g => nm_r (nI_1 n) (nm_r (nI_1 i) (h1 g))))
theorem db_54 {s : Int} {x3 : Int32} (hp : post 1 ()) (hs : 1 ≤ s ∧ s ≤ 64) :
    ∀ (m i : Nat) (E : List (Nat × Nat × Int)) (f5 f6 f7 : Int32) (a1 a2 a3 a4 a6 a7 a8 : Nat → Int32), i + m = 6 → E.length ≤ i → db_I s 0 E a1 a2 a3 a4 a5 a6 a7 a9 → a4 0 = 0 → db_Q s 0 E = db_P (db_X p q) s i →
      wL_lawOf_54 post mc ms p q x3 (db_i s) kc ks (m + 1) (nI (E.length + 1)) (nI i) (nI (E.length + 1)) (nI 0) (nI 1) 1 f5 f6 f7 a1 a2 a3 a4 a5 a6 a7 a8 a9 := by
  intro m
  induction m with
  | zero =>
    intro i E f5 f6 f7 a1 a2 a3 a4 a6 a7 a8 hi hl hI h40 hPQ
    have e : i = 6 := by omega
    subst e
    exact pk_le 6 6 (fun _ => ⟨3, db_132 hp hs hI h40 hPQ 2 0 1 f5 f6 f7 rfl (Or.inl ⟨rfl, fun b j hb => absurd hb (by omega)⟩)⟩) (fun z => absurd z (by omega))
  | succ m ih =>
    intro i E f5 f6 f7 a1 a2 a3 a4 a6 a7 a8 hi hl hI h40 hPQ
    have hX := db_Xl p q i
    have hz := db_zb (db_X p q i)
    refine pk_le 6 i (fun z => absurd z (by omega)) (fun _ => db_part (by omega) ?_)
    unfold wpL_amount
    rw [db_am hX, db_a7 hX, db_a1 hX]
    by_cases h0 : db_z (db_X p q i) = 0
    · have e0 : db_i (db_z (db_X p q i)) = 0 := by rw [h0, ← db_0]
      have t := ih (i + 1) E f5 f6 f7 a1 a2 a3 a4 a6 a7 a8 (by omega) (by omega) hI h40 (by
        funext a j
        rw [hPQ]
        show _ = db_P (db_X p q) s i a j + (if a = db_X p q i / 8 % 2 ∧ db_X p q i % 8 < j then db_z (db_X p q i) else 0)
        rw [h0]
        by_cases g : a = db_X p q i / 8 % 2 ∧ db_X p q i % 8 < j
        · rw [if_pos g, Int.add_zero]
        · rw [if_neg g, Int.add_zero])
      rw [h0]
      exact db_post0 (by omega) (by omega) (br_t db_0.symm (db_107 rfl (fun _ => t) (fun g => absurd db_0.symm g)))
    · have e0 : ¬ db_i (db_z (db_X p q i)) = 0 := by
        rw [db_0, db_eqI (by omega) (by omega) (by omega) (by omega)]
        exact h0
      obtain ⟨hE, h4, h5, hT, h9, hl50⟩ := hI
      have hE' : db_E s (upd a1 (E.length + 1) (nI (db_X p q i / 8 % 2))) (upd a2 (E.length + 1) (nI (db_X p q i % 8))) (upd a3 (E.length + 1) (db_i (db_z (db_X p q i)))) ((db_X p q i / 8 % 2, db_X p q i % 8, db_z (db_X p q i)) :: E) :=
        ⟨⟨pk_us, pk_us, pk_us, by show db_X p q i / 8 % 2 < 4; omega, by show db_X p q i % 8 < 48; omega, by show -64 ≤ db_z (db_X p q i); omega, by show db_z (db_X p q i) ≤ 64; omega⟩, db_Eu E (by omega) hE⟩
      have hl' : ((db_X p q i / 8 % 2, db_X p q i % 8, db_z (db_X p q i)) :: E).length ≤ 50 := by
        show E.length + 1 ≤ 50
        omega
      have hPQ' : db_Q s 0 ((db_X p q i / 8 % 2, db_X p q i % 8, db_z (db_X p q i)) :: E) = db_P (db_X p q) s (i + 1) := by
        funext a j
        show db_S s a j E + (if a = db_X p q i / 8 % 2 ∧ db_X p q i % 8 < j then db_z (db_X p q i) else 0) + (if a = 0 ∧ 0 < j then 0 else 0) = db_P (db_X p q) s i a j + (if a = db_X p q i / 8 % 2 ∧ db_X p q i % 8 < j then db_z (db_X p q i) else 0)
        rw [← hPQ]
        show _ = db_S s a j E + (if a = 0 ∧ 0 < j then 0 else 0) + _
        omega
      refine db_post (Q := db_Q s 0 ((db_X p q i / 8 % 2, db_X p q i % 8, db_z (db_X p q i)) :: E)) (by omega) hT (by omega) (by omega) h0 (by omega) (by omega) (fun g => absurd g (by decide)) (fun a j => ?_) (db_QB ⟨by omega, by omega⟩ ⟨by omega, by omega⟩ hE' hl') (fun b6 b7 b8 hT' => br_f e0 (db_107 rfl (fun g => absurd g e0) (fun _ => ?_)))
      · show db_S s a j E + (if a = db_X p q i / 8 % 2 ∧ db_X p q i % 8 < j then db_z (db_X p q i) else 0) + (if a = 0 ∧ 0 < j then 0 else 0) = db_S s a j E + (if a = 0 ∧ 0 < j then 0 else 0) + (if a = db_X p q i / 8 % 2 ∧ db_X p q i % 8 < j then db_z (db_X p q i) else 0)
        omega
      · refine ih (i + 1) ((db_X p q i / 8 % 2, db_X p q i % 8, db_z (db_X p q i)) :: E) f5 f6 f7 _ _ _ _ b6 b7 b8 (by omega) (show E.length + 1 ≤ i + 1 by omega) ⟨hE', fun j hj => ?_, h5, hT', h9, hl'⟩ ?_ hPQ'
        · by_cases g : j = E.length + 1
          · rw [g, pk_us]
          · rw [pk_un g]
            exact h4 j hj
        · rw [pk_un (show 0 ≠ E.length + 1 by omega)]
          exact h40
end
theorem db_T0 : db_T (fun _ _ => 0) (fun _ => 0) (fun _ => 0) := by
  refine ⟨⟨fun _ => rfl, fun _ _ => ⟨show (-50000 : Int) ≤ 0 by decide, show (0 : Int) ≤ 50000 by decide⟩⟩, fun a h k _ _ _ => ⟨db_0, 0, ⟨fun _ _ _ => Int.le_refl 0, k * 2 ^ h + 1, by omega, ?_, rfl⟩, db_0⟩⟩
  have := Nat.two_pow_pos h
  omega
theorem db_lawOf {post : Int32 → St0 → Prop} (hp : post 1 ()) (p q p2 p3 : Int32) : wpL_lawOf post 926 14816 () p q p2 p3 := by
  obtain ⟨k, hk, ek⟩ := pk_andE p2 (m := 63) 6 (by decide)
  have es : (1 : Int32) + (p2 &&& 63) = db_i ((1 + k : Nat) : Int) := by
    rw [ek, ← db_nI]
    exact nI_add 1 k
  have hs : 1 ≤ ((1 + k : Nat) : Int) ∧ ((1 + k : Nat) : Int) ≤ 64 := by omega
  generalize ((1 + k : Nat) : Int) = s at es hs
  unfold wpL_lawOf
  refine ⟨by omega, by omega, 100, 2000, by omega, by omega, ?_⟩
  refine ⟨by omega, by omega, by omega, by omega, by omega, by omega, by omega, by omega, by omega, by omega, by omega, by omega, by omega, by omega, by omega, by omega, by omega, by omega, ?_⟩
  refine nm_r es ?_
  have hE : db_E s (upd (fun _ => 0) 0 (nI 0)) (upd (fun _ => 0) 0 (nI 0)) (upd (fun _ => 0) 0 (db_i s)) [] := ⟨pk_us, pk_us, pk_us⟩
  refine db_post (c := 0) (acc := 0) (day := 0) (Q := db_Q s 0 []) (by omega) db_T0 (by omega) (by omega) (by omega) (by omega) (by omega) (fun _ => by omega) (fun a j => ?_) (db_QB ⟨by omega, by omega⟩ ⟨by omega, by omega⟩ hE (by decide)) (fun b6 b7 b8 hT' => br_t rfl (br_t rfl (br_t rfl (br_f (by decide) (br_t rfl ⟨7, ?_⟩)))))
  · show (if a = 0 ∧ 0 < j then s else 0) + (if a = 0 ∧ 0 < j then 0 else 0) = 0 + (if a = 0 ∧ 0 < j then s else 0)
    by_cases g : a = 0 ∧ 0 < j
    · rw [if_pos g, if_pos g, Int.add_zero, Int.zero_add]
    · rw [if_neg g, if_neg g]
  · refine db_54 hp hs 6 0 [] 0 0 0 _ _ _ _ b6 b7 _ rfl (Nat.le_refl 0) ⟨hE, fun j hj => ?_, fun _ => rfl, hT', fun _ => rfl, by decide⟩ pk_us ?_
    · rw [pk_un (by omega)]
    · funext a j
      show (if a = 0 ∧ 0 < j then s else 0) + (if a = 0 ∧ 0 < j then 0 else 0) = (if a = 0 ∧ 0 < j then s else 0)
      by_cases g : a = 0 ∧ 0 < j
      · rw [if_pos g, if_pos g, Int.add_zero]
      · rw [if_neg g, if_neg g, Int.add_zero]
theorem db_cell {post : Int32 → Prop} {L : Nat} {xs : Nat → Int32} {k : Nat} (hL : L ≤ 4) (hk : k < 4) (H : ∀ r, post r) : wpL_cellAt post L xs () (nI k) :=
  pk_le L k (fun _ => H 0) (fun z => ⟨pk_in k L z, H _⟩)
end
section
theorem i_vc (xs : Nat → Int32) (L : Nat) (hL : L ≤ 4) : wpL_law (fun r => r = 1) L xs :=
  db_cell (k := 0) hL (by omega) (fun r1 => db_cell (k := 1) hL (by omega) (fun r2 => db_cell (k := 2) hL (by omega) (fun r3 => db_cell (k := 3) hL (by omega) (fun r4 =>
    ⟨926, 14816, by omega, by omega, db_lawOf rfl r1 r2 r3 r4⟩))))
end
