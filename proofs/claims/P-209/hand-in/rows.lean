section
/-! rows pasted from kit/rows (starting texts) -/
theorem pk_us {f : Nat → Int32} {k : Nat} {x : Int32} : upd f k x k = x := if_pos rfl
theorem pk_un {f : Nat → Int32} {k j : Nat} {x : Int32} (h : j ≠ k) : upd f k x j = f j := if_neg h
theorem pk_uLs {f : Nat → Int64} {k : Nat} {x : Int64} : vp_updL f k x k = x := if_pos rfl
theorem pk_uLn {f : Nat → Int64} {k j : Nat} {x : Int64} (h : j ≠ k) : vp_updL f k x j = f j := if_neg h
theorem pk_sub {a b : Nat} (h : b ≤ a) : nI a - nI b = nI (a - b) := by
  obtain ⟨c, rfl⟩ : ∃ c, a = c + b := ⟨a - b, by omega⟩
  rw [← nI_add, Int32.add_sub_cancel, Nat.add_sub_cancel]
theorem pk_m1 (n : Nat) : nI (n + 1) + (-1) = nI n := by
  rw [← nI_1, Int32.add_assoc, show (1 : Int32) + (-1) = 0 from rfl, Int32.add_zero]
theorem pk_ix (x : Int32) {n : Nat} (hn : n < 2 ^ 31) : x < 0 ∨ nI n ≤ x ∨ ∃ j : Nat, j < n ∧ x = nI j := by
  by_cases h : x < 0
  · exact Or.inl h
  · obtain ⟨j, hj, rfl⟩ := nI_of h
    by_cases h2 : j < n
    · exact Or.inr (Or.inr ⟨j, h2, rfl⟩)
    · exact Or.inr (Or.inl (nI_le (by omega) hj))
theorem pk_tn {n : Nat} (h : n < 2 ^ 32) : (nI n).toBitVec.toNat = n := Nat.mod_eq_of_lt h
theorem pk_and (x : Int32) {m : Int32} (k : Nat) (hm : m.toBitVec.toNat = 2 ^ k - 1) : x &&& m = nI (x.toBitVec.toNat % 2 ^ k) := by
  apply Int32.toBitVec_inj.mp
  apply BitVec.eq_of_toNat_eq
  rw [Int32.toBitVec_and, BitVec.toNat_and, hm, Nat.and_two_pow_sub_one_eq_mod]
  show _ = (BitVec.ofNat 32 _).toNat
  rw [BitVec.toNat_ofNat]
  exact (Nat.mod_eq_of_lt (Nat.lt_of_le_of_lt (Nat.mod_le _ _) x.toBitVec.isLt)).symm
theorem pk_andN {n : Nat} (h : n < 2 ^ 32) {m : Int32} (k : Nat) (hm : m.toBitVec.toNat = 2 ^ k - 1) : nI n &&& m = nI (n % 2 ^ k) := by
  rw [pk_and _ k hm, pk_tn h]
theorem pk_charN {q : Nat} (hq : q < 65536) : narrow .char (.int (nI q)) = .int (nI q) ∧ fits .char (.int (nI q)) = true := by
  constructor
  · have e : (nI q).toUInt32.toUInt16.toUInt32.toInt32 = nI q := by
      apply Int32.toBitVec_inj.mp
      apply BitVec.eq_of_toNat_eq
      show (nI q).toUInt32.toUInt16.toUInt32.toNat = q % 2 ^ 32
      rw [UInt16.toNat_toUInt32, UInt32.toNat_toUInt16, show (nI q).toUInt32.toNat = q % 2 ^ 32 from rfl]
      omega
    exact congrArg Value.int e
  · have a : (0 : Int32) ≤ nI q := nI_pos' (by omega)
    have b : nI q ≤ 65535 := nI_le (b := 65535) (by omega) (by decide)
    show (decide ((0 : Int32) ≤ nI q) && decide (nI q ≤ 65535)) = true
    rw [decide_eq_true a, decide_eq_true b]
    rfl
theorem pk_char (x : Int32) : (x.toUInt32 % 65536).toInt32 = nI (x.toBitVec.toNat % 65536) := by
  apply Int32.toBitVec_inj.mp
  apply BitVec.eq_of_toNat_eq
  rw [pk_tn (by omega)]
  show (x.toUInt32 % 65536).toNat = _
  rw [UInt32.toNat_mod]
  rfl
theorem pk_nc (x : Int32) : narrow .char (.int (x.toUInt32 % 65536).toInt32) = .int (x.toUInt32 % 65536).toInt32 := by
  rw [pk_char]
  exact (pk_charN (Nat.mod_lt _ (by decide))).1
theorem pk_vb (z : Int32) : vp_nar .byte z.toInt8.toInt32 = z.toInt8.toInt32 := by rw [vp_nar_byte]; simp
theorem pk_vs (z : Int32) : vp_nar .short z.toInt16.toInt32 = z.toInt16.toInt32 := by rw [vp_nar_short]; simp
theorem pk_vc (z : Int32) : vp_nar .char (z.toUInt32 % 65536).toInt32 = (z.toUInt32 % 65536).toInt32 := Value.int.inj (pk_nc z)
theorem pk_least (P : Nat → Prop) (h : ∃ k, P k) : ∃ k, P k ∧ ∀ j, j < k → ¬ P j := by
  obtain ⟨k, hk⟩ := h
  induction k using Nat.strongRecOn with
  | ind k ih =>
    by_cases e : ∃ j, j < k ∧ P j
    · obtain ⟨j, hj, pj⟩ := e
      exact ih j hj pj
    · exact ⟨k, hk, fun j hj pj => e ⟨j, hj, pj⟩⟩
theorem bp_b (x : Int32) : x.toInt8.toInt32 &&& 255 = x &&& 255 := by
  apply Int32.toBitVec_inj.mp
  rw [Int32.toBitVec_and, Int32.toBitVec_and, Int8.toBitVec_toInt32, Int32.toBitVec_toInt8]
  apply BitVec.eq_of_getLsbD_eq
  intro i hi
  rw [BitVec.getLsbD_and, BitVec.getLsbD_and]
  have hm : ∀ i < 32, 8 ≤ i → (255 : Int32).toBitVec.getLsbD i = false := by decide
  rcases Nat.lt_or_ge i 8 with z | z
  · rw [BitVec.getLsbD_signExtend, BitVec.getLsbD_signExtend, if_pos z, if_pos hi]
    simp only [z, hi, decide_true, Bool.true_and]
  · rw [hm i hi z]; simp
theorem wb_tb (n : Nat) : (lN n).toBitVec = BitVec.ofNat 64 n := rfl
theorem wb_inj {a b : Int64} (h : a.toBitVec = b.toBitVec) : a = b := Int64.toBitVec_inj.mp h
theorem wb_tn {n : Nat} (h : n < 2 ^ 64) : (lN n).toBitVec.toNat = n := by rw [wb_tb, BitVec.toNat_ofNat, Nat.mod_eq_of_lt h]
theorem wb_of (x : Int64) : ∃ n, n < 2 ^ 64 ∧ x = lN n := ⟨x.toBitVec.toNat, x.toBitVec.isLt, wb_inj (by rw [wb_tb]; simp)⟩
theorem wb_lt2 {a b : Nat} (h : a < b) : 2 ^ a < 2 ^ b := Nat.pow_lt_pow_right (by decide) h
theorem wb_and {a b : Nat} (ha : a < 2 ^ 64) (hb : b < 2 ^ 64) : lN a &&& lN b = lN (a &&& b) := by
  apply wb_inj
  rw [Int64.toBitVec_and, wb_tb, wb_tb, wb_tb]
  apply BitVec.eq_of_toNat_eq
  rw [BitVec.toNat_and, BitVec.toNat_ofNat, BitVec.toNat_ofNat, BitVec.toNat_ofNat, Nat.mod_eq_of_lt ha, Nat.mod_eq_of_lt hb, Nat.mod_eq_of_lt (Nat.and_lt_two_pow _ hb)]
theorem wb_mask {n k : Nat} (hn : n < 2 ^ 64) (hk : k < 64) : lN n &&& lN (2 ^ k - 1) = lN (n % 2 ^ k) := by
  rw [wb_and hn (by have := wb_lt2 hk; omega), Nat.and_two_pow_sub_one_eq_mod]
end
section
/-! the pure picture: kinds, sizes, offsets, growth -/
def bl_kind (o : Int32) : Int32 :=
  if o = 0 then 1 else if o = 21 then 2 else if o = 54 then 2 else if o = 132 then 3 else if o = 167 then 5
  else if o = 168 then 5 else if o = 169 then 2 else if o = 170 then 6 else if o = 171 then 7 else if o = 198 then 4
  else if o = 199 then 4 else if o < 153 then 0 else if 166 < o then 0 else 4
theorem bl_kc {P : Int32 → Prop} {o : Int32} (a0 : o = 0 → P 1) (a21 : o = 21 → P 2) (a54 : o = 54 → P 2) (a132 : o = 132 → P 3) (a167 : o = 167 → P 5) (a168 : o = 168 → P 5) (a169 : o = 169 → P 2) (a170 : o = 170 → P 6) (a171 : o = 171 → P 7) (a198 : o = 198 → P 4) (a199 : o = 199 → P 4) (al : o < 153 ∨ 166 < o → P 0) (am : ¬ o < 153 → o ≤ 166 → P 4) : P (bl_kind o) := by
  unfold bl_kind
  by_cases c0 : o = 0
  · rw [if_pos c0]; exact a0 c0
  rw [if_neg c0]
  by_cases c21 : o = 21
  · rw [if_pos c21]; exact a21 c21
  rw [if_neg c21]
  by_cases c54 : o = 54
  · rw [if_pos c54]; exact a54 c54
  rw [if_neg c54]
  by_cases c132 : o = 132
  · rw [if_pos c132]; exact a132 c132
  rw [if_neg c132]
  by_cases c167 : o = 167
  · rw [if_pos c167]; exact a167 c167
  rw [if_neg c167]
  by_cases c168 : o = 168
  · rw [if_pos c168]; exact a168 c168
  rw [if_neg c168]
  by_cases c169 : o = 169
  · rw [if_pos c169]; exact a169 c169
  rw [if_neg c169]
  by_cases c170 : o = 170
  · rw [if_pos c170]; exact a170 c170
  rw [if_neg c170]
  by_cases c171 : o = 171
  · rw [if_pos c171]; exact a171 c171
  rw [if_neg c171]
  by_cases c198 : o = 198
  · rw [if_pos c198]; exact a198 c198
  rw [if_neg c198]
  by_cases c199 : o = 199
  · rw [if_pos c199]; exact a199 c199
  rw [if_neg c199]
  by_cases cl : o < 153
  · rw [if_pos cl]; exact al (Or.inl cl)
  rw [if_neg cl]
  by_cases ch : 166 < o
  · rw [if_pos ch]; exact al (Or.inr ch)
  rw [if_neg ch]
  exact am cl (Int32.not_lt.mp ch)
theorem bl_kr (o : Int32) : bl_kind o = 0 ∨ bl_kind o = 1 ∨ bl_kind o = 2 ∨ bl_kind o = 3 ∨ bl_kind o = 4 ∨ bl_kind o = 5 ∨ bl_kind o = 6 ∨ bl_kind o = 7 :=
  bl_kc (P := fun k => k = 0 ∨ k = 1 ∨ k = 2 ∨ k = 3 ∨ k = 4 ∨ k = 5 ∨ k = 6 ∨ k = 7) (fun _ => Or.inr (Or.inl rfl)) (fun _ => Or.inr (Or.inr (Or.inl rfl))) (fun _ => Or.inr (Or.inr (Or.inl rfl))) (fun _ => Or.inr (Or.inr (Or.inr (Or.inl rfl)))) (fun _ => Or.inr (Or.inr (Or.inr (Or.inr (Or.inr (Or.inl rfl)))))) (fun _ => Or.inr (Or.inr (Or.inr (Or.inr (Or.inr (Or.inl rfl)))))) (fun _ => Or.inr (Or.inr (Or.inl rfl))) (fun _ => Or.inr (Or.inr (Or.inr (Or.inr (Or.inr (Or.inr (Or.inl rfl))))))) (fun _ => Or.inr (Or.inr (Or.inr (Or.inr (Or.inr (Or.inr (Or.inr (rfl)))))))) (fun _ => Or.inr (Or.inr (Or.inr (Or.inr (Or.inl rfl))))) (fun _ => Or.inr (Or.inr (Or.inr (Or.inr (Or.inl rfl))))) (fun _ => Or.inl rfl) (fun _ _ => Or.inr (Or.inr (Or.inr (Or.inr (Or.inl rfl)))))
theorem bl_k1 {o : Int32} : bl_kind o = 1 ↔ o = 0 := by
  refine ⟨bl_kc (P := fun k => k = 1 → o = 0) (fun e _ => e) (fun _ z => absurd z (by decide)) (fun _ z => absurd z (by decide)) (fun _ z => absurd z (by decide)) (fun _ z => absurd z (by decide)) (fun _ z => absurd z (by decide)) (fun _ z => absurd z (by decide)) (fun _ z => absurd z (by decide)) (fun _ z => absurd z (by decide)) (fun _ z => absurd z (by decide)) (fun _ z => absurd z (by decide)) (fun _ z => absurd z (by decide)) (fun _ _ z => absurd z (by decide)), fun h => ?_⟩
  subst h; decide
theorem bl_k2 {o : Int32} : bl_kind o = 2 ↔ (o = 21 ∨ o = 54 ∨ o = 169) := by
  refine ⟨bl_kc (P := fun k => k = 2 → (o = 21 ∨ o = 54 ∨ o = 169)) (fun _ z => absurd z (by decide)) (fun e _ => Or.inl e) (fun e _ => Or.inr (Or.inl e)) (fun _ z => absurd z (by decide)) (fun _ z => absurd z (by decide)) (fun _ z => absurd z (by decide)) (fun e _ => Or.inr (Or.inr (e))) (fun _ z => absurd z (by decide)) (fun _ z => absurd z (by decide)) (fun _ z => absurd z (by decide)) (fun _ z => absurd z (by decide)) (fun _ z => absurd z (by decide)) (fun _ _ z => absurd z (by decide)), fun h => ?_⟩
  rcases h with h | h | h <;> subst h <;> decide
theorem bl_k3 {o : Int32} : bl_kind o = 3 ↔ o = 132 := by
  refine ⟨bl_kc (P := fun k => k = 3 → o = 132) (fun _ z => absurd z (by decide)) (fun _ z => absurd z (by decide)) (fun _ z => absurd z (by decide)) (fun e _ => e) (fun _ z => absurd z (by decide)) (fun _ z => absurd z (by decide)) (fun _ z => absurd z (by decide)) (fun _ z => absurd z (by decide)) (fun _ z => absurd z (by decide)) (fun _ z => absurd z (by decide)) (fun _ z => absurd z (by decide)) (fun _ z => absurd z (by decide)) (fun _ _ z => absurd z (by decide)), fun h => ?_⟩
  subst h; decide
theorem bl_k5 {o : Int32} : bl_kind o = 5 ↔ (o = 167 ∨ o = 168) := by
  refine ⟨bl_kc (P := fun k => k = 5 → (o = 167 ∨ o = 168)) (fun _ z => absurd z (by decide)) (fun _ z => absurd z (by decide)) (fun _ z => absurd z (by decide)) (fun _ z => absurd z (by decide)) (fun e _ => Or.inl e) (fun e _ => Or.inr (e)) (fun _ z => absurd z (by decide)) (fun _ z => absurd z (by decide)) (fun _ z => absurd z (by decide)) (fun _ z => absurd z (by decide)) (fun _ z => absurd z (by decide)) (fun _ z => absurd z (by decide)) (fun _ _ z => absurd z (by decide)), fun h => ?_⟩
  rcases h with h | h <;> subst h <;> decide
theorem bl_k6 {o : Int32} : bl_kind o = 6 ↔ o = 170 := by
  refine ⟨bl_kc (P := fun k => k = 6 → o = 170) (fun _ z => absurd z (by decide)) (fun _ z => absurd z (by decide)) (fun _ z => absurd z (by decide)) (fun _ z => absurd z (by decide)) (fun _ z => absurd z (by decide)) (fun _ z => absurd z (by decide)) (fun _ z => absurd z (by decide)) (fun e _ => e) (fun _ z => absurd z (by decide)) (fun _ z => absurd z (by decide)) (fun _ z => absurd z (by decide)) (fun _ z => absurd z (by decide)) (fun _ _ z => absurd z (by decide)), fun h => ?_⟩
  subst h; decide
theorem bl_k7 {o : Int32} : bl_kind o = 7 ↔ o = 171 := by
  refine ⟨bl_kc (P := fun k => k = 7 → o = 171) (fun _ z => absurd z (by decide)) (fun _ z => absurd z (by decide)) (fun _ z => absurd z (by decide)) (fun _ z => absurd z (by decide)) (fun _ z => absurd z (by decide)) (fun _ z => absurd z (by decide)) (fun _ z => absurd z (by decide)) (fun _ z => absurd z (by decide)) (fun e _ => e) (fun _ z => absurd z (by decide)) (fun _ z => absurd z (by decide)) (fun _ z => absurd z (by decide)) (fun _ _ z => absurd z (by decide)), fun h => ?_⟩
  subst h; decide
theorem bl_k4 {o : Int32} : bl_kind o = 4 ↔ (o = 198 ∨ o = 199 ∨ (¬ o < 153 ∧ o ≤ 166)) := by
  refine ⟨bl_kc (P := fun k => k = 4 → (o = 198 ∨ o = 199 ∨ (¬ o < 153 ∧ o ≤ 166))) (fun _ z => absurd z (by decide)) (fun _ z => absurd z (by decide)) (fun _ z => absurd z (by decide)) (fun _ z => absurd z (by decide)) (fun _ z => absurd z (by decide)) (fun _ z => absurd z (by decide)) (fun _ z => absurd z (by decide)) (fun _ z => absurd z (by decide)) (fun _ z => absurd z (by decide)) (fun e _ => Or.inl e) (fun e _ => Or.inr (Or.inl e)) (fun _ z => absurd z (by decide)) (fun a b _ => Or.inr (Or.inr ⟨a, b⟩)), fun h => ?_⟩
  rcases h with h | h | ⟨h, g⟩
  · subst h; decide
  · subst h; decide
  · have hl := Int32.not_lt.mp h
    refine bl_kc (P := fun k => k = 4) (fun e => by subst e; exact absurd hl (by decide)) (fun e => by subst e; exact absurd hl (by decide)) (fun e => by subst e; exact absurd hl (by decide)) (fun e => by subst e; exact absurd hl (by decide)) (fun e => by subst e; exact absurd g (by decide)) (fun e => by subst e; exact absurd g (by decide)) (fun e => by subst e; exact absurd g (by decide)) (fun e => by subst e; exact absurd g (by decide)) (fun e => by subst e; exact absurd g (by decide)) (fun _ => rfl) (fun _ => rfl) (fun z => z.elim (fun z => absurd z h) (fun z => absurd g (Int32.not_le.mpr z))) (fun _ _ => rfl)
/-- an op that is taken is its own low byte -/
theorem bl_byte {o : Int32} (h : bl_kind o ≠ 0) : bl_kind (vp_nar .byte o.toInt8.toInt32 &&& 255) = bl_kind o := by
  have e : o &&& 255 = o := by
    rcases bl_kr o with k | k | k | k | k | k | k | k
    · exact absurd k h
    · rw [bl_k1] at k; subst k; decide
    · rw [bl_k2] at k; rcases k with k | k | k <;> subst k <;> decide
    · rw [bl_k3] at k; subst k; decide
    · rw [bl_k4] at k
      rcases k with k | k | ⟨k, g⟩
      · subst k; decide
      · subst k; decide
      · have hl := Int32.not_lt.mp k
        have h0 : ¬ o < 0 := fun z => absurd (Int32.lt_of_le_of_lt hl z) (by decide)
        obtain ⟨j, hj, rfl⟩ := nI_of h0
        have hj2 : j ≤ 166 := (nI_leI (b := 166) hj (by decide)).mp g
        rw [pk_andN (by omega) 8 (by decide), Nat.mod_eq_of_lt (by omega)]
    · rw [bl_k5] at k; rcases k with k | k <;> subst k <;> decide
    · rw [bl_k6] at k; subst k; decide
    · rw [bl_k7] at k; subst k; decide
  rw [pk_vb, bp_b, e]
/-! padding, sizes, offsets -/
def bl_pad (c : Int64) : Int32 := (4 - ((c + 1) &&& 3).toInt32) &&& 3
def bl_pd (k : Int32) (c : Int64) : Int32 := if k = 6 ∨ k = 7 then bl_pad c else -1
def bl_nx (k cs f : Int32) (c : Int64) : Int64 :=
  if k = 2 then (if f = 0 then c + 2 else c + 4)
  else if k = 3 then (if f = 0 then c + 3 else c + 6)
  else if k = 4 then (if f = 0 then c + 3 else c + 8)
  else if k = 5 then (if f = 0 then c + 3 else c + 5)
  else if k = 6 then c + (((1 + (bl_pad c).toInt64) + 12) + (4 * cs.toInt64))
  else if k = 7 then c + (((1 + (bl_pad c).toInt64) + 8) + (8 * cs.toInt64))
  else c + 1
theorem bl_n20 {k cs f : Int32} {c : Int64} (h : k = 2) (hf : f = 0) : c + 2 = bl_nx k cs f c := by
  subst h; unfold bl_nx; rw [if_pos rfl, if_pos hf]
theorem bl_n21 {k cs f : Int32} {c : Int64} (h : k = 2) (hf : ¬ f = 0) : c + 4 = bl_nx k cs f c := by
  subst h; unfold bl_nx; rw [if_pos rfl, if_neg hf]
theorem bl_n30 {k cs f : Int32} {c : Int64} (h : k = 3) (hf : f = 0) : c + 3 = bl_nx k cs f c := by
  subst h; unfold bl_nx; rw [if_neg (by decide), if_pos rfl, if_pos hf]
theorem bl_n31 {k cs f : Int32} {c : Int64} (h : k = 3) (hf : ¬ f = 0) : c + 6 = bl_nx k cs f c := by
  subst h; unfold bl_nx; rw [if_neg (by decide), if_pos rfl, if_neg hf]
theorem bl_n40 {k cs f : Int32} {c : Int64} (h : k = 4) (hf : f = 0) : c + 3 = bl_nx k cs f c := by
  subst h; unfold bl_nx; rw [if_neg (by decide), if_neg (by decide), if_pos rfl, if_pos hf]
theorem bl_n41 {k cs f : Int32} {c : Int64} (h : k = 4) (hf : ¬ f = 0) : c + 8 = bl_nx k cs f c := by
  subst h; unfold bl_nx; rw [if_neg (by decide), if_neg (by decide), if_pos rfl, if_neg hf]
theorem bl_n50 {k cs f : Int32} {c : Int64} (h : k = 5) (hf : f = 0) : c + 3 = bl_nx k cs f c := by
  subst h; unfold bl_nx; rw [if_neg (by decide), if_neg (by decide), if_neg (by decide), if_pos rfl, if_pos hf]
theorem bl_n51 {k cs f : Int32} {c : Int64} (h : k = 5) (hf : ¬ f = 0) : c + 5 = bl_nx k cs f c := by
  subst h; unfold bl_nx; rw [if_neg (by decide), if_neg (by decide), if_neg (by decide), if_pos rfl, if_neg hf]
theorem bl_n6 {k cs f : Int32} {c : Int64} (h : k = 6) : c + (((1 + (bl_pad c).toInt64) + 12) + (4 * cs.toInt64)) = bl_nx k cs f c := by
  subst h; unfold bl_nx; rw [if_neg (by decide), if_neg (by decide), if_neg (by decide), if_neg (by decide), if_pos rfl]
theorem bl_n7 {k cs f : Int32} {c : Int64} (h : k = 7) : c + (((1 + (bl_pad c).toInt64) + 8) + (8 * cs.toInt64)) = bl_nx k cs f c := by
  subst h; unfold bl_nx; rw [if_neg (by decide), if_neg (by decide), if_neg (by decide), if_neg (by decide), if_neg (by decide), if_pos rfl]
theorem bl_n1 {k cs f : Int32} {c : Int64} (h2 : ¬ k = 2) (h3 : ¬ k = 3) (h4 : ¬ k = 4) (h5 : ¬ k = 5) (h6 : ¬ k = 6) (h7 : ¬ k = 7) : c + 1 = bl_nx k cs f c := by
  unfold bl_nx; rw [if_neg h2, if_neg h3, if_neg h4, if_neg h5, if_neg h6, if_neg h7]
theorem bl_padN (c : Int64) : ∃ q : Nat, q ≤ 3 ∧ bl_pad c = nI q ∧ ((c + 1).toBitVec.toNat + q) % 4 = 0 := by
  unfold bl_pad
  obtain ⟨N, hN, e⟩ := wb_of (c + 1)
  have e3 : lN N &&& 3 = lN (N % 4) := wb_mask (k := 2) hN (by decide)
  rw [e, e3, lN_i, wb_tn hN]
  have h4 : N % 4 < 4 := Nat.mod_lt _ (by decide)
  have hc : ∀ r, r < 4 → (4 - nI r) &&& 3 = nI ((4 - r) % 4) := by decide +kernel
  exact ⟨(4 - N % 4) % 4, by omega, hc _ h4, by omega⟩
theorem bl_rem4 (C : Int64) : C - C / 4 * 4 = 0 ↔ C.toBitVec.toNat % 4 = 0 := by
  have e := Jvm.Kit.i64_rem C 4
  rw [show (4 : Int64).toInt = 4 from by decide] at e
  have h : C.toInt = if 2 * C.toBitVec.toNat < 2 ^ 64 then (C.toBitVec.toNat : Int) else (C.toBitVec.toNat : Int) - (2 ^ 64 : Nat) := BitVec.toInt_eq_toNat_cond _
  have hd : C.toInt.tmod 4 = 0 ↔ C.toInt % 4 = 0 := by
    refine ⟨fun z => Int.emod_eq_zero_of_dvd (Int.dvd_of_tmod_eq_zero z), fun z => Int.tmod_eq_zero_of_dvd (Int.dvd_of_emod_eq_zero z)⟩
  rw [← Int64.toInt_inj, e, show (0 : Int64).toInt = 0 from by decide, hd, h]
  generalize C.toBitVec.toNat = N
  split <;> omega
theorem bl_suc4 (C : Int64) : (C + 1).toBitVec.toNat % 4 = (C.toBitVec.toNat + 1) % 4 := by
  rw [Int64.toBitVec_add, BitVec.toNat_add, show (1 : Int64).toBitVec.toNat = 1 from rfl]
  omega
def bl_off (kd cs f : Nat → Int32) : Nat → Int64
  | 0 => 0
  | i + 1 => bl_nx (kd i) (cs i) (f i) (bl_off kd cs f i)
def bl_br (k : Int32) : Prop := k = 4 ∨ k = 5
def bl_d (kd cs : Nat → Int32) (tg : Nat → Nat) (f : Nat → Int32) (i : Nat) : Int64 := bl_off kd cs f (tg i) - bl_off kd cs f i
def bl_bad (kd cs : Nat → Int32) (tg : Nat → Nat) (f : Nat → Int32) (i : Nat) : Prop :=
  bl_br (kd i) ∧ f i = 0 ∧ (bl_d kd cs tg f i < -32768 ∨ ¬ bl_d kd cs tg f i ≤ 32767)
def bl_gv (k : Int32) : Int32 := if k = 4 then 2 else 1
theorem bl_gv0 (k : Int32) : bl_gv k ≠ 0 := by
  unfold bl_gv; split <;> decide
def bl_run (n : Nat) (kd cs : Nat → Int32) (tg : Nat → Nat) : Nat → (Nat → Int32) → (Nat → Int32) → Prop
  | 0 => fun _ _ => False
  | m + 1 => fun f F => ((∀ j, j < n → ¬ bl_bad kd cs tg f j) ∧ F = f) ∨
      (∃ b, b < n ∧ bl_bad kd cs tg f b ∧ (∀ j, j < b → ¬ bl_bad kd cs tg f j) ∧ bl_run n kd cs tg m (upd f b (bl_gv (kd b))) F)
def bl_cnt (f : Nat → Int32) : Nat → Nat
  | 0 => 0
  | i + 1 => bl_cnt f i + (if f i = 0 then 1 else 0)
theorem bl_cnt_le (f : Nat → Int32) : ∀ n, bl_cnt f n ≤ n := by
  intro n
  induction n with
  | zero => exact Nat.le_refl _
  | succ n ih => unfold bl_cnt; split <;> omega
theorem bl_cnt_c {f g : Nat → Int32} : ∀ n, (∀ j, j < n → f j = g j) → bl_cnt f n = bl_cnt g n := by
  intro n
  induction n with
  | zero => intro _; rfl
  | succ n ih => intro h; unfold bl_cnt; rw [ih (fun j hj => h j (by omega)), h n (by omega)]
theorem bl_cnt_u {f : Nat → Int32} {b : Nat} {v : Int32} (h0 : f b = 0) (hv : v ≠ 0) : ∀ n, b < n → bl_cnt (upd f b v) n + 1 = bl_cnt f n := by
  intro n
  induction n with
  | zero => intro h; omega
  | succ n ih =>
    intro h
    unfold bl_cnt
    by_cases e : b = n
    · subst e
      rw [bl_cnt_c (f := upd f b v) (g := f) b (fun j hj => pk_un (by omega)), pk_us, if_neg hv, if_pos h0]
    · rw [pk_un (f := f) (k := b) (j := n) (x := v) (by omega)]
      have := ih (by omega)
      omega
theorem bl_ex (n : Nat) (kd cs : Nat → Int32) (tg : Nat → Nat) : ∀ m f, bl_cnt f n < m → ∃ F, bl_run n kd cs tg m f F := by
  intro m
  induction m with
  | zero => intro f h; omega
  | succ m ih =>
    intro f h
    by_cases e : ∃ b, b < n ∧ bl_bad kd cs tg f b
    · obtain ⟨b, ⟨hb, hbad⟩, hl⟩ := pk_least (fun b => b < n ∧ bl_bad kd cs tg f b) e
      have hc := bl_cnt_u hbad.2.1 (bl_gv0 (kd b)) n hb
      obtain ⟨F, hF⟩ := ih (upd f b (bl_gv (kd b))) (by omega)
      exact ⟨F, Or.inr ⟨b, hb, hbad, fun j hj z => hl j hj ⟨by omega, z⟩, hF⟩⟩
    · exact ⟨f, Or.inl ⟨fun j hj z => e ⟨j, hj, z⟩, rfl⟩⟩
/-! the list as both sides hold it -/
def bl_ini (k l c : Int32) : Int32 := if ((k = 2 ∨ k = 3) ∧ ¬ l ≤ 255) ∨ (k = 3 ∧ (c < -128 ∨ ¬ c ≤ 127)) then 1 else 0
def bl_L (n : Nat) (kd cs : Nat → Int32) (tg : Nat → Nat) (f0 op opd kon nca tgt : Nat → Int32) : Prop :=
  ∀ j, j < n → bl_kind (op j &&& 255) = kd j ∧ kd j ≠ 0 ∧ bl_ini (kd j) (opd j) (kon j) = f0 j ∧
    (kd j = 6 ∨ kd j = 7 → nca j = cs j) ∧ (bl_br (kd j) → tgt j = nI (tg j) ∧ tg j < 10)
theorem bl_agU {n b : Nat} {f g : Nat → Int32} {v : Int32} (h : ∀ j, j < n → g j = f j) : ∀ j, j < n → upd g b v j = upd f b v j := by
  intro j hj
  by_cases e : j = b
  · subst e; rw [pk_us, pk_us]
  · rw [pk_un e, pk_un e]; exact h j hj
end
section
/-! the component's small methods and the loops of its layout -/
theorem bl_isLocal {post : Int32 → Prop} {u : SX} {o : Int32} (h1 : bl_kind o = 2 → post 1) (h0 : ¬ bl_kind o = 2 → post 0) : wpX_isLocal post u o := by
  obtain ⟨fc, fr, op, opd, kon, nca, tgt, off, frm⟩ := u
  refine br_c (fun a => h1 (bl_k2.mpr (Or.inl a))) (fun a => br_c (fun b => h1 (bl_k2.mpr (Or.inr (Or.inl b)))) (fun b => br_c (fun c => h1 (bl_k2.mpr (Or.inr (Or.inr c)))) (fun c => h0 (fun z => ?_))))
  rcases bl_k2.mp z with e | e | e
  · exact a e
  · exact b e
  · exact c e
theorem bl_isJump {post : Int32 → Prop} {u : SX} {o : Int32} (h1 : bl_kind o = 5 → post 1) (h0 : ¬ bl_kind o = 5 → post 0) : wpX_isJump post u o := by
  obtain ⟨fc, fr, op, opd, kon, nca, tgt, off, frm⟩ := u
  refine br_c (fun a => h1 (bl_k5.mpr (Or.inl a))) (fun a => br_c (fun b => h1 (bl_k5.mpr (Or.inr b))) (fun b => h0 (fun z => ?_)))
  rcases bl_k5.mp z with e | e
  · exact a e
  · exact b e
theorem bl_isCond {post : Int32 → Prop} {u : SX} {o : Int32} (h1 : bl_kind o = 4 → post 1) (h0 : ¬ bl_kind o = 4 → post 0) : wpX_isCond post u o := by
  obtain ⟨fc, fr, op, opd, kon, nca, tgt, off, frm⟩ := u
  have h14 : ¬ (¬ o < 153 ∧ o ≤ 166) → wX_isCond_14 post o fc fr op opd kon nca tgt off frm := by
    intro hn
    refine br_c (fun a => h1 (bl_k4.mpr (Or.inl a))) (fun a => br_c (fun b => h1 (bl_k4.mpr (Or.inr (Or.inl b)))) (fun b => h0 (fun z => ?_)))
    rcases bl_k4.mp z with e | e | e
    · exact a e
    · exact b e
    · exact hn e
  exact br_c (fun a => h14 (fun z => z.1 a)) (fun a => br_c (fun b => h1 (bl_k4.mpr (Or.inr (Or.inr ⟨a, b⟩)))) (fun b => h14 (fun z => b z.2)))
theorem bl_padAt {post : Int32 → Prop} {u : SX} {c : Int64} (h : post (bl_pad c)) : wpX_padAt post u c := by
  obtain ⟨fc, fr, op, opd, kon, nca, tgt, off, frm⟩ := u
  exact nm_e h
theorem bl_vi {i n : Nat} (hi : i < n) (hn : n ≤ 10) : vp_in (nI i) 10 := vp_in_nI (by omega) (by decide)
theorem bl_cl {i n : Nat} (hi : i < n) (hn : n ≤ 10) : (nI i).toNatClampNeg = i := nI_clamp (by omega)
section
variable {post : Int32 → SX → Prop} {n i m : Nat} {kd cs f0 : Nat → Int32} {tg : Nat → Nat} {rd fc : Int32} {op opd kon nca tgt frm : Nat → Int32} {off : Nat → Int64}
theorem bl_opAt {post : Int32 → Prop} (hi : i < n) (hn : n ≤ 10) (h : post (op i &&& 255)) : wpX_opAt post (fc, rd, op, opd, kon, nca, tgt, off, frm) (nI i) := by
  refine ⟨bl_vi hi hn, ?_⟩
  rw [bl_cl hi hn]
  exact h
/-- the check of the targets: a step -/
theorem bl_X17 (hi : i < n) (hn : n ≤ 10) (L : bl_L n kd cs tg f0 op opd kon nca tgt)
    (hb : bl_br (kd i) → n ≤ tg i → post (-3) (nI n, 0, op, opd, kon, nca, tgt, off, frm))
    (hg : (bl_br (kd i) → tg i < n) → wX_layout_17 post (nI n) rd op opd kon nca tgt off frm m (nI (i + 1))) :
    wX_layout_17 post (nI n) rd op opd kon nca tgt off frm (m + 1) (nI i) := by
  obtain ⟨hk, h0, _, _, ht⟩ := L i hi
  have h47 : bl_br (kd i) → wX_layout_47 post (wX_layout_17 post (nI n) rd op opd kon nca tgt off frm m) (nI i) (nI n) rd op opd kon nca tgt off frm := by
    intro hbr
    obtain ⟨et, lt⟩ := ht hbr
    refine ⟨bl_vi hi hn, ?_⟩
    rw [bl_cl hi hn, et, nI_ltI (by omega) (by omega)]
    exact br_c (fun a => nm_r (nI_1 i) (hg (fun _ => a))) (fun a => hb hbr (by omega))
  refine br_f (nI_ge hi (by omega)) (bl_opAt hi hn (bl_isCond (fun k => br_f (by decide) (h47 ?_)) (fun k4 => br_t rfl (bl_isJump (fun k => br_f (by decide) (h47 ?_)) (fun k5 => br_t rfl (nm_r (nI_1 i) (hg ?_)))))))
  · exact Or.inl (hk.symm.trans k)
  · exact Or.inr (hk.symm.trans k)
  · intro z
    rcases z with z | z
    · exact absurd (hk.trans z) k4
    · exact absurd (hk.trans z) k5
theorem bl_X17l (hn : n ≤ 10) (L : bl_L n kd cs tg f0 op opd kon nca tgt)
    (hb : (∃ j, j < n ∧ bl_br (kd j) ∧ n ≤ tg j) → post (-3) (nI n, 0, op, opd, kon, nca, tgt, off, frm))
    (hg : (∀ j, j < n → bl_br (kd j) → tg j < n) → ∃ q, wX_layout_76 post (nI n) rd q 0 op opd kon nca tgt off frm) :
    ∀ d i, i + d = n → (∀ j, j < i → bl_br (kd j) → tg j < n) → wX_layout_17 post (nI n) rd op opd kon nca tgt off frm (d + 1) (nI i) := by
  intro d
  induction d with
  | zero =>
    intro i hi h
    have e : i = n := by omega
    subst e
    exact br_t (nI_le (Nat.le_refl _) (by omega)) (hg h)
  | succ d ih =>
    intro i hi h
    refine bl_X17 (i := i) (by omega) hn L (fun a b => hb ⟨i, by omega, a, b⟩) (fun a => ih (i + 1) (by omega) ?_)
    exact lt_s h a
/-- the first forms: a step -/
theorem bl_nb0 : vp_nar .byte 0 = 0 := by rw [vp_nar_byte]; decide
theorem bl_nb1 : vp_nar .byte 1 = 1 := by rw [vp_nar_byte]; decide
theorem bl_nb2 : vp_nar .byte 2 = 2 := by rw [vp_nar_byte]; decide
theorem bl_nbm : vp_nar .byte (-1) = -1 := by rw [vp_nar_byte]; decide
theorem bl_X121 {J : Int32 → (Nat → Int32) → (Nat → Int32) → (Nat → Int32) → (Nat → Int32) → (Nat → Int32) → (Nat → Int64) → (Nat → Int32) → Prop} {o z v : Int32}
    (hi : i < n) (hn : n ≤ 10) (hz : vp_nar .byte z = z)
    (h1 : o = 132 → (kon i < -128 ∨ ¬ kon i ≤ 127) → v = 1)
    (h2 : (o = 132 → ¬ kon i < -128 ∧ kon i ≤ 127) → v = z)
    (h : J (nI (i + 1)) op opd kon nca tgt off (upd frm i v)) :
    wX_layout_121 post J (nI i) o z fc rd op opd kon nca tgt off frm := by
  have hv := bl_vi hi hn
  unfold wX_layout_121 wX_layout_150
  rw [bl_cl hi hn, hz, bl_nb1]
  refine br_c (fun e => ⟨hv, br_c (fun a => ⟨hv, nm_r (e' := upd frm i v) ?_ (nm_r (nI_1 i) h)⟩) (fun a => ⟨hv, br_c (fun b => ⟨hv, nm_r (e' := upd frm i v) ?_ (nm_r (nI_1 i) h)⟩) (fun b => ⟨hv, nm_r (e' := upd frm i v) ?_ (nm_r (nI_1 i) h)⟩)⟩)⟩) (fun e => ⟨hv, nm_r (e' := upd frm i v) ?_ (nm_r (nI_1 i) h)⟩)
  · rw [h1 e (Or.inl a)]
  · rw [h2 (fun _ => ⟨a, b⟩)]
  · rw [h1 e (Or.inr b)]
  · rw [h2 (fun z => absurd z e)]
theorem bl_X76 (hi : i < n) (hn : n ≤ 10) (L : bl_L n kd cs tg f0 op opd kon nca tgt)
    (h : wX_layout_76 post (nI n) rd m (nI (i + 1)) op opd kon nca tgt off (upd frm i (f0 i))) :
    wX_layout_76 post (nI n) rd (m + 1) (nI i) op opd kon nca tgt off frm := by
  obtain ⟨hk, h0, hf, _, _⟩ := L i hi
  have hv := bl_vi hi hn
  have h107 : ∀ o, bl_kind o = kd i → (kd i = 2 ∨ kd i = 3) → wX_layout_107 post (wX_layout_76 post (nI n) rd m) (nI i) o 0 (nI n) rd op opd kon nca tgt off frm := by
    intro o eo hk23
    unfold wX_layout_107
    rw [bl_cl hi hn]
    refine ⟨hv, br_c (fun a => bl_X121 (v := f0 i) hi hn bl_nb0 ?_ ?_ h) (fun a => bl_X121 (v := f0 i) hi hn bl_nb1 ?_ ?_ h)⟩
    · intro e c
      rw [← hf]
      exact if_pos (Or.inr ⟨eo.symm.trans (bl_k3.mpr e), c⟩)
    · intro c
      rw [← hf]
      refine if_neg (fun z => ?_)
      rcases z with z | z
      · exact z.2 a
      · obtain ⟨c1, c2⟩ := c (bl_k3.mp (eo.trans z.1))
        rcases z.2 with z | z
        · exact c1 z
        · exact z c2
    · intro e c
      rw [← hf]
      exact if_pos (Or.inl ⟨hk23, a⟩)
    · intro c
      rw [← hf]
      exact if_pos (Or.inl ⟨hk23, a⟩)
  refine br_f (nI_ge hi (by omega)) (bl_opAt hi hn (bl_isLocal (fun k => br_f (by decide) (h107 _ hk (Or.inl (hk.symm.trans k)))) (fun k => br_t rfl (br_c (fun e => h107 _ hk (Or.inr (hk.symm.trans (bl_k3.mpr e)))) (fun e => bl_X121 (v := f0 i) hi hn bl_nb0 ?_ ?_ h)))))
  · intro e'
    exact absurd e' e
  · intro _
    rw [← hf]
    have n2 : ¬ kd i = 2 := fun z => k (hk.trans z)
    have n3 : ¬ kd i = 3 := fun z => e (bl_k3.mp (hk.trans z))
    refine if_neg (fun z => ?_)
    rcases z with z | z
    · rcases z.1 with z | z
      · exact n2 z
      · exact n3 z
    · exact n3 z.1
theorem bl_X76l (hn : n ≤ 10) (L : bl_L n kd cs tg f0 op opd kon nca tgt)
    (hg : ∀ frm, (∀ j, j < n → frm j = f0 j) → ∃ q, wX_layout_169 post (nI n) rd q 0 0 op opd kon nca tgt off frm) :
    ∀ d i frm, i + d = n → (∀ j, j < i → frm j = f0 j) → wX_layout_76 post (nI n) rd (d + 1) (nI i) op opd kon nca tgt off frm := by
  intro d
  induction d with
  | zero =>
    intro i frm hi h
    have e : i = n := by omega
    subst e
    exact br_t (nI_le (Nat.le_refl _) (by omega)) (hg frm h)
  | succ d ih =>
    intro i frm hi h
    refine bl_X76 (by omega) hn L (ih (i + 1) _ (by omega) (lt_s (fun j hj => ?_) pk_us))
    rw [pk_un (by omega)]
    exact h j hj
end
end
section
/-! the component's layout: emission, growth, the rounds -/
section
variable {post : Int32 → SX → Prop} {n i m : Nat} {kd cs f0 : Nat → Int32} {tg : Nat → Nat} {rd fc x3 : Int32} {op opd kon nca tgt frm : Nat → Int32} {off : Nat → Int64}
variable {J : Int64 → Int32 → (Nat → Int32) → (Nat → Int32) → (Nat → Int32) → (Nat → Int32) → (Nat → Int32) → (Nat → Int64) → (Nat → Int32) → Prop}
theorem bl_X178 {c : Int64} (hi : i < n) (hn : n ≤ 10) (L : bl_L n kd cs tg f0 op opd kon nca tgt)
    (h : wX_layout_178 post J x3 (nI n) rd m (bl_nx (kd i) (cs i) (frm i) c) (nI (i + 1)) op opd kon nca tgt (vp_updL off i c) frm) :
    wX_layout_178 post J x3 (nI n) rd (m + 1) c (nI i) op opd kon nca tgt off frm := by
  obtain ⟨hk, h0, _, hc, _⟩ := L i hi
  have hv := bl_vi hi hn
  have ec := bl_cl hi hn
  refine br_f (nI_ge hi (by omega)) ⟨hv, nm_r (e' := vp_updL off i c) (by rw [ec]) (bl_opAt hi hn ⟨hv, nm_r (e' := frm i) (by rw [ec]) ?_⟩)⟩
  generalize op i &&& 255 = o at hk ⊢
  refine br_c (fun e => nm_r (bl_n1 ?_ ?_ ?_ ?_ ?_ ?_) (nm_r (nI_1 i) h)) (fun n0 => bl_isLocal (fun k2 => br_f (by decide) (br_c (fun f => nm_r (bl_n20 (hk.symm.trans k2) f) (nm_r (nI_1 i) h)) (fun f => nm_r (bl_n21 (hk.symm.trans k2) f) (nm_r (nI_1 i) h)))) (fun k2 => br_t rfl ?_))
  iterate 6 (subst e; intro z; exact absurd (hk.trans z) (by decide))
  refine br_c (fun e => br_c (fun f => nm_r (bl_n30 (hk.symm.trans (bl_k3.mpr e)) f) (nm_r (nI_1 i) h)) (fun f => nm_r (bl_n31 (hk.symm.trans (bl_k3.mpr e)) f) (nm_r (nI_1 i) h))) (fun n3 => bl_isCond (fun k4 => br_f (by decide) (br_c (fun f => nm_r (bl_n40 (hk.symm.trans k4) f) (nm_r (nI_1 i) h)) (fun f => nm_r (bl_n41 (hk.symm.trans k4) f) (nm_r (nI_1 i) h)))) (fun k4 => br_t rfl ?_))
  refine bl_isJump (fun k5 => br_f (by decide) (br_c (fun f => nm_r (bl_n50 (hk.symm.trans k5) f) (nm_r (nI_1 i) h)) (fun f => nm_r (bl_n51 (hk.symm.trans k5) f) (nm_r (nI_1 i) h)))) (fun k5 => br_t rfl ?_)
  refine br_c (fun e => bl_padAt ⟨hv, ?_⟩) (fun n6 => bl_padAt ⟨hv, ?_⟩)
  · have k6 : kd i = 6 := hk.symm.trans (bl_k6.mpr e)
    rw [ec, hc (Or.inl k6)]
    exact nm_e (nm_r (bl_n6 k6) (nm_r (nI_1 i) h))
  · have k7 : kd i = 7 := by
      rcases bl_kr o with z | z | z | z | z | z | z | z
      · exact absurd (hk.symm.trans z) h0
      · exact absurd (bl_k1.mp z) n0
      · exact absurd z k2
      · exact absurd (bl_k3.mp z) n3
      · exact absurd z k4
      · exact absurd z k5
      · exact absurd (bl_k6.mp z) n6
      · exact hk.symm.trans z
    rw [ec, hc (Or.inr k7)]
    exact nm_e (nm_r (bl_n7 k7) (nm_r (nI_1 i) h))
theorem bl_X178l {f : Nat → Int32} (hn : n ≤ 10) (L : bl_L n kd cs tg f0 op opd kon nca tgt) (hf : ∀ j, j < n → frm j = f j)
    (hg : ∀ off, (∀ j, j < n → off j = bl_off kd cs f j) → ∃ q, wX_layout_416 post J (bl_off kd cs f n) x3 (nI n) rd op opd kon nca tgt off frm q (-1) 0) :
    ∀ d i off, i + d = n → (∀ j, j < i → off j = bl_off kd cs f j) → wX_layout_178 post J x3 (nI n) rd (d + 1) (bl_off kd cs f i) (nI i) op opd kon nca tgt off frm := by
  intro d
  induction d with
  | zero =>
    intro i off hi h
    have e : i = n := by omega
    subst e
    exact br_t (nI_le (Nat.le_refl _) (by omega)) (hg off h)
  | succ d ih =>
    intro i off hi h
    refine bl_X178 (by omega) hn L ?_
    rw [hf i (by omega)]
    refine ih (i + 1) _ (by omega) (lt_s (fun j hj => ?_) pk_uLs)
    rw [pk_uLn (by omega)]
    exact h j hj
/-- the search for the branch to grow -/
theorem bl_X516 {x1 : Int64} {b : Nat} (hb : b < n) (hn : n ≤ 10) (L : bl_L n kd cs tg f0 op opd kon nca tgt) (hbr : bl_br (kd b))
    (h : J x1 x3 op opd kon nca tgt off (upd frm b (bl_gv (kd b)))) :
    wX_layout_516 post J x1 x3 (nI b) fc rd op opd kon nca tgt off frm := by
  obtain ⟨hk, _, _, _, _⟩ := L b hb
  have hv := bl_vi hb hn
  have ec := bl_cl hb hn
  refine br_t (nI_pos' (by omega)) (bl_opAt hb hn (bl_isJump (fun k5 => br_f (by decide) ⟨hv, nm_r (e' := upd frm b (bl_gv (kd b))) ?_ h⟩) (fun k5 => br_t rfl ⟨hv, nm_r (e' := upd frm b (bl_gv (kd b))) ?_ h⟩)))
  · rw [ec, bl_nb1, ← hk, k5]; rfl
  · have k4 : kd b = 4 := by
      rcases hbr with z | z
      · exact z
      · exact absurd (hk.trans z) k5
    rw [ec, bl_nb2, k4]; rfl
theorem bl_X416 {f : Nat → Int32} {x1 : Int64} (hi : i < n) (hn : n ≤ 10) (L : bl_L n kd cs tg f0 op opd kon nca tgt) (hf : ∀ j, j < n → frm j = f j)
    (ho : ∀ j, j < n → off j = bl_off kd cs f j) (ht : ∀ j, j < n → bl_br (kd j) → tg j < n)
    (hb : bl_bad kd cs tg f i → wX_layout_416 post J x1 x3 (nI n) rd op opd kon nca tgt off frm m (nI i) (nI (i + 1)))
    (hg : ¬ bl_bad kd cs tg f i → wX_layout_416 post J x1 x3 (nI n) rd op opd kon nca tgt off frm m (-1) (nI (i + 1))) :
    wX_layout_416 post J x1 x3 (nI n) rd op opd kon nca tgt off frm (m + 1) (-1) (nI i) := by
  obtain ⟨hk, h0, _, _, htg⟩ := L i hi
  have hv := bl_vi hi hn
  have ec := bl_cl hi hn
  have h456 : bl_br (kd i) → wX_layout_456 post J (wX_layout_416 post J x1 x3 (nI n) rd op opd kon nca tgt off frm m) x1 x3 (-1) (nI i) (nI n) rd op opd kon nca tgt off frm := by
    intro hbr
    obtain ⟨et, lt⟩ := htg hbr
    have lt2 := ht i hi hbr
    unfold wX_layout_456
    rw [ec, et, bl_cl lt2 hn, ho _ lt2, ho i hi, hf i hi]
    refine ⟨hv, br_c (fun f0 => ⟨hv, bl_vi lt2 hn, hv, nm_r (e' := bl_d kd cs tg f i) rfl ?_⟩) (fun f0 => nm_r (nI_1 i) (hg (fun z => f0 z.2.1)))⟩
    refine br_c (fun a => nm_r (nI_1 i) (hb ⟨hbr, f0, Or.inl a⟩)) (fun a => br_c (fun b => nm_r (nI_1 i) (hg (fun z => ?_))) (fun b => nm_r (nI_1 i) (hb ⟨hbr, f0, Or.inr b⟩)))
    rcases z.2.2 with z | z
    · exact a z
    · exact z b
  refine br_f (nI_ge hi (by omega)) (br_f (by decide) (bl_opAt hi hn (bl_isCond (fun k => br_f (by decide) (h456 ?_)) (fun k4 => br_t rfl (bl_isJump (fun k => br_f (by decide) (h456 ?_)) (fun k5 => br_t rfl (nm_r (nI_1 i) (hg ?_))))))))
  · exact Or.inl (hk.symm.trans k)
  · exact Or.inr (hk.symm.trans k)
  · intro z
    rcases z.1 with z | z
    · exact absurd (hk.trans z) k4
    · exact absurd (hk.trans z) k5
theorem bl_X416l {f : Nat → Int32} {x1 : Int64} (hn : n ≤ 10) (L : bl_L n kd cs tg f0 op opd kon nca tgt) (hf : ∀ j, j < n → frm j = f j)
    (ho : ∀ j, j < n → off j = bl_off kd cs f j) (ht : ∀ j, j < n → bl_br (kd j) → tg j < n)
    (hd : (∀ j, j < n → ¬ bl_bad kd cs tg f j) → J x1 1 op opd kon nca tgt off frm)
    (hg : ∀ b, b < n → bl_bad kd cs tg f b → (∀ j, j < b → ¬ bl_bad kd cs tg f j) → J x1 x3 op opd kon nca tgt off (upd frm b (bl_gv (kd b)))) :
    ∀ d i, i + d = n → (∀ j, j < i → ¬ bl_bad kd cs tg f j) → wX_layout_416 post J x1 x3 (nI n) rd op opd kon nca tgt off frm (d + 2) (-1) (nI i) := by
  intro d
  induction d with
  | zero =>
    intro i hi h
    have e : i = n := by omega
    subst e
    exact br_t (nI_le (Nat.le_refl _) (by omega)) (br_f (by decide) (hd h))
  | succ d ih =>
    intro i hi h
    refine bl_X416 (by omega) hn L hf ho ht (fun hb => ?_) (fun hb => ih (i + 1) (by omega) (lt_s h hb))
    have h516 : wX_layout_516 post J x1 x3 (nI i) (nI n) rd op opd kon nca tgt off frm := bl_X516 (b := i) (by omega) hn L hb.1 (hg i (by omega) hb h)
    exact br_c (fun _ => h516) (fun _ => br_t (nI_pos' (by omega)) h516)
end
section
variable {post : Int32 → SX → Prop} {n : Nat} {kd cs f0 : Nat → Int32} {tg : Nat → Nat} {rd : Int32} {op opd kon nca tgt : Nat → Int32}
/-- what the component's rounds leave -/
def bl_PX (post : Int32 → SX → Prop) (n : Nat) (kd cs F op opd kon nca tgt : Nat → Int32) : Prop :=
  ∀ off frm, (∀ j, j < n → frm j = F j) → (∀ j, j < n → off j = bl_off kd cs F j) →
    post (if bl_off kd cs F n ≤ 65535 then (bl_off kd cs F n).toInt32 else -1) (nI n, 1, op, opd, kon, nca, tgt, off, frm)
theorem bl_X169 {F : Nat → Int32} (hn : n ≤ 10) (L : bl_L n kd cs tg f0 op opd kon nca tgt) (ht : ∀ j, j < n → bl_br (kd j) → tg j < n)
    (hp : bl_PX post n kd cs F op opd kon nca tgt) :
    ∀ m f frm off x1, bl_run n kd cs tg m f F → (∀ j, j < n → frm j = f j) → wX_layout_169 post (nI n) rd (m + 1) x1 0 op opd kon nca tgt off frm := by
  intro m
  induction m with
  | zero => intro f frm off x1 hr; exact hr.elim
  | succ m ih =>
    intro f frm off x1 hr hf
    refine br_t rfl ⟨n + 1, ?_⟩
    refine bl_X178l hn L hf (fun off ho => ⟨n + 2, ?_⟩) n 0 off (by omega) lt_0
    refine bl_X416l hn L hf ho ht (fun hd => ?_) (fun b hb hbad hl => ?_) n 0 (by omega) lt_0
    · rcases hr with ⟨_, e⟩ | ⟨b, hb, hbad, _, _⟩
      · subst e
        refine br_f (by decide) ?_
        have h := hp off frm hf ho
        refine br_c (fun a => ?_) (fun a => ?_)
        · rw [if_pos a] at h; exact h
        · rw [if_neg a] at h; exact h
      · exact absurd hbad (hd b hb)
    · rcases hr with ⟨hd, _⟩ | ⟨b', hb', hbad', hl', hr⟩
      · exact absurd hbad (hd b hb)
      · have e : b = b' := by
          rcases Nat.lt_trichotomy b b' with z | z | z
          · exact absurd hbad (hl' b z)
          · exact z
          · exact absurd hbad' (hl b' z)
        subst e
        exact ih _ _ off _ hr (bl_agU hf)
/-- the component's layout, as a whole -/
theorem bl_Xlay {off : Nat → Int64} {frm : Nat → Int32} (hn : n ≤ 10) (L : bl_L n kd cs tg f0 op opd kon nca tgt)
    (h0 : n = 0 → post (-2) (nI n, 0, op, opd, kon, nca, tgt, off, frm))
    (hb : 0 < n → (∃ j, j < n ∧ bl_br (kd j) ∧ n ≤ tg j) → post (-3) (nI n, 0, op, opd, kon, nca, tgt, off, frm))
    (hg : 0 < n → (∀ j, j < n → bl_br (kd j) → tg j < n) → ∃ F, bl_run n kd cs tg (n + 1) f0 F ∧ bl_PX post n kd cs F op opd kon nca tgt) :
    wpX_layout post (nI n, rd, op, opd, kon, nca, tgt, off, frm) := by
  by_cases e : n = 0
  · subst e
    exact br_t nI_0 (h0 rfl)
  · refine br_f (nI_ne0 (by omega) (by omega)) ⟨n + 1, bl_X17l hn L (hb (by omega)) (fun ht => ⟨n + 1, ?_⟩) n 0 (by omega) lt_0⟩
    obtain ⟨F, hr, hp⟩ := hg (by omega) ht
    exact bl_X76l hn L (fun frm hf => ⟨n + 2, bl_X169 hn L ht hp (n + 1) f0 frm off 0 hr hf⟩) n 0 frm (by omega) lt_0
end
end
section
/-! the reference's solve -/
theorem bl_ykind {post : Int32 → Prop} {o : Int32} (h : post (bl_kind o)) : wpY_kind post o := by
  unfold bl_kind at h
  refine br_c (fun a => ?_) (fun a => ?_)
  · rw [if_pos a] at h; exact h
  rw [if_neg a] at h
  refine br_c (fun a => ?_) (fun a => ?_)
  · rw [if_pos a] at h; exact h
  rw [if_neg a] at h
  refine br_c (fun a => ?_) (fun a => ?_)
  · rw [if_pos a] at h; exact h
  rw [if_neg a] at h
  refine br_c (fun a => ?_) (fun a => ?_)
  · rw [if_pos a] at h; exact h
  rw [if_neg a] at h
  refine br_c (fun a => ?_) (fun a => ?_)
  · rw [if_pos a] at h; exact h
  rw [if_neg a] at h
  refine br_c (fun a => ?_) (fun a => ?_)
  · rw [if_pos a] at h; exact h
  rw [if_neg a] at h
  refine br_c (fun a => ?_) (fun a => ?_)
  · rw [if_pos a] at h; exact h
  rw [if_neg a] at h
  refine br_c (fun a => ?_) (fun a => ?_)
  · rw [if_pos a] at h; exact h
  rw [if_neg a] at h
  refine br_c (fun a => ?_) (fun a => ?_)
  · rw [if_pos a] at h; exact h
  rw [if_neg a] at h
  refine br_c (fun a => ?_) (fun a => ?_)
  · rw [if_pos a] at h; exact h
  rw [if_neg a] at h
  refine br_c (fun a => ?_) (fun a => ?_)
  · rw [if_pos a] at h; exact h
  rw [if_neg a] at h
  refine br_c (fun a => ?_) (fun a => ?_)
  · rw [if_pos a] at h; exact h
  rw [if_neg a] at h
  refine br_c (fun a => ?_) (fun a => ?_)
  · rw [if_pos a] at h; exact h
  rw [if_neg a] at h
  exact h
section
variable {post : Int64 → SY → Prop} {n i m : Nat} {kd cs f0 : Nat → Int32} {tg : Nat → Nat} {ld fn x2 : Int32} {cur : Int64} {ops loc kon cas to frm pad : Nat → Int32} {off rel : Nat → Int64}
theorem bl_kindAt {post : Int32 → Prop} {k : Int32} (hi : i < n) (hn : n ≤ 10) (hk : bl_kind (ops i &&& 255) = k) (h : post k) : wpY_kindAt post (fn, ld, cur, ops, loc, kon, cas, to, frm, pad, off, rel) (nI i) := by
  refine ⟨bl_vi hi hn, ?_⟩
  rw [bl_cl hi hn]
  refine bl_ykind ?_
  rw [hk]
  exact h
/-- the first forms -/
theorem bl_Y70 {J : Int32 → (Nat → Int32) → (Nat → Int32) → (Nat → Int32) → (Nat → Int32) → (Nat → Int32) → (Nat → Int32) → (Nat → Int32) → (Nat → Int64) → (Nat → Int64) → Prop} {z : Int32}
    (hi : i < n) (hn : n ≤ 10) (hz : z = 0 ∨ z = 1)
    (h : J (nI (i + 1)) ops loc kon cas to (upd frm i z) pad off rel) :
    wY_solve_70 post J (nI i) z fn ld cur ops loc kon cas to frm pad off rel := by
  have hv := bl_vi hi hn
  have ec := bl_cl hi hn
  rcases hz with z0 | z1
  · subst z0
    refine br_t rfl ⟨hv, nm_r (e' := upd frm i 0) ?_ (nm_r (nI_1 i) h)⟩
    rw [ec, pk_vb]; rfl
  · subst z1
    refine br_f (by decide) ⟨hv, nm_r (e' := upd frm i 1) ?_ (nm_r (nI_1 i) h)⟩
    rw [ec, pk_vb]; rfl
theorem bl_Y38 {J : Int32 → (Nat → Int32) → (Nat → Int32) → (Nat → Int32) → (Nat → Int32) → (Nat → Int32) → (Nat → Int32) → (Nat → Int32) → (Nat → Int64) → (Nat → Int64) → Prop} {k v : Int32}
    (hi : i < n) (hn : n ≤ 10)
    (h1 : k = 3 → (kon i < -128 ∨ ¬ kon i ≤ 127) → v = 1)
    (h2 : (k = 3 → ¬ kon i < -128 ∧ kon i ≤ 127) → v = 0)
    (h : J (nI (i + 1)) ops loc kon cas to (upd frm i v) pad off rel) :
    wY_solve_38 post J (nI i) k fn ld cur ops loc kon cas to frm pad off rel := by
  have hv := bl_vi hi hn
  unfold wY_solve_38
  rw [bl_cl hi hn]
  have z65 : v = 1 → wY_solve_65 post J (nI i) fn ld cur ops loc kon cas to frm pad off rel := fun e => bl_Y70 hi hn (Or.inr rfl) (by rw [← e]; exact h)
  have z69 : v = 0 → wY_solve_69 post J (nI i) fn ld cur ops loc kon cas to frm pad off rel := fun e => bl_Y70 hi hn (Or.inl rfl) (by rw [← e]; exact h)
  exact br_c (fun e => ⟨hv, br_c (fun a => z65 (h1 e (Or.inl a))) (fun a => ⟨hv, br_c (fun b => z69 (h2 (fun _ => ⟨a, b⟩))) (fun b => z65 (h1 e (Or.inr b)))⟩)⟩) (fun e => z69 (h2 (fun z => absurd z e)))
theorem bl_Y2 (hi : i < n) (hn : n ≤ 10) (L : bl_L n kd cs tg f0 ops loc kon cas to)
    (h : wY_solve_2 post (nI n) ld cur m (nI (i + 1)) ops loc kon cas to (upd frm i (f0 i)) pad off rel) :
    wY_solve_2 post (nI n) ld cur (m + 1) (nI i) ops loc kon cas to frm pad off rel := by
  obtain ⟨hk, h0, hf, _, _⟩ := L i hi
  have hv := bl_vi hi hn
  have h26 : (kd i = 2 ∨ kd i = 3) → wY_solve_26 post (wY_solve_2 post (nI n) ld cur m) (nI i) (kd i) (nI n) ld cur ops loc kon cas to frm pad off rel := by
    intro hk23
    unfold wY_solve_26
    rw [bl_cl hi hn]
    refine ⟨hv, br_c (fun a => ?_) (fun a => bl_Y38 (v := f0 i) hi hn ?_ ?_ h)⟩
    · have e : f0 i = 1 := by
        rw [← hf]
        exact if_pos (Or.inl ⟨hk23, Int32.not_le.mpr a⟩)
      exact bl_Y70 hi hn (Or.inr rfl) (by rw [← e]; exact h)
    · intro e c
      rw [← hf]
      exact if_pos (Or.inr ⟨e, c⟩)
    · intro c
      rw [← hf]
      refine if_neg (fun z => ?_)
      rcases z with z | z
      · exact z.2 (Int32.not_lt.mp a)
      · obtain ⟨c1, c2⟩ := c z.1
        rcases z.2 with z | z
        · exact c1 z
        · exact z c2
  refine br_f (nI_ge hi (by omega)) (bl_kindAt hi hn hk (br_c (fun e => h26 (Or.inl e)) (fun n2 => br_c (fun e => h26 (Or.inr e)) (fun n3 => bl_Y38 (v := f0 i) hi hn ?_ ?_ h))))
  · intro e
    exact absurd e n3
  · intro _
    rw [← hf]
    refine if_neg (fun z => ?_)
    rcases z with z | z
    · rcases z.1 with z | z
      · exact n2 z
      · exact n3 z
    · exact n3 z.1
theorem bl_Y2l (hn : n ≤ 10) (L : bl_L n kd cs tg f0 ops loc kon cas to)
    (hg : ∀ frm, (∀ j, j < n → frm j = f0 j) → ∃ q, wY_solve_97 post (nI n) ld q 0 0 cur ops loc kon cas to frm pad off rel) :
    ∀ d i frm, i + d = n → (∀ j, j < i → frm j = f0 j) → wY_solve_2 post (nI n) ld cur (d + 1) (nI i) ops loc kon cas to frm pad off rel := by
  intro d
  induction d with
  | zero =>
    intro i frm hi h
    have e : i = n := by omega
    subst e
    exact br_t (nI_le (Nat.le_refl _) (by omega)) (hg frm h)
  | succ d ih =>
    intro i frm hi h
    refine bl_Y2 (by omega) hn L (ih (i + 1) _ (by omega) (lt_s (fun j hj => ?_) pk_us))
    rw [pk_un (by omega)]
    exact h j hj
end
section
variable {post : Int64 → SY → Prop} {n i m : Nat} {kd cs f0 : Nat → Int32} {tg : Nat → Nat} {ld fn x2 : Int32} {cur : Int64} {ops loc kon cas to frm pad : Nat → Int32} {off rel : Nat → Int64}
variable {J : Int32 → Int32 → Int64 → (Nat → Int32) → (Nat → Int32) → (Nat → Int32) → (Nat → Int32) → (Nat → Int32) → (Nat → Int32) → (Nat → Int32) → (Nat → Int64) → (Nat → Int64) → Prop}
/-- the padding, byte by byte -/
theorem bl_Y306 {JJ : Int32 → Int64 → (Nat → Int32) → (Nat → Int32) → (Nat → Int32) → (Nat → Int32) → (Nat → Int32) → (Nat → Int32) → (Nat → Int32) → (Nat → Int64) → (Nat → Int64) → Prop} {x4 : Int32}
    (hi : i < n) (hn : n ≤ 10) :
    ∀ q p (C : Int64) (pad : Nat → Int32), p + q ≤ 3 → (C.toBitVec.toNat + q) % 4 = 0 → pad i = nI p →
    (∀ pad', pad' i = nI (p + q) → (∀ j, j ≠ i → pad' j = pad j) → wY_solve_352 post J JJ x2 (nI i) x4 fn ld (C + lN q) ops loc kon cas to frm pad' off rel) →
    wY_solve_306 post J JJ x2 (nI i) x4 fn ld (q + 1) (nI p) C ops loc kon cas to frm pad off rel := by
  intro q
  induction q with
  | zero =>
    intro p C pad hp hC hpad h
    have h2 := h pad hpad (fun _ _ => rfl)
    rw [show C + lN 0 = C from Int64.add_zero C] at h2
    exact br_c (fun _ => h2) (fun _ => ⟨by decide, br_t ((bl_rem4 C).mpr (by omega)) h2⟩)
  | succ q ih =>
    intro p C pad hp hC hpad h
    have hv := bl_vi hi hn
    have ec := bl_cl hi hn
    refine br_f (nI_ge (b := 3) (by omega) (by decide)) ⟨by decide, br_f (fun z => ?_) (nm_e ⟨hv, hv, nm_r (e' := upd pad i (nI (p + 1))) ?_ (nm_r (nI_1 p) (ih (p + 1) (C + 1) _ (by omega) ?_ pk_us ?_))⟩)⟩
    · have := (bl_rem4 C).mp z
      omega
    · rw [ec, hpad, nI_1, pk_vb, lg_i2b_small (by rw [nI_toInt (by omega)]; omega) (by rw [nI_toInt (by omega)]; omega)]
    · have := bl_suc4 C
      omega
    · intro pad' e1 e2
      have h3 := h pad' (by rw [e1]; congr 1; omega) (fun j hj => by rw [e2 j hj, pk_un hj])
      have e : C + 1 + lN q = C + lN (q + 1) := by
        rw [← lN_1, Int64.add_assoc, Int64.add_comm 1]
      rw [e]
      exact h3
/-- the emission: a step -/
theorem bl_Y116 {c : Int64} (hi : i < n) (hn : n ≤ 10) (L : bl_L n kd cs tg f0 ops loc kon cas to)
    (h : ∀ pad', pad' i = bl_pd (kd i) c → (∀ j, j ≠ i → pad' j = pad j) → wY_solve_116 post J x2 (nI n) ld m (nI (i + 1)) (bl_nx (kd i) (cs i) (frm i) c) ops loc kon cas to frm pad' (vp_updL off i c) rel) :
    wY_solve_116 post J x2 (nI n) ld (m + 1) (nI i) c ops loc kon cas to frm pad off rel := by
  obtain ⟨hk, h0, _, hc, _⟩ := L i hi
  have hv := bl_vi hi hn
  have ec := bl_cl hi hn
  have hm : ¬ (kd i = 6 ∨ kd i = 7) → wY_solve_116 post J x2 (nI n) ld m (nI (i + 1)) (bl_nx (kd i) (cs i) (frm i) c) ops loc kon cas to frm (upd pad i (-1)) (vp_updL off i c) rel :=
    fun z => h _ (pk_us.trans (if_neg z).symm) (fun j hj => pk_un hj)
  have q2 : c + 1 + 1 = c + 2 := by rw [Int64.add_assoc]; rfl
  have q3 : c + 1 + 2 = c + 3 := by rw [Int64.add_assoc]; rfl
  have q4 : c + 1 + 3 = c + 4 := by rw [Int64.add_assoc]; rfl
  have q5 : c + 1 + 4 = c + 5 := by rw [Int64.add_assoc]; rfl
  have q6 : c + 1 + 5 = c + 6 := by rw [Int64.add_assoc]; rfl
  have q8 : c + 1 + 7 = c + 8 := by rw [Int64.add_assoc]; rfl
  refine br_f (nI_ge hi (by omega)) (bl_kindAt hi hn hk ⟨hv, nm_r (e' := frm i) (by rw [ec]) (nm_e ⟨hv, nm_r (e' := vp_updL off i c) (by rw [ec]) ⟨hv, nm_r (e' := upd pad i (-1)) (by rw [ec, bl_nbm]) ?_⟩⟩)⟩)
  refine br_c (fun k => ?_) (fun n2 => ?_)
  · have h' := hm (by rw [k]; decide)
    exact br_c (fun f => nm_r (q2.trans (bl_n20 k f)) (nm_r (nI_1 i) h')) (fun f => nm_r (q4.trans (bl_n21 k f)) (nm_r (nI_1 i) h'))
  refine br_c (fun k => ?_) (fun n3 => ?_)
  · have h' := hm (by rw [k]; decide)
    exact br_c (fun f => nm_r (q3.trans (bl_n30 k f)) (nm_r (nI_1 i) h')) (fun f => nm_r (q6.trans (bl_n31 k f)) (nm_r (nI_1 i) h'))
  refine br_c (fun k => ?_) (fun n4 => ?_)
  · have h' := hm (by rw [k]; decide)
    exact br_c (fun f => nm_r (q3.trans (bl_n40 k f)) (nm_r (nI_1 i) h')) (fun f => nm_r (q8.trans (bl_n41 k f)) (nm_r (nI_1 i) h'))
  refine br_c (fun k => ?_) (fun n5 => ?_)
  · have h' := hm (by rw [k]; decide)
    exact br_c (fun f => nm_r (q3.trans (bl_n50 k f)) (nm_r (nI_1 i) h')) (fun f => nm_r (q5.trans (bl_n51 k f)) (nm_r (nI_1 i) h'))
  refine br_c (fun k => ?_) (fun k => ?_)
  · have n6 : ¬ kd i = 6 := fun z => by rw [z] at k; exact absurd k (by decide)
    have n7 : ¬ kd i = 7 := fun z => by rw [z] at k; exact absurd k (by decide)
    have h' := hm (fun z => z.elim n6 n7)
    rw [← bl_n1 n2 n3 n4 n5 n6 n7] at h'
    exact nm_r (nI_1 i) h'
  · have k67 : kd i = 6 ∨ kd i = 7 := by
      rcases bl_kr (ops i &&& 255) with z | z | z | z | z | z | z | z
      · exact absurd (hk.symm.trans z) h0
      · rw [hk] at z; rw [z] at k; exact absurd k (by decide)
      · exact absurd (hk.symm.trans z) n2
      · exact absurd (hk.symm.trans z) n3
      · exact absurd (hk.symm.trans z) n4
      · exact absurd (hk.symm.trans z) n5
      · exact Or.inl (hk.symm.trans z)
      · exact Or.inr (hk.symm.trans z)
    obtain ⟨q, hq, eq, hq4⟩ := bl_padN c
    refine ⟨hv, nm_r (e' := upd (upd pad i (-1)) i 0) (by rw [ec, bl_nb0]) ⟨q + 1, bl_Y306 hi hn q 0 (c + 1) _ (by omega) hq4 (pk_us.trans nI_0.symm) ?_⟩⟩
    intro pad' e1 e2
    have h' := h pad' (by rw [e1, Nat.zero_add, ← eq]; exact (if_pos k67).symm) (fun j hj => by rw [e2 j hj, pk_un hj, pk_un hj])
    have el : lN q = (bl_pad c).toInt64 := by rw [eq, nI_l (by omega)]
    rw [el]
    unfold wY_solve_352
    rw [ec]
    refine br_c (fun k => ⟨hv, nm_r (e' := bl_nx (kd i) (cs i) (frm i) c) ?_ (nm_r (nI_1 i) h')⟩) (fun k => ⟨hv, nm_r (e' := bl_nx (kd i) (cs i) (frm i) c) ?_ (nm_r (nI_1 i) h')⟩)
    · rw [← bl_n6 k, hc k67]
      simp only [Int64.add_assoc]
    · have k7 : kd i = 7 := k67.elim (fun z => absurd z k) id
      rw [← bl_n7 k7, hc k67]
      simp only [Int64.add_assoc]
theorem bl_Y116l {f : Nat → Int32} (hn : n ≤ 10) (L : bl_L n kd cs tg f0 ops loc kon cas to) (hf : ∀ j, j < n → frm j = f j)
    (hg : ∀ pad off, (∀ j, j < n → pad j = bl_pd (kd j) (bl_off kd cs f j)) → (∀ j, j < n → off j = bl_off kd cs f j) →
      ∃ q, wY_solve_416 post J x2 (nI n) ld (bl_off kd cs f n) q (-1) (nI n + (-1)) ops loc kon cas to frm pad off rel) :
    ∀ d i pad off, i + d = n → (∀ j, j < i → pad j = bl_pd (kd j) (bl_off kd cs f j)) → (∀ j, j < i → off j = bl_off kd cs f j) →
      wY_solve_116 post J x2 (nI n) ld (d + 1) (nI i) (bl_off kd cs f i) ops loc kon cas to frm pad off rel := by
  intro d
  induction d with
  | zero =>
    intro i pad off hi hp ho
    have e : i = n := by omega
    subst e
    exact br_t (nI_le (Nat.le_refl _) (by omega)) (nm_r (Int32.sub_eq_add_neg _ _) (hg pad off hp ho))
  | succ d ih =>
    intro i pad off hi hp ho
    refine bl_Y116 (by omega) hn L (fun pad' e1 e2 => ?_)
    rw [hf i (by omega)]
    refine ih (i + 1) _ _ (by omega) (lt_s (fun j hj => ?_) e1) (lt_s (fun j hj => ?_) pk_uLs)
    · rw [e2 j (by omega)]
      exact hp j hj
    · rw [pk_uLn (by omega)]
      exact ho j hj
end
end
section
/-! the reference's search, its rounds, solve and layout -/
def bl_rel (kd cs : Nat → Int32) (tg : Nat → Nat) (f : Nat → Int32) (i : Nat) : Int64 := bl_d kd cs tg f i - (if f i = 2 then 3 else 0)
/-- where no branch stands no distance was ever stored -/
def bl_Z (n : Nat) (kd : Nat → Int32) (rel : Nat → Int64) : Prop := ∀ j, ¬ (j < n ∧ bl_br (kd j)) → rel j = 0
theorem bl_ZU {n i : Nat} {kd : Nat → Int32} {rel : Nat → Int64} {v : Int64} (h : bl_Z n kd rel) (hi : i < n) (hb : bl_br (kd i)) : bl_Z n kd (vp_updL rel i v) := by
  intro j hj
  rw [pk_uLn (fun e => hj (by rw [e]; exact ⟨hi, hb⟩))]
  exact h j hj
section
variable {post : Int64 → SY → Prop} {n i m : Nat} {kd cs f0 : Nat → Int32} {tg : Nat → Nat} {ld fn x2 : Int32} {cur : Int64} {ops loc kon cas to frm pad : Nat → Int32} {off rel : Nat → Int64}
variable {J : Int32 → Int32 → Int64 → (Nat → Int32) → (Nat → Int32) → (Nat → Int32) → (Nat → Int32) → (Nat → Int32) → (Nat → Int32) → (Nat → Int32) → (Nat → Int64) → (Nat → Int64) → Prop}
theorem bl_Y416 {f : Nat → Int32} {w : Int32} (hi : i < n) (hn : n ≤ 10) (L : bl_L n kd cs tg f0 ops loc kon cas to) (hf : ∀ j, j < n → frm j = f j)
    (ho : ∀ j, j < n → off j = bl_off kd cs f j) (ht : ∀ j, j < n → bl_br (kd j) → tg j < n)
    (hr : ¬ bl_br (kd i) → wY_solve_416 post J x2 (nI n) ld cur m w (nI i + (-1)) ops loc kon cas to frm pad off rel)
    (hb : bl_bad kd cs tg f i → wY_solve_416 post J x2 (nI n) ld cur m (nI i) (nI i + (-1)) ops loc kon cas to frm pad off (vp_updL rel i (bl_rel kd cs tg f i)))
    (hg : bl_br (kd i) → ¬ bl_bad kd cs tg f i → wY_solve_416 post J x2 (nI n) ld cur m w (nI i + (-1)) ops loc kon cas to frm pad off (vp_updL rel i (bl_rel kd cs tg f i))) :
    wY_solve_416 post J x2 (nI n) ld cur (m + 1) w (nI i) ops loc kon cas to frm pad off rel := by
  obtain ⟨hk, h0, _, _, htg⟩ := L i hi
  have hv := bl_vi hi hn
  have ec := bl_cl hi hn
  have h439 : bl_br (kd i) → wY_solve_439 post J (wY_solve_416 post J x2 (nI n) ld cur m) w x2 (nI i) (nI n) ld cur ops loc kon cas to frm pad off rel := by
    intro hbr
    obtain ⟨et, lt⟩ := htg hbr
    have lt2 := ht i hi hbr
    have h479 : ∀ z0 z1 : Int64, z1 - z0 = bl_rel kd cs tg f i → (f i = 0 → z1 - z0 = bl_d kd cs tg f i) → wY_solve_479 post J (wY_solve_416 post J x2 (nI n) ld cur m) w x2 (nI i) z0 z1 (nI i) (nI n) ld cur ops loc kon cas to frm pad off rel := by
      intro z0 z1 e1 e2
      unfold wY_solve_479
      rw [ec, e1, hf i hi]
      refine ⟨hv, nm_e (nm_e ⟨hv, br_c (fun ff => ?_) (fun ff => nm_e (hg hbr (fun z => ff z.2.1)))⟩)⟩
      have er : bl_rel kd cs tg f i = bl_d kd cs tg f i := e1.symm.trans (e2 ff)
      refine br_c (fun a => nm_e (hb ⟨hbr, ff, Or.inl (by rw [← er]; exact a)⟩)) (fun a => br_c (fun b => nm_e (hg hbr (fun z => ?_))) (fun b => nm_e (hb ⟨hbr, ff, Or.inr (by rw [← er]; exact b)⟩)))
      rw [er] at a b
      rcases z.2.2 with z | z
      · exact a z
      · exact z b
    unfold wY_solve_439
    rw [ec, et, bl_cl lt2 hn, ho _ lt2, ho i hi, hf i hi]
    refine ⟨hv, bl_vi lt2 hn, hv, hv, br_c (fun a => h479 _ _ ?_ ?_) (fun a => h479 _ _ ?_ ?_)⟩
    · unfold bl_rel; rw [if_pos a]; rfl
    · intro z; rw [z] at a; exact absurd a (by decide)
    · unfold bl_rel; rw [if_neg a]; rfl
    · intro _; exact Int64.sub_zero _
  refine br_f (nI_pos (by omega)) (bl_kindAt hi hn hk (br_c (fun k => h439 (Or.inl k)) (fun k4 => br_c (fun k => h439 (Or.inr k)) (fun k5 => nm_e (hr (fun z => z.elim k4 k5))))))
theorem bl_Y416l {f : Nat → Int32} (hn : n ≤ 10) (L : bl_L n kd cs tg f0 ops loc kon cas to) (hf : ∀ j, j < n → frm j = f j)
    (ho : ∀ j, j < n → off j = bl_off kd cs f j) (ht : ∀ j, j < n → bl_br (kd j) → tg j < n)
    (hd : (∀ j, j < n → ¬ bl_bad kd cs tg f j) → ∀ rel, (∀ j, j < n → bl_br (kd j) → rel j = bl_rel kd cs tg f j) → bl_Z n kd rel → J (-1) (x2 + 1) cur ops loc kon cas to frm pad off rel)
    (hg : ∀ b, b < n → bl_bad kd cs tg f b → (∀ j, j < b → ¬ bl_bad kd cs tg f j) → ∀ rel, bl_Z n kd rel → J (nI b) (x2 + 1) cur ops loc kon cas to (upd frm b (bl_gv (kd b))) pad off rel) :
    ∀ i w rel, i ≤ n → (∀ j, i ≤ j → j < n → bl_br (kd j) → rel j = bl_rel kd cs tg f j) → bl_Z n kd rel →
      ((w = -1 ∧ ∀ j, i ≤ j → j < n → ¬ bl_bad kd cs tg f j) ∨ (∃ b, i ≤ b ∧ b < n ∧ w = nI b ∧ bl_bad kd cs tg f b ∧ ∀ j, i ≤ j → j < b → ¬ bl_bad kd cs tg f j)) →
      wY_solve_416 post J x2 (nI n) ld cur (i + 1) w (nI i + (-1)) ops loc kon cas to frm pad off rel := by
  intro i
  induction i with
  | zero =>
    intro w rel hi hrel hz hw
    refine br_t (by decide) ?_
    rcases hw with ⟨e, hw⟩ | ⟨b, _, hb, e, hbad, hl⟩
    · subst e
      exact br_t (by decide) (nm_e (hd (fun j hj => hw j (by omega) hj) rel (fun j hj => hrel j (by omega) hj) hz))
    · subst e
      obtain ⟨hk, _, _, _, _⟩ := L b hb
      have hv := bl_vi hb hn
      have ec := bl_cl hb hn
      have h := hg b hb hbad (fun j hj => hl j (by omega) hj) rel hz
      have ef : frm b = 0 := (hf b hb).trans hbad.2.1
      refine br_f (nI_pos (by omega)) ⟨hv, bl_kindAt hb hn hk (br_c (fun k => ⟨hv, nm_r (e' := upd frm b (bl_gv (kd b))) ?_ (nm_e h)⟩) (fun k => ⟨hv, nm_r (e' := upd frm b (bl_gv (kd b))) ?_ (nm_e h)⟩))⟩
      · rw [ec, ef, pk_vb]
        unfold bl_gv
        rw [if_pos k]
        rfl
      · rw [ec, ef, pk_vb]
        unfold bl_gv
        rw [if_neg k]
        rfl
  | succ i ih =>
    intro w rel hi hrel hz hw
    rw [pk_m1]
    have hrel2 : bl_br (kd i) → ∀ j, i ≤ j → j < n → bl_br (kd j) → vp_updL rel i (bl_rel kd cs tg f i) j = bl_rel kd cs tg f j := by
      intro _ j h1 h2 h3
      by_cases e : j = i
      · subst e; exact pk_uLs
      · rw [pk_uLn e]; exact hrel j (by omega) h2 h3
    have hlow : ¬ bl_bad kd cs tg f i → ((w = -1 ∧ ∀ j, i ≤ j → j < n → ¬ bl_bad kd cs tg f j) ∨ (∃ b, i ≤ b ∧ b < n ∧ w = nI b ∧ bl_bad kd cs tg f b ∧ ∀ j, i ≤ j → j < b → ¬ bl_bad kd cs tg f j)) := by
      intro hnb
      rcases hw with ⟨e, hw⟩ | ⟨b, h1, hb, e, hbad, hl⟩
      · refine Or.inl ⟨e, fun j h1 h2 => ?_⟩
        by_cases ej : j = i
        · subst ej; exact hnb
        · exact hw j (by omega) h2
      · refine Or.inr ⟨b, by omega, hb, e, hbad, fun j h1 h2 => ?_⟩
        by_cases ej : j = i
        · subst ej; exact hnb
        · exact hl j (by omega) h2
    refine bl_Y416 (by omega) hn L hf ho ht (fun hnb => ?_) (fun hbad => ?_) (fun hbr hnb => ?_)
    · refine ih w rel (by omega) (fun j h1 h2 h3 => ?_) hz (hlow (fun z => hnb z.1))
      by_cases ej : j = i
      · subst ej; exact absurd h3 hnb
      · exact hrel j (by omega) h2 h3
    · exact ih (nI i) _ (by omega) (hrel2 hbad.1) (bl_ZU hz (by omega) hbad.1) (Or.inr ⟨i, Nat.le_refl _, by omega, rfl, hbad, fun j h1 h2 => by omega⟩)
    · exact ih w _ (by omega) (hrel2 hbr) (bl_ZU hz (by omega) hbr) (hlow hnb)
end
section
variable {n : Nat} {kd cs f0 : Nat → Int32} {tg : Nat → Nat} {ld : Int32} {ops loc kon cas to : Nat → Int32}
/-- what the reference's rounds leave -/
def bl_PY (post : Int64 → SY → Prop) (n : Nat) (ld : Int32) (kd cs : Nat → Int32) (tg : Nat → Nat) (F ops loc kon cas to : Nat → Int32) : Prop :=
  ∀ frm pad off rel, (∀ j, j < n → frm j = F j) → (∀ j, j < n → pad j = bl_pd (kd j) (bl_off kd cs F j)) → (∀ j, j < n → off j = bl_off kd cs F j) →
    (∀ j, j < n → bl_br (kd j) → rel j = bl_rel kd cs tg F j) → bl_Z n kd rel →
    post (bl_off kd cs F n) (nI n, ld, bl_off kd cs F n, ops, loc, kon, cas, to, frm, pad, off, rel)
theorem bl_Y97 {post : Int64 → SY → Prop} {F : Nat → Int32} (hn : n ≤ 10) (L : bl_L n kd cs tg f0 ops loc kon cas to) (ht : ∀ j, j < n → bl_br (kd j) → tg j < n)
    (hp : bl_PY post n ld kd cs tg F ops loc kon cas to) :
    ∀ m r f frm pad off rel cur w, r + m = n + 1 → ¬ w < 0 → bl_run n kd cs tg m f F → (∀ j, j < n → frm j = f j) → bl_Z n kd rel →
      wY_solve_97 post (nI n) ld (m + 1) w (nI r) cur ops loc kon cas to frm pad off rel := by
  intro m
  induction m with
  | zero => intro r f frm pad off rel cur w _ _ hr; exact hr.elim
  | succ m ih =>
    intro r f frm pad off rel cur w hm hw hr hf hz
    refine br_f (nI_nlt (by omega) (by omega)) (br_f hw ⟨n + 1, ?_⟩)
    refine bl_Y116l hn L hf (fun pad off hpad ho => ⟨n + 1, ?_⟩) n 0 pad off (by omega) lt_0 lt_0
    refine bl_Y416l hn L hf ho ht (fun hd rel hrel hz => ?_) (fun b hb hbad hl rel hz => ?_) n (-1) rel (Nat.le_refl _) (fun j h1 h2 => by omega) hz (Or.inl ⟨rfl, fun j h1 h2 => by omega⟩)
    · rcases hr with ⟨_, e⟩ | ⟨b, hb, hbad, _, _⟩
      · subst e
        have h := hp frm pad off rel hf hpad ho hrel hz
        exact br_c (fun _ => h) (fun _ => br_t (by decide) h)
      · exact absurd hbad (hd b hb)
    · rcases hr with ⟨hd, _⟩ | ⟨b', hb', hbad', hl', hr⟩
      · exact absurd hbad (hd b hb)
      · have e : b = b' := by
          rcases Nat.lt_trichotomy b b' with z | z | z
          · exact absurd hbad (hl' b z)
          · exact z
          · exact absurd hbad' (hl b' z)
        subst e
        rw [nI_1]
        exact ih (r + 1) _ _ pad off rel _ _ (by omega) (nI_pos (by omega)) hr (bl_agU hf) hz
theorem bl_Ysolve {post : Int64 → SY → Prop} {F frm pad : Nat → Int32} {off rel : Nat → Int64} {cur : Int64} (hn : n ≤ 10) (L : bl_L n kd cs tg f0 ops loc kon cas to) (ht : ∀ j, j < n → bl_br (kd j) → tg j < n)
    (hr : bl_run n kd cs tg (n + 1) f0 F) (hz : bl_Z n kd rel) (hp : bl_PY post n ld kd cs tg F ops loc kon cas to) :
    wpY_solve post (nI n, ld, cur, ops, loc, kon, cas, to, frm, pad, off, rel) :=
  ⟨n + 1, bl_Y2l hn L (fun frm hf => ⟨n + 2, bl_Y97 hn L ht hp (n + 1) 0 f0 frm pad off rel cur 0 (by omega) (by decide) hr hf hz⟩) n 0 frm (by omega) lt_0⟩
theorem bl_Y17 {post : Int32 → SY → Prop} {i m : Nat} {frm pad : Nat → Int32} {off rel : Nat → Int64} {cur : Int64} (hi : i < n) (hn : n ≤ 10) (L : bl_L n kd cs tg f0 ops loc kon cas to)
    (hb : bl_br (kd i) → n ≤ tg i → post (-3) (nI n, ld, cur, ops, loc, kon, cas, to, frm, pad, off, rel))
    (hg : (bl_br (kd i) → tg i < n) → wY_layout_17 post (nI n) ld cur ops loc kon cas to frm pad off rel m (nI (i + 1))) :
    wY_layout_17 post (nI n) ld cur ops loc kon cas to frm pad off rel (m + 1) (nI i) := by
  obtain ⟨hk, h0, _, _, ht⟩ := L i hi
  have h41 : bl_br (kd i) → wY_layout_41 post (wY_layout_17 post (nI n) ld cur ops loc kon cas to frm pad off rel m) (nI i) (nI n) ld cur ops loc kon cas to frm pad off rel := by
    intro hbr
    obtain ⟨et, lt⟩ := ht hbr
    refine ⟨bl_vi hi hn, ?_⟩
    rw [bl_cl hi hn, et, nI_ltI (by omega) (by omega)]
    exact br_c (fun a => nm_r (nI_1 i) (hg (fun _ => a))) (fun a => hb hbr (by omega))
  exact br_f (nI_ge hi (by omega)) (bl_kindAt hi hn hk (br_c (fun k => h41 (Or.inl k)) (fun k4 => br_c (fun k => h41 (Or.inr k)) (fun k5 => nm_r (nI_1 i) (hg (fun z => absurd z (fun z => z.elim k4 k5)))))))
theorem bl_Y17l {post : Int32 → SY → Prop} {frm pad : Nat → Int32} {off rel : Nat → Int64} {cur : Int64} (hn : n ≤ 10) (L : bl_L n kd cs tg f0 ops loc kon cas to)
    (hb : (∃ j, j < n ∧ bl_br (kd j) ∧ n ≤ tg j) → post (-3) (nI n, ld, cur, ops, loc, kon, cas, to, frm, pad, off, rel))
    (hg : (∀ j, j < n → bl_br (kd j) → tg j < n) → ∀ m, wY_layout_17 post (nI n) ld cur ops loc kon cas to frm pad off rel (m + 1) (nI n)) :
    ∀ d i, i + d = n → (∀ j, j < i → bl_br (kd j) → tg j < n) → wY_layout_17 post (nI n) ld cur ops loc kon cas to frm pad off rel (d + 1) (nI i) := by
  intro d
  induction d with
  | zero =>
    intro i hi h
    have e : i = n := by omega
    subst e
    exact hg h 0
  | succ d ih =>
    intro i hi h
    exact bl_Y17 (i := i) (by omega) hn L (fun a b => hb ⟨i, by omega, a, b⟩) (fun a => ih (i + 1) (by omega) (lt_s h a))
theorem bl_Ylay {post : Int32 → SY → Prop} {frm pad : Nat → Int32} {off rel : Nat → Int64} {cur : Int64} (hn : n ≤ 10) (L : bl_L n kd cs tg f0 ops loc kon cas to) (hz : bl_Z n kd rel)
    (h0 : n = 0 → post (-2) (nI n, 0, cur, ops, loc, kon, cas, to, frm, pad, off, rel))
    (hb : 0 < n → (∃ j, j < n ∧ bl_br (kd j) ∧ n ≤ tg j) → post (-3) (nI n, 0, cur, ops, loc, kon, cas, to, frm, pad, off, rel))
    (hg : 0 < n → (∀ j, j < n → bl_br (kd j) → tg j < n) → ∃ F, bl_run n kd cs tg (n + 1) f0 F ∧
      bl_PY (fun r v => post (if r ≤ 65535 then r.toInt32 else -1) v) n 1 kd cs tg F ops loc kon cas to) :
    wpY_layout post (nI n, ld, cur, ops, loc, kon, cas, to, frm, pad, off, rel) := by
  by_cases e : n = 0
  · subst e
    exact br_t nI_0 (h0 rfl)
  · refine br_f (nI_ne0 (by omega) (by omega)) ⟨n + 1, bl_Y17l hn L (hb (by omega)) (fun ht m => ?_) n 0 (by omega) lt_0⟩
    obtain ⟨F, hr, hp⟩ := hg (by omega) ht
    refine br_t (nI_le (Nat.le_refl _) (by omega)) (bl_Ysolve hn L ht hr hz ?_)
    intro frm pad off rel h1 h2 h3 h4 h5
    have h := hp frm pad off rel h1 h2 h3 h4 h5
    dsimp only at h
    refine br_c (fun a => ?_) (fun a => ?_)
    · rw [if_pos a] at h; exact h
    · rw [if_neg a] at h; exact h
end
end
section
/-! add, on both sides -/
def bl_O2 (v : Int32) : Prop := ¬ v < 0 ∧ v ≤ 65535
def bl_O4 (v : Int32) : Prop := ¬ v < -32768 ∧ v ≤ 32767
def bl_O3 (v : Int32) : Prop := ¬ v < 0 ∧ v ≤ 9
/-- the answer's case: 1 taken, else the refusal -/
def bl_Ans (k v2 v3 v4 r : Int32) : Prop :=
  (k = 0 ∧ r = -2) ∨ ((k = 2 ∨ k = 3) ∧ ¬ bl_O2 v2 ∧ r = -3) ∨ (k = 3 ∧ bl_O2 v2 ∧ ¬ bl_O4 v4 ∧ r = -4) ∨
  (bl_br k ∧ ¬ bl_O3 v3 ∧ r = -5) ∨ (((k = 6 ∧ v4 < 1) ∨ (k = 7 ∧ ¬ 0 ≤ v4)) ∧ r = -6)
def bl_Ok (k v2 v3 v4 : Int32) : Prop :=
  k ≠ 0 ∧ ((k = 2 ∨ k = 3) → bl_O2 v2) ∧ (k = 3 → bl_O4 v4) ∧ (bl_br k → bl_O3 v3) ∧ (k = 6 → ¬ v4 < 1) ∧ (k = 7 → 0 ≤ v4)
theorem bl_i36 {k : Int32} {P : Prop} (h : k = 2 ∨ k = 3) (g : bl_br k) : P := by
  rcases h with h | h <;> subst h <;> rcases g with g | g <;> exact absurd g (by decide)
theorem bl_AnsOk {k v2 v3 v4 r : Int32} (h : bl_Ans k v2 v3 v4 r) (g : bl_Ok k v2 v3 v4) : False := by
  obtain ⟨g0, g2, g4, g3, g6, g7⟩ := g
  rcases h with ⟨h, _⟩ | ⟨h, a, _⟩ | ⟨h, _, a, _⟩ | ⟨h, a, _⟩ | ⟨h, _⟩
  · exact g0 h
  · exact a (g2 h)
  · exact a (g4 h)
  · exact a (g3 h)
  · rcases h with ⟨h, a⟩ | ⟨h, a⟩
    · exact g6 h a
    · exact a (g7 h)
theorem bl_AnsU {k v2 v3 v4 r s : Int32} (h : bl_Ans k v2 v3 v4 r) (g : bl_Ans k v2 v3 v4 s) : s = r := by
  rcases h with ⟨h, e⟩ | ⟨h, a, e⟩ | ⟨h, a', a, e⟩ | ⟨h, a, e⟩ | ⟨h, e⟩ <;> rcases g with ⟨g, e'⟩ | ⟨g, b, e'⟩ | ⟨g, b', b, e'⟩ | ⟨g, b, e'⟩ | ⟨g, e'⟩
  all_goals first | exact e'.trans e.symm | exact absurd a' b | exact absurd b' a | exfalso
  all_goals first | (have h' : (_ ∧ _) ∨ (_ ∧ _) := h; rcases h' with ⟨h', _⟩ | ⟨h', _⟩) | (have h' : _ ∨ _ := h; rcases h' with h' | h') | have h' := h
  all_goals first | (have g' : (_ ∧ _) ∨ (_ ∧ _) := g; rcases g' with ⟨g', _⟩ | ⟨g', _⟩) | (have g' : _ ∨ _ := g; rcases g' with g' | g') | have g' := g
  all_goals exact absurd (h'.symm.trans g') (by decide)
theorem bl_char {v : Int32} : (v.toUInt32 % 65536).toInt32 = v ↔ bl_O2 v := by
  refine ⟨fun e => ?_, fun h => ?_⟩
  · rw [← e, pk_char]
    exact ⟨nI_pos (by omega), nI_le (b := 65535) (by omega) (by decide)⟩
  · obtain ⟨j, hj, rfl⟩ := nI_of2 (M := 65535) (n := 65535) (by decide) h.1 h.2
    rw [pk_char, pk_tn (by omega), Nat.mod_eq_of_lt (by omega)]
theorem bl_short {v : Int32} : v.toInt16.toInt32 = v ↔ bl_O4 v := by
  have c1 : (-32768 : Int32).toInt = -32768 := by decide
  have c2 : (32767 : Int32).toInt = 32767 := by decide
  unfold bl_O4
  rw [Int32.lt_iff_toInt_lt, Int32.le_iff_toInt_le, c1, c2]
  refine ⟨fun e => ?_, fun h => ?_⟩
  · have hr := lg_i2s_range v
    rw [e] at hr
    omega
  · exact lg_i2s_small (by omega) (by omega)
theorem bl_O3t {v : Int32} : (¬ v < 0 ∧ v < 10) ↔ bl_O3 v := by
  have c1 : (9 : Int32).toInt = 9 := by decide
  have c2 : (10 : Int32).toInt = 10 := by decide
  unfold bl_O3
  rw [Int32.lt_iff_toInt_lt (x := v) (y := 10), Int32.le_iff_toInt_le, c1, c2]
  refine ⟨fun h => ⟨h.1, by omega⟩, fun h => ⟨h.1, by omega⟩⟩
section
variable {post : Int32 → SX → Prop} {n : Nat} {rd : Int32} {op opd kon nca tgt frm : Nat → Int32} {off : Nat → Int64} {v1 v2 v3 v4 k : Int32}
theorem bl_A81 {x5 x6 x7 x8 x9 : Int32} (hn : n < 10) (hk : bl_kind v1 = k) (h5 : ¬ x5 = 0 ↔ k = 2) (h6 : ¬ x6 = 0 ↔ k = 3) (h7 : ¬ x7 = 0 ↔ bl_br k) (h8 : ¬ x8 = 0 ↔ k = 6) (h9 : ¬ x9 = 0 ↔ k = 7)
    (hF : ∀ r, bl_Ans k v2 v3 v4 r → post r (nI n, rd, op, opd, kon, nca, tgt, off, frm))
    (hS : bl_Ok k v2 v3 v4 → ∀ O K C T off' frm', ((k = 2 ∨ k = 3) → O = vp_nar .char ((v2.toUInt32 % 65536).toInt32)) → (k = 3 → K = vp_nar .short v4.toInt16.toInt32) → ((k = 6 ∨ k = 7) → C = v4) → (bl_br k → T = vp_nar .byte v3.toInt8.toInt32) →
      post (nI n) (nI (n + 1), 0, upd op n (vp_nar .byte v1.toInt8.toInt32), upd opd n O, upd kon n K, upd nca n C, upd tgt n T, off', frm')) :
    wX_add_81 post v1 v2 v3 v4 x5 x6 x7 x8 x9 (nI n) rd op opd kon nca tgt off frm := by
  have hv : vp_in (nI n) 10 := bl_vi hn (Nat.le_refl _)
  have ec : (nI n).toNatClampNeg = n := bl_cl hn (Nat.le_refl _)
  have h301 : ∀ op1 opd1 kon1 nca1 z, (∀ off' frm', post (nI n) (nI (n + 1), 0, op1, opd1, kon1, nca1, upd tgt n (vp_nar .byte z), off', frm')) → wX_add_301 post (nI n) z (nI n) (nI n) rd op1 opd1 kon1 nca1 tgt off frm := by
    intro op1 opd1 kon1 nca1 z h
    exact ⟨hv, nm_r (e' := upd tgt n (vp_nar .byte z)) (by rw [ec]) ⟨hv, nm_e ⟨hv, nm_e (nm_r (nI_1 n) (h _ _))⟩⟩⟩
  have h283 : ∀ op1 opd1 kon1 z, ((k = 6 ∨ k = 7) → z = v4) → (∀ C T off' frm', ((k = 6 ∨ k = 7) → C = v4) → (bl_br k → T = vp_nar .byte v3.toInt8.toInt32) → post (nI n) (nI (n + 1), 0, op1, opd1, kon1, upd nca n C, upd tgt n T, off', frm')) →
      wX_add_283 post v3 x7 (nI n) z (nI n) (nI n) rd op1 opd1 kon1 nca tgt off frm := by
    intro op1 opd1 kon1 z hz h
    refine ⟨hv, nm_r (e' := upd nca n z) (by rw [ec]) (br_c (fun a => h301 _ _ _ _ _ (fun off' frm' => h z _ off' frm' hz (fun b => absurd a (h7.mpr b)))) (fun a => h301 _ _ _ _ _ (fun off' frm' => h z _ off' frm' hz (fun _ => rfl))))⟩
  have h260 : ∀ op1 opd1 z, (k = 3 → z = v4.toInt16.toInt32) → (∀ K C T off' frm', (k = 3 → K = vp_nar .short v4.toInt16.toInt32) → ((k = 6 ∨ k = 7) → C = v4) → (bl_br k → T = vp_nar .byte v3.toInt8.toInt32) → post (nI n) (nI (n + 1), 0, op1, opd1, upd kon n K, upd nca n C, upd tgt n T, off', frm')) →
      wX_add_260 post v3 v4 x7 x8 x9 (nI n) z (nI n) (nI n) rd op1 opd1 kon nca tgt off frm := by
    intro op1 opd1 z hz h
    have hK : k = 3 → vp_nar .short z = vp_nar .short v4.toInt16.toInt32 := fun e => by rw [hz e]
    refine ⟨hv, nm_r (e' := upd kon n (vp_nar .short z)) (by rw [ec]) (br_c (fun a => br_c (fun b => h283 _ _ _ _ (fun c => ?_) (fun C T off' frm' hC hT => h _ C T off' frm' hK hC hT)) (fun b => h283 _ _ _ _ (fun _ => rfl) (fun C T off' frm' hC hT => h _ C T off' frm' hK hC hT))) (fun a => h283 _ _ _ _ (fun _ => rfl) (fun C T off' frm' hC hT => h _ C T off' frm' hK hC hT)))⟩
    rcases c with c | c
    · exact absurd a (h8.mpr c)
    · exact absurd b (h9.mpr c)
  have h241 : ∀ op1 z, ((k = 2 ∨ k = 3) → z = (v2.toUInt32 % 65536).toInt32) → (∀ O K C T off' frm', ((k = 2 ∨ k = 3) → O = vp_nar .char ((v2.toUInt32 % 65536).toInt32)) → (k = 3 → K = vp_nar .short v4.toInt16.toInt32) → ((k = 6 ∨ k = 7) → C = v4) → (bl_br k → T = vp_nar .byte v3.toInt8.toInt32) → post (nI n) (nI (n + 1), 0, op1, upd opd n O, upd kon n K, upd nca n C, upd tgt n T, off', frm')) →
      wX_add_241 post v3 v4 x6 x7 x8 x9 (nI n) z (nI n) (nI n) rd op1 opd kon nca tgt off frm := by
    intro op1 z hz h
    have hO : (k = 2 ∨ k = 3) → vp_nar .char z = vp_nar .char ((v2.toUInt32 % 65536).toInt32) := fun e => by rw [hz e]
    refine ⟨hv, nm_r (e' := upd opd n (vp_nar .char z)) (by rw [ec]) (br_c (fun a => h260 _ _ _ (fun c => absurd a (h6.mpr c)) (fun K C T off' frm' hK hC hT => h _ K C T off' frm' hO hK hC hT)) (fun a => h260 _ _ _ (fun c => rfl) (fun K C T off' frm' hK hC hT => h _ K C T off' frm' hO hK hC hT)))⟩
  have h204 : bl_Ok k v2 v3 v4 → wX_add_204 post v1 v2 v3 v4 x5 x6 x7 x8 x9 (nI n) rd op opd kon nca tgt off frm := by
    intro ok
    have h := hS ok
    refine ⟨hv, nm_r (e' := upd op n (vp_nar .byte v1.toInt8.toInt32)) (by rw [ec]) (br_c (fun a => br_c (fun b => h241 _ _ (fun c => ?_) h) (fun b => h241 _ _ (fun _ => rfl) h)) (fun a => h241 _ _ (fun _ => rfl) h))⟩
    rcases c with c | c
    · exact absurd a (h5.mpr c)
    · exact absurd b (h6.mpr c)
  have f6 : ((k = 6 ∧ v4 < 1) ∨ (k = 7 ∧ ¬ 0 ≤ v4)) → post (-6) (nI n, rd, op, opd, kon, nca, tgt, off, frm) := fun c => hF _ (Or.inr (Or.inr (Or.inr (Or.inr ⟨c, rfl⟩))))
  have h180 : k ≠ 0 → ((k = 2 ∨ k = 3) → bl_O2 v2) → (k = 3 → bl_O4 v4) → (bl_br k → bl_O3 v3) → wX_add_180 post v1 v2 v3 v4 x5 x6 x7 x8 x9 (nI n) rd op opd kon nca tgt off frm := by
    intro g0 g2 g4 g3
    have h191 : (k = 6 → ¬ v4 < 1) → wX_add_191 post v1 v2 v3 v4 x5 x6 x7 x8 x9 (nI n) rd op opd kon nca tgt off frm := by
      intro g6
      exact br_c (fun a => h204 ⟨g0, g2, g4, g3, g6, fun z => absurd a (h9.mpr z)⟩) (fun a => br_c (fun b => h204 ⟨g0, g2, g4, g3, g6, fun _ => b⟩) (fun b => f6 (Or.inr ⟨h9.mp a, b⟩)))
    exact br_c (fun a => h191 (fun z => absurd a (h8.mpr z))) (fun a => br_c (fun b => f6 (Or.inl ⟨h8.mp a, b⟩)) (fun b => h191 (fun _ => b)))
  have f5 : bl_br k → ¬ bl_O3 v3 → post (-5) (nI n, rd, op, opd, kon, nca, tgt, off, frm) := fun c d => hF _ (Or.inr (Or.inr (Or.inr (Or.inl ⟨c, d, rfl⟩))))
  have f4 : k = 3 → bl_O2 v2 → ¬ bl_O4 v4 → post (-4) (nI n, rd, op, opd, kon, nca, tgt, off, frm) := fun c d e => hF _ (Or.inr (Or.inr (Or.inl ⟨c, d, e, rfl⟩)))
  have f3 : (k = 2 ∨ k = 3) → ¬ bl_O2 v2 → post (-3) (nI n, rd, op, opd, kon, nca, tgt, off, frm) := fun c d => hF _ (Or.inr (Or.inl ⟨c, d, rfl⟩))
  have h162 : k ≠ 0 → ((k = 2 ∨ k = 3) → bl_O2 v2) → (k = 3 → bl_O4 v4) → wX_add_162 post v1 v2 v3 v4 x5 x6 x7 x8 x9 (nI n) rd op opd kon nca tgt off frm := by
    intro g0 g2 g4
    exact br_c (fun a => h180 g0 g2 g4 (fun z => absurd a (h7.mpr z))) (fun a => br_c (fun b => f5 (h7.mp a) (fun z => z.1 b)) (fun b => br_c (fun c => h180 g0 g2 g4 (fun _ => ⟨b, c⟩)) (fun c => f5 (h7.mp a) (fun z => c z.2))))
  have h138 : k ≠ 0 → ((k = 2 ∨ k = 3) → bl_O2 v2) → wX_add_138 post v1 v2 v3 v4 x5 x6 x7 x8 x9 (nI n) rd op opd kon nca tgt off frm := by
    intro g0 g2
    exact br_c (fun a => h162 g0 g2 (fun z => absurd a (h6.mpr z))) (fun a => br_c (fun b => f4 (h6.mp a) (g2 (Or.inr (h6.mp a))) (fun z => z.1 b)) (fun b => br_c (fun c => h162 g0 g2 (fun _ => ⟨b, c⟩)) (fun c => f4 (h6.mp a) (g2 (Or.inr (h6.mp a))) (fun z => c z.2))))
  have h125 : (k = 2 ∨ k = 3) → wX_add_125 post v1 v2 v3 v4 x5 x6 x7 x8 x9 (nI n) rd op opd kon nca tgt off frm := by
    intro g
    have g0 : k ≠ 0 := by
      rcases g with g | g <;> rw [g] <;> decide
    exact br_c (fun b => f3 g (fun z => z.1 b)) (fun b => br_c (fun c => h138 g0 (fun _ => ⟨b, c⟩)) (fun c => f3 g (fun z => c z.2)))
  have h115 : k ≠ 0 → wX_add_115 post v1 v2 v3 v4 x5 x6 x7 x8 x9 (nI n) rd op opd kon nca tgt off frm := by
    intro g0
    refine br_c (fun a => br_c (fun b => h138 g0 (fun c => ?_)) (fun b => h125 (Or.inr (h6.mp b)))) (fun a => h125 (Or.inl (h5.mp a)))
    rcases c with c | c
    · exact absurd a (h5.mpr c)
    · exact absurd b (h6.mpr c)
  refine br_c (fun a => h115 ?_) (fun a => br_c (fun b5 => br_c (fun b6 => br_c (fun b7 => br_c (fun b8 => br_c (fun b9 => hF _ (Or.inl ⟨?_, rfl⟩)) (fun b9 => h115 ?_)) (fun b8 => h115 ?_)) (fun b7 => h115 ?_)) (fun b6 => h115 ?_)) (fun b5 => h115 ?_))
  · rw [← hk, bl_k1.mpr a]; decide
  · rcases bl_kr v1 with z | z | z | z | z | z | z | z
    · exact hk.symm.trans z
    · exact absurd (bl_k1.mp z) a
    · exact absurd b5 (h5.mpr (hk.symm.trans z))
    · exact absurd b6 (h6.mpr (hk.symm.trans z))
    · exact absurd b7 (h7.mpr (Or.inl (hk.symm.trans z)))
    · exact absurd b7 (h7.mpr (Or.inr (hk.symm.trans z)))
    · exact absurd b8 (h8.mpr (hk.symm.trans z))
    · exact absurd b9 (h9.mpr (hk.symm.trans z))
  · rw [h9.mp b9]; decide
  · rw [h8.mp b8]; decide
  · rcases h7.mp b7 with z | z <;> rw [z] <;> decide
  · rw [h6.mp b6]; decide
  · rw [h5.mp b5]; decide
theorem bl_Xadd (hn : n ≤ 10) (hk : bl_kind v1 = k)
    (h10 : n = 10 → post (-1) (nI n, rd, op, opd, kon, nca, tgt, off, frm))
    (hF : n < 10 → ∀ r, bl_Ans k v2 v3 v4 r → post r (nI n, rd, op, opd, kon, nca, tgt, off, frm))
    (hS : n < 10 → bl_Ok k v2 v3 v4 → ∀ O K C T off' frm', ((k = 2 ∨ k = 3) → O = vp_nar .char ((v2.toUInt32 % 65536).toInt32)) → (k = 3 → K = vp_nar .short v4.toInt16.toInt32) → ((k = 6 ∨ k = 7) → C = v4) → (bl_br k → T = vp_nar .byte v3.toInt8.toInt32) →
      post (nI n) (nI (n + 1), 0, upd op n (vp_nar .byte v1.toInt8.toInt32), upd opd n O, upd kon n K, upd nca n C, upd tgt n T, off', frm')) :
    wpX_add post (nI n, rd, op, opd, kon, nca, tgt, off, frm) v1 v2 v3 v4 := by
  by_cases h10' : n = 10
  · subst h10'
    exact br_f (by decide) (h10 rfl)
  have hn : n < 10 := by omega
  have h53 : ∀ x5 x6 x7, (¬ x5 = 0 ↔ k = 2) → (¬ x6 = 0 ↔ k = 3) → (¬ x7 = 0 ↔ bl_br k) → wX_add_53 post v1 v2 v3 v4 x5 x6 x7 (nI n) rd op opd kon nca tgt off frm := by
    intro x5 x6 x7 h5 h6 h7
    have h67 : ∀ x8, (¬ x8 = 0 ↔ k = 6) → wX_add_67 post v1 v2 v3 v4 x5 x6 x7 x8 (nI n) rd op opd kon nca tgt off frm := by
      intro x8 h8
      refine br_c (fun a => bl_A81 hn hk h5 h6 h7 h8 ?_ (hF hn) (hS hn)) (fun a => bl_A81 hn hk h5 h6 h7 h8 ?_ (hF hn) (hS hn))
      · exact ⟨fun _ => hk.symm.trans (bl_k7.mpr a), fun _ => by decide⟩
      · exact ⟨fun z => absurd rfl z, fun z => absurd (bl_k7.mp (hk.trans z)) a⟩
    refine br_c (fun a => h67 _ ?_) (fun a => h67 _ ?_)
    · exact ⟨fun _ => hk.symm.trans (bl_k6.mpr a), fun _ => by decide⟩
    · exact ⟨fun z => absurd rfl z, fun z => absurd (bl_k6.mp (hk.trans z)) a⟩
  have h30 : ∀ x5 x6, (¬ x5 = 0 ↔ k = 2) → (¬ x6 = 0 ↔ k = 3) → wX_add_30 post v1 v2 v3 v4 x5 x6 (nI n) rd op opd kon nca tgt off frm := by
    intro x5 x6 h5 h6
    refine bl_isCond (fun a => br_f (by decide) (h53 _ _ _ h5 h6 ?_)) (fun a => br_t rfl (bl_isJump (fun b => br_f (by decide) (h53 _ _ _ h5 h6 ?_)) (fun b => br_t rfl (h53 _ _ _ h5 h6 ?_))))
    · exact ⟨fun _ => Or.inl (hk.symm.trans a), fun _ => by decide⟩
    · exact ⟨fun _ => Or.inr (hk.symm.trans b), fun _ => by decide⟩
    · exact ⟨fun z => absurd rfl z, fun z => z.elim (fun z => absurd (hk.trans z) a) (fun z => absurd (hk.trans z) b)⟩
  have hi : ∀ x5, (¬ x5 = 0 ↔ k = 2) → ((v1 = 132 → wX_add_30 post v1 v2 v3 v4 x5 1 (nI n) rd op opd kon nca tgt off frm) ∧ (¬ v1 = 132 → wX_add_30 post v1 v2 v3 v4 x5 0 (nI n) rd op opd kon nca tgt off frm)) := by
    intro x5 h5
    refine br_c (fun a => h30 _ _ h5 ?_) (fun a => h30 _ _ h5 ?_)
    · exact ⟨fun _ => hk.symm.trans (bl_k3.mpr a), fun _ => by decide⟩
    · exact ⟨fun z => absurd rfl z, fun z => absurd (bl_k3.mp (hk.trans z)) a⟩
  refine br_t (nI_lt (b := 10) hn (by decide)) (bl_isLocal (fun a => hi 1 ?_) (fun a => hi 0 ?_))
  · exact ⟨fun _ => hk.symm.trans a, fun _ => by decide⟩
  · exact ⟨fun z => absurd rfl z, fun z => absurd (hk.trans z) a⟩
end
section
variable {post : Int32 → SY → Prop} {n : Nat} {ld : Int32} {cur : Int64} {ops loc kon cas to frm pad : Nat → Int32} {off rel : Nat → Int64} {v1 v2 v3 v4 k : Int32}
theorem bl_Yadd (hn : n ≤ 10) (hk : bl_kind v1 = k)
    (h10 : n = 10 → post (-1) (nI n, ld, cur, ops, loc, kon, cas, to, frm, pad, off, rel))
    (hF : n < 10 → ∀ r, bl_Ans k v2 v3 v4 r → ∀ loc' kon', (∀ j, j < n → loc' j = loc j) → (∀ j, j < n → kon' j = kon j) → post r (nI n, ld, cur, ops, loc', kon', cas, to, frm, pad, off, rel))
    (hS : n < 10 → bl_Ok k v2 v3 v4 → ∀ loc' kon', (∀ j, j < n → loc' j = loc j) → (∀ j, j < n → kon' j = kon j) → ((k = 2 ∨ k = 3) → loc' n = vp_nar .char ((v2.toUInt32 % 65536).toInt32)) → (k = 3 → kon' n = vp_nar .short v4.toInt16.toInt32) →
      post (nI n) (nI (n + 1), 0, cur, upd ops n (vp_nar .byte v1.toInt8.toInt32), loc', kon', upd cas n v4, upd to n (vp_nar .byte v3.toInt8.toInt32), frm, pad, off, rel)) :
    wpY_add post (nI n, ld, cur, ops, loc, kon, cas, to, frm, pad, off, rel) v1 v2 v3 v4 := by
  by_cases h10' : n = 10
  · subst h10'
    exact br_f (by decide) (h10 rfl)
  have hn : n < 10 := by omega
  have hF := hF hn
  have hS := hS hn
  have hv : vp_in (nI n) 10 := bl_vi hn (Nat.le_refl _)
  have ec : (nI n).toNatClampNeg = n := bl_cl hn (Nat.le_refl _)
  have h83 : ∀ loc' kon', (∀ j, j < n → loc' j = loc j) → (∀ j, j < n → kon' j = kon j) → ((k = 2 ∨ k = 3) → loc' n = vp_nar .char ((v2.toUInt32 % 65536).toInt32)) → (k = 3 → kon' n = vp_nar .short v4.toInt16.toInt32) →
      k ≠ 0 → ((k = 2 ∨ k = 3) → bl_O2 v2) → (k = 3 → bl_O4 v4) → wY_add_83 post v1 v3 v4 k (nI n) ld cur ops loc' kon' cas to frm pad off rel := by
    intro loc' kon' hl hq hl2 hq2 g0 g2 g4
    have f5 : bl_br k → ¬ bl_O3 v3 → post (-5) (nI n, ld, cur, ops, loc', kon', cas, to, frm, pad, off, rel) := fun c d => hF _ (Or.inr (Or.inr (Or.inr (Or.inl ⟨c, d, rfl⟩)))) loc' kon' hl hq
    have f6 : ((k = 6 ∧ v4 < 1) ∨ (k = 7 ∧ ¬ 0 ≤ v4)) → post (-6) (nI n, ld, cur, ops, loc', kon', cas, to, frm, pad, off, rel) := fun c => hF _ (Or.inr (Or.inr (Or.inr (Or.inr ⟨c, rfl⟩)))) loc' kon' hl hq
    have h136 : bl_Ok k v2 v3 v4 → wY_add_136 post v1 v3 v4 (nI n) ld cur ops loc' kon' cas to frm pad off rel := by
      intro ok
      exact ⟨hv, nm_r (e' := upd ops n (vp_nar .byte v1.toInt8.toInt32)) (by rw [ec]) ⟨hv, nm_r (e' := upd cas n v4) (by rw [ec]) ⟨hv, nm_r (e' := upd to n (vp_nar .byte v3.toInt8.toInt32)) (by rw [ec]) (nm_r (nI_1 n) (hS ok loc' kon' hl hq hl2 hq2))⟩⟩⟩
    have h108 : (bl_br k → bl_O3 v3) → wY_add_108 post v1 v3 v4 k (nI n) ld cur ops loc' kon' cas to frm pad off rel := by
      intro g3
      have h121 : (k = 6 → ¬ v4 < 1) → wY_add_121 post v1 v3 v4 k (nI n) ld cur ops loc' kon' cas to frm pad off rel := by
        intro g6
        exact br_c (fun a => br_c (fun b => h136 ⟨g0, g2, g4, g3, g6, fun _ => b⟩) (fun b => f6 (Or.inr ⟨a, b⟩))) (fun a => h136 ⟨g0, g2, g4, g3, g6, fun z => absurd z a⟩)
      exact br_c (fun a => br_c (fun b => f6 (Or.inl ⟨a, b⟩)) (fun b => h121 (fun _ => b))) (fun a => h121 (fun z => absurd z a))
    have h95 : bl_br k → wY_add_95 post v1 v3 v4 k (nI n) ld cur ops loc' kon' cas to frm pad off rel := by
      intro hb
      exact br_c (fun a => f5 hb (fun z => z.1 a)) (fun a => br_c (fun b => h108 (fun _ => bl_O3t.mp ⟨a, b⟩)) (fun b => f5 hb (fun z => b (bl_O3t.mpr z).2)))
    exact br_c (fun a => h95 (Or.inl a)) (fun a => br_c (fun b => h95 (Or.inr b)) (fun b => h108 (fun z => absurd z (fun z => z.elim a b))))
  have h56 : ∀ loc', (∀ j, j < n → loc' j = loc j) → ((k = 2 ∨ k = 3) → loc' n = vp_nar .char ((v2.toUInt32 % 65536).toInt32)) →
      k ≠ 0 → ((k = 2 ∨ k = 3) → bl_O2 v2) → wY_add_56 post v1 v3 v4 k (nI n) ld cur ops loc' kon cas to frm pad off rel := by
    intro loc' hl hl2 g0 g2
    have hq : ∀ j, j < n → upd kon n (vp_nar .short v4.toInt16.toInt32) j = kon j := fun j hj => pk_un (by omega)
    exact br_c (fun e => ⟨hv, nm_r (e' := upd kon n (vp_nar .short v4.toInt16.toInt32)) (by rw [ec]) (br_c (fun a => h83 _ _ hl hq hl2 (fun _ => pk_us) g0 g2 (fun _ => bl_short.mp a)) (fun a => hF _ (Or.inr (Or.inr (Or.inl ⟨e, g2 (Or.inr e), fun z => a (bl_short.mpr z), rfl⟩))) _ _ hl hq))⟩) (fun e => h83 _ _ hl (fun _ _ => rfl) hl2 (fun z => absurd z e) g0 g2 (fun z => absurd z e))
  have h37 : (k = 2 ∨ k = 3) → wY_add_37 post v1 v2 v3 v4 k (nI n) ld cur ops loc kon cas to frm pad off rel := by
    intro g
    have g0 : k ≠ 0 := by
      rcases g with g | g <;> rw [g] <;> decide
    have hq : ∀ j, j < n → upd loc n (vp_nar .char ((v2.toUInt32 % 65536).toInt32)) j = loc j := fun j hj => pk_un (by omega)
    exact ⟨hv, nm_r (e' := upd loc n (vp_nar .char ((v2.toUInt32 % 65536).toInt32))) (by rw [ec]) (br_c (fun a => h56 _ hq (fun _ => pk_us) g0 (fun _ => bl_char.mp a)) (fun a => hF _ (Or.inr (Or.inl ⟨g, fun z => a (bl_char.mpr z), rfl⟩)) _ _ hq (fun _ _ => rfl)))⟩
  refine br_t (nI_lt (b := 10) hn (by decide)) (bl_ykind ?_)
  rw [hk]
  exact br_c (fun e => hF _ (Or.inl ⟨e, rfl⟩) _ _ (fun _ _ => rfl) (fun _ _ => rfl)) (fun g0 => br_c (fun e => h37 (Or.inl e)) (fun a => br_c (fun e => h37 (Or.inr e)) (fun b => h56 _ (fun _ _ => rfl) (fun z => absurd z (fun z => z.elim a b)) g0 (fun z => absurd z (fun z => z.elim a b)))))
end
end
section
/-! the relation, and what is owed -/
def bl_R (n : Nat) (kd cs : Nat → Int32) (tg : Nat → Nat) (f0 : Nat → Int32) (xoff : Nat → Int64) (xfrm : Nat → Int32) : Prop :=
  (∀ j, j < n → bl_br (kd j) → tg j < n) ∧ ∃ F, bl_run n kd cs tg (n + 1) f0 F ∧ (∀ j, j < n → xfrm j = F j) ∧ (∀ j, j < n → xoff j = bl_off kd cs F j)
/-- one list on both sides; laid out, the component holds the stable forms and their offsets -/
def i_Rel (_ : Nat) (u : SX) (v : SY) : Prop := match u, v with
  | (fc, rd, op, opd, xkon, nca, tgt, xoff, xfrm), (fn, ld, _, ops, loc, kon, cas, to, _, _, _, rel) =>
    ∃ (n : Nat) (kd cs f0 : Nat → Int32) (tg : Nat → Nat), n ≤ 10 ∧ fc = nI n ∧ fn = nI n ∧ ld = rd ∧
      bl_L n kd cs tg f0 op opd xkon nca tgt ∧ bl_L n kd cs tg f0 ops loc kon cas to ∧ bl_Z n kd rel ∧
      (rd = 0 ∨ (rd = 1 ∧ bl_R n kd cs tg f0 xoff xfrm))
theorem i_up {k : Nat} {u : SX} {v : SY} (h : i_Rel k u v) : i_Rel (k + 5) u v := h
theorem i_vc0 : wpX_init (fun u => wpY_init (fun v => i_Rel 0 u v)) :=
  ⟨0, fun _ => 0, fun _ => 0, fun _ => 0, fun _ => 0, by omega, nI_0.symm, nI_0.symm, rfl, lt_0, lt_0, fun _ _ => rfl, Or.inl rfl⟩
theorem bl_Lc {n : Nat} {kd cs f0 : Nat → Int32} {tg : Nat → Nat} {a b c d e b' c' : Nat → Int32} (h : bl_L n kd cs tg f0 a b c d e)
    (hb : ∀ j, j < n → b' j = b j) (hc : ∀ j, j < n → c' j = c j) : bl_L n kd cs tg f0 a b' c' d e := by
  intro j hj
  obtain ⟨h1, h2, h3, h4, h5⟩ := h j hj
  exact ⟨h1, h2, by rw [hb j hj, hc j hj]; exact h3, h4, h5⟩
def bl_tgU (tg : Nat → Nat) (n t : Nat) : Nat → Nat := fun j => if j = n then t else tg j
theorem bl_Ls {n t : Nat} {kd cs f0 : Nat → Int32} {tg : Nat → Nat} {a b c d e a' b' c' d' e' : Nat → Int32} {k q v : Int32} (h : bl_L n kd cs tg f0 a b c d e)
    (ha : ∀ j, j < n → a' j = a j) (hb : ∀ j, j < n → b' j = b j) (hc : ∀ j, j < n → c' j = c j) (hd : ∀ j, j < n → d' j = d j) (he : ∀ j, j < n → e' j = e j)
    (hk : bl_kind (a' n &&& 255) = k) (h0 : k ≠ 0) (hi : bl_ini k (b' n) (c' n) = v) (hq : k = 6 ∨ k = 7 → d' n = q) (ht : bl_br k → e' n = nI t ∧ t < 10) :
    bl_L (n + 1) (upd kd n k) (upd cs n q) (bl_tgU tg n t) (upd f0 n v) a' b' c' d' e' := by
  intro j hj
  by_cases ej : j = n
  · subst ej
    rw [pk_us, pk_us, pk_us, show bl_tgU tg j t j = t from if_pos rfl]
    exact ⟨hk, h0, hi, hq, ht⟩
  · have hj2 : j < n := by omega
    rw [pk_un ej, pk_un ej, pk_un ej, show bl_tgU tg n t j = tg j from if_neg ej, ha j hj2, hb j hj2, hc j hj2, hd j hj2, he j hj2]
    exact h j hj2
theorem bl_Zs {n : Nat} {kd : Nat → Int32} {rel : Nat → Int64} {k : Int32} (h : bl_Z n kd rel) : bl_Z (n + 1) (upd kd n k) rel := by
  intro j hj
  refine h j (fun z => hj ⟨by omega, ?_⟩)
  rw [pk_un (by omega)]
  exact z.2
theorem bl_inic {k l c l' c' : Int32} (h1 : (k = 2 ∨ k = 3) → l' = l) (h2 : k = 3 → c' = c) : bl_ini k l' c' = bl_ini k l c := by
  unfold bl_ini
  by_cases a : k = 2 ∨ k = 3
  · rw [h1 a]
    by_cases b : k = 3
    · rw [h2 b]
    · simp only [b, false_and]
  · have b : ¬ k = 3 := fun z => a (Or.inr z)
    have a2 : ¬ k = 2 := fun z => a (Or.inl z)
    simp only [a2, b, false_and, or_self]
theorem bl_tb {v : Int32} (h : bl_O3 v) : ∃ t, t < 10 ∧ vp_nar .byte v.toInt8.toInt32 = nI t := by
  obtain ⟨j, hj, rfl⟩ := nI_of2 (M := 9) (n := 9) (by decide) h.1 h.2
  refine ⟨j, by omega, ?_⟩
  rw [pk_vb]
  exact lg_i2b_small (by rw [nI_toInt (by omega)]; omega) (by rw [nI_toInt (by omega)]; omega)
theorem i_vc_add {k : Nat} {u : SX} {v : SY} (I : i_Rel k u v) (hk : k + 5 ≤ 2560) (v1 : Int32) (v2 : Int32) (v3 : Int32) (v4 : Int32) : wpX_add (fun r u' => wpY_add (fun r' v' => r' = r ∧ i_Rel (k + 5) u' v') v v1 v2 v3 v4) u v1 v2 v3 v4 := by
  obtain ⟨fc, rd, op, opd, xkon, nca, tgt, xoff, xfrm⟩ := u
  obtain ⟨fn, ld, cur, ops, loc, kon, cas, to, frm, pad, off, rel⟩ := v
  obtain ⟨n, kd, cs, f0, tg, hn, rfl, rfl, rfl, LX, LY, Z, R⟩ := I
  refine bl_Xadd hn rfl (fun e10 => ?_) (fun n10 r ans => ?_) (fun n10 ok O K C T xoff' xfrm' eO eK eC eT => ?_)
  · refine bl_Yadd hn rfl (fun _ => ⟨rfl, n, kd, cs, f0, tg, hn, rfl, rfl, rfl, LX, LY, Z, R⟩) (fun z => ?_) (fun z => ?_)
    · omega
    · omega
  · refine bl_Yadd hn rfl (fun z => ?_) (fun _ s ans' loc' kon' hl hq => ⟨bl_AnsU ans ans', n, kd, cs, f0, tg, hn, rfl, rfl, rfl, LX, bl_Lc LY hl hq, Z, R⟩) (fun _ ok => (bl_AnsOk ans ok).elim)
    omega
  · refine bl_Yadd hn rfl (fun z => ?_) (fun _ s ans' => (bl_AnsOk ans' ok).elim) (fun _ _ loc' kon' hl hq hl2 hq2 => ?_)
    · omega
    have ht : ∃ t, bl_br (bl_kind v1) → t < 10 ∧ vp_nar .byte v3.toInt8.toInt32 = nI t := by
      by_cases b : bl_br (bl_kind v1)
      · obtain ⟨t, h⟩ := bl_tb (ok.2.2.2.1 b)
        exact ⟨t, fun _ => h⟩
      · exact ⟨0, fun z => absurd z b⟩
    obtain ⟨t, ht⟩ := ht
    refine ⟨rfl, n + 1, upd kd n (bl_kind v1), upd cs n v4, upd f0 n (bl_ini (bl_kind v1) (loc' n) (kon' n)), bl_tgU tg n t, by omega, rfl, rfl, rfl, ?_, ?_, bl_Zs Z, Or.inl rfl⟩
    · refine bl_Ls LX (fun j hj => pk_un (by omega)) (fun j hj => pk_un (by omega)) (fun j hj => pk_un (by omega)) (fun j hj => pk_un (by omega)) (fun j hj => pk_un (by omega)) ?_ ok.1 ?_ ?_ ?_
      · rw [pk_us]; exact bl_byte ok.1
      · rw [pk_us, pk_us]
        exact bl_inic (fun z => (eO z).trans (hl2 z).symm) (fun z => (eK z).trans (hq2 z).symm)
      · intro z; rw [pk_us]; exact eC z
      · intro z; rw [pk_us, eT z]; exact ⟨(ht z).2, (ht z).1⟩
    · refine bl_Ls LY (fun j hj => pk_un (by omega)) hl hq (fun j hj => pk_un (by omega)) (fun j hj => pk_un (by omega)) ?_ ok.1 rfl ?_ ?_
      · rw [pk_us]; exact bl_byte ok.1
      · intro z; exact pk_us
      · intro z; rw [pk_us]; exact ⟨(ht z).2, (ht z).1⟩
theorem i_vc_layout {k : Nat} {u : SX} {v : SY} (I : i_Rel k u v) (hk : k + 5 ≤ 2560) : wpX_layout (fun r u' => wpY_layout (fun r' v' => r' = r ∧ i_Rel (k + 5) u' v') v) u := by
  obtain ⟨fc, rd, op, opd, xkon, nca, tgt, xoff, xfrm⟩ := u
  obtain ⟨fn, ld, cur, ops, loc, kon, cas, to, frm, pad, off, rel⟩ := v
  obtain ⟨n, kd, cs, f0, tg, hn, rfl, rfl, rfl, LX, LY, Z, R⟩ := I
  refine bl_Xlay hn LX (fun e0 => ?_) (fun h0 hb => ?_) (fun h0 ht => ?_)
  · refine bl_Ylay hn LY Z (fun _ => ⟨rfl, n, kd, cs, f0, tg, hn, rfl, rfl, rfl, LX, LY, Z, Or.inl rfl⟩) (fun z => ?_) (fun z => ?_)
    · omega
    · omega
  · refine bl_Ylay hn LY Z (fun z => ?_) (fun _ _ => ⟨rfl, n, kd, cs, f0, tg, hn, rfl, rfl, rfl, LX, LY, Z, Or.inl rfl⟩) (fun _ z => ?_)
    · omega
    · obtain ⟨j, hj, b, c⟩ := hb
      have := z j hj b
      omega
  · obtain ⟨F, hF⟩ := bl_ex n kd cs tg (n + 1) f0 (by have := bl_cnt_le f0 n; omega)
    refine ⟨F, hF, ?_⟩
    intro xoff' xfrm' hf ho
    refine bl_Ylay hn LY Z (fun z => ?_) (fun _ hb => ?_) (fun _ _ => ⟨F, hF, ?_⟩)
    · omega
    · obtain ⟨j, hj, b, c⟩ := hb
      have := ht j hj b
      omega
    · intro frm' pad' off' rel' _ _ _ _ hz
      exact ⟨rfl, n, kd, cs, f0, tg, hn, rfl, rfl, rfl, LX, LY, hz, Or.inr ⟨rfl, ht, F, hF, hf, ho⟩⟩
/-- a question's index, on both sides -/
theorem bl_q {p : Int32} {n : Nat} (hn : n ≤ 10) : p < 0 ∨ (¬ p < 0 ∧ ¬ p < nI n ∧ nI n ≤ p) ∨ ∃ j, j < n ∧ p = nI j := by
  rcases pk_ix p (n := n) (by omega) with h | h | h
  · exact Or.inl h
  · by_cases h0 : p < 0
    · exact Or.inl h0
    · exact Or.inr (Or.inl ⟨h0, Int32.not_lt.mpr h, h⟩)
  · exact Or.inr (Or.inr h)
theorem bl_ready0 {post : Int32 → Prop} {n : Nat} {ld : Int32} {cur : Int64} {ops loc kon cas to frm pad : Nat → Int32} {off rel : Nat → Int64} {p : Int32} (hc : ld = 0 ∨ p < 0 ∨ nI n ≤ p) (h : post 0) :
    wpY_ready post (nI n, ld, cur, ops, loc, kon, cas, to, frm, pad, off, rel) p := by
  refine br_c (fun _ => h) (fun a => br_c (fun _ => h) (fun b => br_c (fun _ => h) (fun c => ?_)))
  rcases hc with z | z | z
  · exact absurd z a
  · exact absurd z b
  · exact absurd z c
theorem bl_ready1 {post : Int32 → Prop} {n j : Nat} {cur : Int64} {ops loc kon cas to frm pad : Nat → Int32} {off rel : Nat → Int64} (hj : j < n) (hn : n ≤ 10) (h : post 1) :
    wpY_ready post (nI n, 1, cur, ops, loc, kon, cas, to, frm, pad, off, rel) (nI j) :=
  br_f (by decide) (br_f (nI_pos (by omega)) (br_f (nI_ge hj (by omega)) h))
theorem i_vc_offsetOf {k : Nat} {u : SX} {v : SY} (I : i_Rel k u v) (hk : k + 5 ≤ 2560) (v1 : Int32) : wpX_offsetOf (fun r => wpY_offsetOf (fun r' v' => r' = r ∧ i_Rel (k + 5) u v') v v1) u v1 := by
  have I' := I
  obtain ⟨fc, rd, op, opd, xkon, nca, tgt, xoff, xfrm⟩ := u
  obtain ⟨fn, ld, cur, ops, loc, kon, cas, to, frm, pad, off, rel⟩ := v
  obtain ⟨n, kd, cs, f0, tg, hn, rfl, rfl, rfl, LX, LY, Z, R⟩ := I
  have hno : (ld = 0 ∨ v1 < 0 ∨ nI n ≤ v1) → wpY_offsetOf (fun r' v' => r' = -1 ∧ i_Rel (k + 5) (nI n, ld, op, opd, xkon, nca, tgt, xoff, xfrm) v') (nI n, ld, cur, ops, loc, kon, cas, to, frm, pad, off, rel) v1 := by
    intro hc
    unfold wpY_offsetOf
    dsimp only
    exact bl_ready0 hc (br_t rfl ⟨rfl, I'⟩)
  rcases R with e | ⟨e, ht, F, hF, hf, ho⟩
  · exact br_t e (hno (Or.inl e))
  · subst e
    refine br_f (by decide) ?_
    rcases bl_q (p := v1) hn with h | ⟨h, h1, h2⟩ | ⟨j, hj, rfl⟩
    · exact br_t h (hno (Or.inr (Or.inl h)))
    · exact br_f h (br_f h1 (hno (Or.inr (Or.inr h2))))
    · refine br_f (nI_pos (by omega)) (br_t (nI_lt hj (by omega)) ⟨bl_vi hj hn, ?_⟩)
      rw [bl_cl hj hn]
      unfold wpY_offsetOf
      dsimp only
      refine bl_ready1 hj hn ?_
      refine br_f (by decide) (bl_Ysolve hn LY ht hF Z ?_)
      intro frm' pad' off' rel' h1 h2 h3 h4 h5
      refine ⟨bl_vi hj hn, ?_⟩
      rw [bl_cl hj hn]
      exact ⟨(h3 j hj).trans (ho j hj).symm, n, kd, cs, f0, tg, hn, rfl, rfl, rfl, LX, LY, h5, Or.inr ⟨rfl, ht, F, hF, hf, ho⟩⟩
theorem i_vc_formOf {k : Nat} {u : SX} {v : SY} (I : i_Rel k u v) (hk : k + 5 ≤ 2560) (v1 : Int32) : wpX_formOf (fun r => wpY_formOf (fun r' v' => r' = r ∧ i_Rel (k + 5) u v') v v1) u v1 := by
  have I' := I
  obtain ⟨fc, rd, op, opd, xkon, nca, tgt, xoff, xfrm⟩ := u
  obtain ⟨fn, ld, cur, ops, loc, kon, cas, to, frm, pad, off, rel⟩ := v
  obtain ⟨n, kd, cs, f0, tg, hn, rfl, rfl, rfl, LX, LY, Z, R⟩ := I
  have hno : (ld = 0 ∨ v1 < 0 ∨ nI n ≤ v1) → wpY_formOf (fun r' v' => r' = -1 ∧ i_Rel (k + 5) (nI n, ld, op, opd, xkon, nca, tgt, xoff, xfrm) v') (nI n, ld, cur, ops, loc, kon, cas, to, frm, pad, off, rel) v1 := by
    intro hc
    unfold wpY_formOf
    dsimp only
    exact bl_ready0 hc (br_t rfl ⟨rfl, I'⟩)
  rcases R with e | ⟨e, ht, F, hF, hf, ho⟩
  · exact br_t e (hno (Or.inl e))
  · subst e
    refine br_f (by decide) ?_
    rcases bl_q (p := v1) hn with h | ⟨h, h1, h2⟩ | ⟨j, hj, rfl⟩
    · exact br_t h (hno (Or.inr (Or.inl h)))
    · exact br_f h (br_f h1 (hno (Or.inr (Or.inr h2))))
    · refine br_f (nI_pos (by omega)) (br_t (nI_lt hj (by omega)) ⟨bl_vi hj hn, ?_⟩)
      rw [bl_cl hj hn]
      unfold wpY_formOf
      dsimp only
      refine bl_ready1 hj hn ?_
      refine br_f (by decide) (bl_Ysolve hn LY ht hF Z ?_)
      intro frm' pad' off' rel' h1 h2 h3 h4 h5
      refine ⟨bl_vi hj hn, ?_⟩
      rw [bl_cl hj hn]
      exact ⟨(h1 j hj).trans (hf j hj).symm, n, kd, cs, f0, tg, hn, rfl, rfl, rfl, LX, LY, h5, Or.inr ⟨rfl, ht, F, hF, hf, ho⟩⟩
theorem i_vc_padOf {k : Nat} {u : SX} {v : SY} (I : i_Rel k u v) (hk : k + 5 ≤ 2560) (v1 : Int32) : wpX_padOf (fun r => wpY_padOf (fun r' v' => r' = r ∧ i_Rel (k + 5) u v') v v1) u v1 := by
  have I' := I
  obtain ⟨fc, rd, op, opd, xkon, nca, tgt, xoff, xfrm⟩ := u
  obtain ⟨fn, ld, cur, ops, loc, kon, cas, to, frm, pad, off, rel⟩ := v
  obtain ⟨n, kd, cs, f0, tg, hn, rfl, rfl, rfl, LX, LY, Z, R⟩ := I
  have hno : (ld = 0 ∨ v1 < 0 ∨ nI n ≤ v1) → wpY_padOf (fun r' v' => r' = -1 ∧ i_Rel (k + 5) (nI n, ld, op, opd, xkon, nca, tgt, xoff, xfrm) v') (nI n, ld, cur, ops, loc, kon, cas, to, frm, pad, off, rel) v1 := by
    intro hc
    unfold wpY_padOf
    dsimp only
    exact bl_ready0 hc (br_t rfl ⟨rfl, I'⟩)
  rcases R with e | ⟨e, ht, F, hF, hf, ho⟩
  · exact br_t e (hno (Or.inl e))
  · subst e
    refine br_f (by decide) ?_
    rcases bl_q (p := v1) hn with h | ⟨h, h1, h2⟩ | ⟨j, hj, rfl⟩
    · exact br_t h (hno (Or.inr (Or.inl h)))
    · exact br_f h (br_f h1 (hno (Or.inr (Or.inr h2))))
    · have hy : ∀ r, bl_pd (kd j) (bl_off kd cs F j) = r → wpY_padOf (fun r' v' => r' = r ∧ i_Rel (k + 5) (nI n, 1, op, opd, xkon, nca, tgt, xoff, xfrm) v') (nI n, 1, cur, ops, loc, kon, cas, to, frm, pad, off, rel) (nI j) := by
        intro r er
        unfold wpY_padOf
        dsimp only
        refine bl_ready1 hj hn ?_
        refine br_f (by decide) (bl_Ysolve hn LY ht hF Z ?_)
        intro frm' pad' off' rel' h1 h2 h3 h4 h5
        refine ⟨bl_vi hj hn, ?_⟩
        rw [bl_cl hj hn]
        exact ⟨(h2 j hj).trans er, n, kd, cs, f0, tg, hn, rfl, rfl, rfl, LX, LY, h5, Or.inr ⟨rfl, ht, F, hF, hf, ho⟩⟩
      obtain ⟨hkd, _, _, _, _⟩ := LX j hj
      have h43 : (kd j = 6 ∨ kd j = 7) → wX_padOf_43 (fun r => wpY_padOf (fun r' v' => r' = r ∧ i_Rel (k + 5) (nI n, 1, op, opd, xkon, nca, tgt, xoff, xfrm) v') (nI n, 1, cur, ops, loc, kon, cas, to, frm, pad, off, rel) (nI j)) (nI j) (nI n) 1 op opd xkon nca tgt xoff xfrm := by
        intro h67
        refine ⟨bl_vi hj hn, bl_padAt (hy _ ?_)⟩
        rw [bl_cl hj hn, ho j hj]
        exact if_pos h67
      refine br_f (nI_pos (by omega)) (br_t (nI_lt hj (by omega)) (bl_opAt hj hn (br_c (fun a => h43 (Or.inl (hkd.symm.trans (bl_k6.mpr a)))) (fun a => br_c (fun b => h43 (Or.inr (hkd.symm.trans (bl_k7.mpr b)))) (fun b => hy _ ?_)))))
      refine if_neg (fun z => ?_)
      rcases z with z | z
      · exact a (bl_k6.mp (hkd.trans z))
      · exact b (bl_k7.mp (hkd.trans z))
theorem i_vc_branchOf {k : Nat} {u : SX} {v : SY} (I : i_Rel k u v) (hk : k + 5 ≤ 2560) (v1 : Int32) : wpX_branchOf (fun r => wpY_branchOf (fun r' v' => r' = r ∧ i_Rel (k + 5) u v') v v1) u v1 := by
  have I' := I
  obtain ⟨fc, rd, op, opd, xkon, nca, tgt, xoff, xfrm⟩ := u
  obtain ⟨fn, ld, cur, ops, loc, kon, cas, to, frm, pad, off, rel⟩ := v
  obtain ⟨n, kd, cs, f0, tg, hn, rfl, rfl, rfl, LX, LY, Z, R⟩ := I
  have hno : (ld = 0 ∨ v1 < 0 ∨ nI n ≤ v1) → wpY_branchOf (fun r' v' => r' = 0 ∧ i_Rel (k + 5) (nI n, ld, op, opd, xkon, nca, tgt, xoff, xfrm) v') (nI n, ld, cur, ops, loc, kon, cas, to, frm, pad, off, rel) v1 := by
    intro hc
    unfold wpY_branchOf
    dsimp only
    exact bl_ready0 hc (br_t rfl ⟨rfl, I'⟩)
  rcases R with e | ⟨e, ht, F, hF, hf, ho⟩
  · exact br_t e (hno (Or.inl e))
  · subst e
    refine br_f (by decide) ?_
    rcases bl_q (p := v1) hn with h | ⟨h, h1, h2⟩ | ⟨j, hj, rfl⟩
    · exact br_t h (hno (Or.inr (Or.inl h)))
    · exact br_f h (br_f h1 (hno (Or.inr (Or.inr h2))))
    · have hy : ∀ r, (bl_br (kd j) → bl_rel kd cs tg F j = r) → (¬ bl_br (kd j) → r = 0) → wpY_branchOf (fun r' v' => r' = r ∧ i_Rel (k + 5) (nI n, 1, op, opd, xkon, nca, tgt, xoff, xfrm) v') (nI n, 1, cur, ops, loc, kon, cas, to, frm, pad, off, rel) (nI j) := by
        intro r er e0
        unfold wpY_branchOf
        dsimp only
        refine bl_ready1 hj hn ?_
        refine br_f (by decide) (bl_Ysolve hn LY ht hF Z ?_)
        intro frm' pad' off' rel' h1 h2 h3 h4 h5
        refine ⟨bl_vi hj hn, ?_⟩
        rw [bl_cl hj hn]
        refine ⟨?_, n, kd, cs, f0, tg, hn, rfl, rfl, rfl, LX, LY, h5, Or.inr ⟨rfl, ht, F, hF, hf, ho⟩⟩
        by_cases b : bl_br (kd j)
        · exact (h4 j hj b).trans (er b)
        · exact (h5 j (fun z => b z.2)).trans (e0 b).symm
      obtain ⟨hkd, _, _, _, htg⟩ := LX j hj
      have h45 : bl_br (kd j) → wX_branchOf_45 (fun r => wpY_branchOf (fun r' v' => r' = r ∧ i_Rel (k + 5) (nI n, 1, op, opd, xkon, nca, tgt, xoff, xfrm) v') (nI n, 1, cur, ops, loc, kon, cas, to, frm, pad, off, rel) (nI j)) (nI j) (nI n) 1 op opd xkon nca tgt xoff xfrm := by
        intro hbr
        have lt2 := ht j hj hbr
        unfold wX_branchOf_45
        rw [bl_cl hj hn, (htg hbr).1, bl_cl lt2 hn, ho _ lt2, ho j hj, hf j hj]
        refine ⟨bl_vi hj hn, bl_vi lt2 hn, nm_e ⟨bl_vi hj hn, br_c (fun a => ⟨bl_vi hj hn, hy _ (fun _ => ?_) (fun z => absurd hbr z)⟩) (fun a => ⟨bl_vi hj hn, hy _ (fun _ => ?_) (fun z => absurd hbr z)⟩)⟩⟩
        · unfold bl_rel bl_d
          rw [if_pos a]
          simp only [Int64.sub_eq_add_neg, Int64.neg_add, Int64.add_assoc]
        · unfold bl_rel bl_d
          rw [if_neg a, Int64.sub_zero]
      refine br_f (nI_pos (by omega)) (br_t (nI_lt hj (by omega)) (bl_opAt hj hn (bl_isCond (fun a => br_f (by decide) (h45 (Or.inl (hkd.symm.trans a)))) (fun a => br_t rfl (bl_isJump (fun b => br_f (by decide) (h45 (Or.inr (hkd.symm.trans b)))) (fun b => br_t rfl (hy 0 (fun z => ?_) (fun _ => rfl))))))))
      rcases z with z | z
      · exact absurd (hkd.trans z) a
      · exact absurd (hkd.trans z) b
end
