section
/-- the edges: row r holds the set m, the others nothing -/
def dm_E (r m : Nat) (a1 : Nat → Int32) : Prop := r < 7 ∧ m < 128 ∧ a1 r = nI m ∧ ∀ j, j < 7 → j ≠ r → a1 j = 0
/-- the matching: row p has column k, nobody else has a partner (none: p = 7, k = 7) -/
def dm_M (p k : Nat) (a2 a3 : Nat → Int32) : Prop := (∀ j, j < 7 → a2 j = if j = p then nI k else -1) ∧ (∀ j, j < 7 → a3 j = if j = k then nI p else -1)
def dm_V (r p k : Nat) : Prop := (p = r ∧ k < 7) ∨ (p = 7 ∧ k = 7)
def dm_Wk (r m p k : Nat) : Prop := (p = r ∧ k < 7 ∧ m.testBit k = true) ∨ (p = 7 ∧ k = 7)
def dm_G (r m p k : Nat) : Prop := (p = r ∧ k < 7 ∧ m.testBit k = true) ∨ (p = 7 ∧ k = 7 ∧ m = 0)
/-- the usable edges of row j -/
def dm_U1 (r m k : Nat) (a7 : Nat → Int32) (j : Nat) : Prop := (j ≠ r → a7 j = 0) ∧ (j = r → (∀ c, c < 7 → m.testBit c = true → c = k) → a7 j = nI m)
/-- the rows below i but p -/
def dm_rr (p i : Nat) : Nat := (2 ^ i - 1) &&& (255 ^^^ 2 ^ p)
theorem dm_bit : ∀ m, m < 128 → ∀ c, c < 7 → ((((nI m) >>> (nI c &&& 31)) &&& 1) = 0 ↔ m.testBit c = false) := by decide +kernel
theorem dm_abit : ∀ m, m < 128 → ∀ c, c < 7 → (((nI m &&& ((0 : Int32) ^^^ (-1))) &&& ((1 : Int32) <<< (nI c &&& 31))) = 0 ↔ m.testBit c = false) := by decide +kernel
theorem dm_z : ∀ i, i < 7 → (((0 : Int32) >>> (nI i &&& 31)) &&& 1) = 0 := by decide +kernel
theorem dm_b8 : ∀ c, c < 8 → (nI c).toInt8.toInt32 = nI c := by decide +kernel
theorem dm_rr0 : ∀ p, p < 8 → dm_rr p 0 = 0 := by decide +kernel
theorem dm_rrS : ∀ p, p < 8 → ∀ i, i < 7 → i ≠ p → nI (dm_rr p i) ||| ((1 : Int32) <<< (nI i &&& 31)) = nI (dm_rr p (i + 1)) := by decide +kernel
theorem dm_rrP : ∀ i, i < 7 → dm_rr i (i + 1) = dm_rr i i := by decide +kernel
theorem dm_rrT : ∀ p, p < 8 → ∀ j, j < 7 → ((dm_rr p 7).testBit j = true → j ≠ p) := by decide +kernel
theorem dm_rrL : ∀ p, p < 8 → dm_rr p 7 < 128 := by decide +kernel
theorem dm_rr7 : nI (dm_rr 7 7) = 127 := by decide +kernel
theorem dm_rrR : ∀ p, p < 7 → nI (dm_rr p 7) = 127 &&& (((1 : Int32) <<< (nI p &&& 31)) ^^^ (-1)) := by decide +kernel
theorem dm_mod0 : ∀ m, m < 128 → ∀ c, c < 7 → m.testBit c = false → m % 2 ^ (c + 1) = m % 2 ^ c := by decide +kernel
theorem dm_mod1 : ∀ m, m < 128 → ∀ c, c < 7 → m.testBit c = true → nI (m % 2 ^ c) ||| ((1 : Int32) <<< (nI c &&& 31)) = nI (m % 2 ^ (c + 1)) := by decide +kernel
theorem dm_zero : ∀ m, m < 128 → (∀ c, c < 7 → m.testBit c = false) → m = 0 := by decide +kernel
theorem dm_pw : ∀ c, c < 7 → (0 : Int32) ||| ((1 : Int32) <<< (nI c &&& 31)) = nI (2 ^ c) := by decide +kernel
theorem dm_pw1 : ∀ c, c < 7 → ((1 : Int32) <<< (nI c &&& 31)) = nI (2 ^ c) := by decide +kernel
theorem dm_pwL : ∀ c, c < 7 → 2 ^ c < 128 := by decide +kernel
theorem dm_pwT : ∀ c, c < 7 → ∀ k, k < 7 → (2 ^ c).testBit k = true → k = c := by decide +kernel
theorem dm_pw0 : ∀ c, c < 7 → ¬ 2 ^ c = 0 := by decide +kernel
theorem dm_or0 {x y : Int32} (hx : x = 0) (hy : y = 0) : x ||| y = 0 := by
  rw [hx, hy]
  decide
theorem dm_or1 {x y : Int32} (hy : y = 0) : x ||| y = x := by
  rw [hy]
  exact Int32.or_zero
theorem dm_neg : (-1 : Int32) < 0 := by decide
theorem dm_neg' : ¬ (0 : Int32) ≤ -1 := by decide
theorem dm_tz (c : Nat) : (0 : Nat).testBit c = false := Nat.zero_testBit c
theorem dm_nt {b : Bool} (h : ¬ b = false) : b = true := by
  cases b
  · exact absurd rfl h
  · rfl
/-! facts of the pictures -/
theorem dm_Er {r m : Nat} {a1 : Nat → Int32} (h : dm_E r m a1) (i : Nat) (hi : i < 7) : ∃ q, q < 128 ∧ a1 i = nI q ∧ (i = r → q = m) ∧ (i ≠ r → q = 0) := by
  obtain ⟨h1, h2, h3, h4⟩ := h
  by_cases e : i = r
  · exact ⟨m, h2, by rw [e, h3], fun _ => rfl, fun z => absurd e z⟩
  · exact ⟨0, by omega, by rw [h4 i hi e]; rfl, fun z => absurd z e, fun _ => rfl⟩
theorem dm_Mp {p k : Nat} {a2 a3 : Nat → Int32} (h : dm_M p k a2 a3) (hp : p < 7) : a2 p = nI k := by
  rw [h.1 p hp, if_pos rfl]
theorem dm_Mn {p k : Nat} {a2 a3 : Nat → Int32} (h : dm_M p k a2 a3) {i : Nat} (hi : i < 7) (e : i ≠ p) : a2 i = -1 := by
  rw [h.1 i hi, if_neg e]
theorem dm_Mk {p k : Nat} {a2 a3 : Nat → Int32} (h : dm_M p k a2 a3) (hk : k < 7) : a3 k = nI p := by
  rw [h.2 k hk, if_pos rfl]
theorem dm_Mc {p k : Nat} {a2 a3 : Nat → Int32} (h : dm_M p k a2 a3) {i : Nat} (hi : i < 7) (e : i ≠ k) : a3 i = -1 := by
  rw [h.2 i hi, if_neg e]
/-- the couple is given up -/
theorem dm_Mdrop {p k : Nat} {a2 a3 : Nat → Int32} (h : dm_M p k a2 a3) : dm_M 7 7 (upd a2 p (-1)) (upd a3 k (-1)) := by
  refine ⟨fun j hj => ?_, fun j hj => ?_⟩
  · rw [if_neg (by omega)]
    by_cases e : j = p
    · rw [e, pk_us]
    · rw [pk_un e]
      exact dm_Mn h hj e
  · rw [if_neg (by omega)]
    by_cases e : j = k
    · rw [e, pk_us]
    · rw [pk_un e]
      exact dm_Mc h hj e
/-- a couple is made -/
theorem dm_Mmake {a2 a3 : Nat → Int32} (h : dm_M 7 7 a2 a3) (p k : Nat) : dm_M p k (upd a2 p (nI k)) (upd a3 k (nI p)) := by
  refine ⟨fun j hj => ?_, fun j hj => ?_⟩
  · by_cases e : j = p
    · rw [if_pos e, e, pk_us]
    · rw [if_neg e, pk_un e]
      exact dm_Mn h hj (by omega)
  · by_cases e : j = k
    · rw [if_pos e, e, pk_us]
    · rw [if_neg e, pk_un e]
      exact dm_Mc h hj (by omega)
theorem dm_Gp {r m p k : Nat} (hr : r < 7) (h : dm_G r m p k) : p < 8 := by
  rcases h with h | h <;> omega
theorem dm_WkG {r m p k : Nat} (h : dm_G r m p k) : dm_Wk r m p k := by
  rcases h with h | h
  · exact Or.inl h
  · exact Or.inr ⟨h.1, h.2.1⟩
/-- a free row has no edge, if the matching can't be made longer -/
theorem dm_free {r m p k : Nat} {a1 : Nat → Int32} (hE : dm_E r m a1) (hG : dm_G r m p k) (j : Nat) (hj : j < 7) (e : j ≠ p) : a1 j = 0 := by
  obtain ⟨h1, h2, h3, h4⟩ := hE
  by_cases z : j = r
  · rcases hG with h | h
    · exact absurd (z.trans h.1.symm) e
    · rw [z, h3, h.2.2]
      rfl
  · exact h4 j hj z
end
section
section
variable {f0 f1 f2 f3 f4 : Int32} {a1 a2 a3 a4 a5 a6 a7 : Nat → Int32}
theorem dm_pc {post : Int32 → Prop} {p0 : Int32} (H : ∀ v, (p0 = 0 → v = 0) → post v) : wpX_partnersOfColumns post (f0, f1, f2, f3, f4, a1, a2, a3, a4, a5, a6, a7) p0 :=
  pk_loop (fun n i s => wX_partnersOfColumns_4 post p0 f0 f1 f2 f3 f4 a1 a2 a3 a4 a5 a6 a7 n s (nI i)) (fun _ v => p0 = 0 → v = 0) 7 0 0 (by omega) (fun _ => rfl)
    (fun n s h => pk_le 7 7 (fun _ => H s h) (fun z => absurd z (by omega)))
    (fun n i s hi h hw => pk_le 7 i (fun z => absurd z (by omega)) (fun _ => br_c (fun _ => nm_r (nI_1 i) (hw s h)) (fun g => ⟨pk_in i 7 hi, br_c (fun _ => nm_r (nI_1 i) (hw s h)) (fun _ => ⟨pk_in i 7 hi, nm_e (nm_r (nI_1 i) (hw _ (fun e => absurd (by rw [e]; exact dm_z i hi) g)))⟩)⟩)))
theorem dm_pr {post : Int32 → Prop} {p0 : Int32} (H : ∀ v, post v) : wpX_partnersOfRows post (f0, f1, f2, f3, f4, a1, a2, a3, a4, a5, a6, a7) p0 :=
  pk_loop (fun n i s => wX_partnersOfRows_4 post p0 f0 f1 f2 f3 f4 a1 a2 a3 a4 a5 a6 a7 n s (nI i)) (fun _ _ => True) 7 0 0 (by omega) trivial
    (fun n s h => pk_le 7 7 (fun _ => H s) (fun z => absurd z (by omega)))
    (fun n i s hi h hw => pk_le 7 i (fun z => absurd z (by omega)) (fun _ => br_c (fun _ => nm_r (nI_1 i) (hw s h)) (fun g => ⟨pk_in i 7 hi, br_c (fun _ => nm_r (nI_1 i) (hw s h)) (fun _ => ⟨pk_in i 7 hi, nm_e (nm_r (nI_1 i) (hw _ trivial))⟩)⟩)))
theorem dm_cn {post : Int32 → Prop} {s : Nat} (hs : s < 128) (ha : ∀ j, j < 7 → s.testBit j = true → a1 j = 0) (H : post 0) : wpX_columnsNextTo post (f0, f1, f2, f3, f4, a1, a2, a3, a4, a5, a6, a7) (nI s) :=
  pk_loop (fun n i v => wX_columnsNextTo_4 post (nI s) f0 f1 f2 f3 f4 a1 a2 a3 a4 a5 a6 a7 n v (nI i)) (fun _ v => v = 0) 7 0 0 (by omega) rfl
    (fun n v h => pk_le 7 7 (fun _ => ek_v h H) (fun z => absurd z (by omega)))
    (fun n i v hi h hw => pk_le 7 i (fun z => absurd z (by omega)) (fun _ => ek_if (dm_bit s hs i hi) (fun _ => nm_r (nI_1 i) (hw v h)) (fun g => ⟨pk_in i 7 hi, nm_e (nm_r (nI_1 i) (hw _ (dm_or0 h (by rw [nI_clamp (by omega)]; exact ha i hi (dm_nt g)))))⟩)))
theorem dm_re {post : Int32 → Prop} {p0 : Int32} (H : ∀ v, post v) : wpX_rowsWithEdgeTo post (f0, f1, f2, f3, f4, a1, a2, a3, a4, a5, a6, a7) p0 :=
  pk_loop (fun n i s => wX_rowsWithEdgeTo_4 post p0 f0 f1 f2 f3 f4 a1 a2 a3 a4 a5 a6 a7 n s (nI i)) (fun _ _ => True) 7 0 0 (by omega) trivial
    (fun n s h => pk_le 7 7 (fun _ => H s) (fun z => absurd z (by omega)))
    (fun n i s hi h hw => pk_le 7 i (fun z => absurd z (by omega)) (fun _ => ⟨pk_in i 7 hi, nm_e (nm_r (nI_1 i) (hw _ trivial))⟩))
theorem dm_rn {post : Int32 → Prop} {p0 : Int32} (H : ∀ v, post v) : wpX_rowsNextTo post (f0, f1, f2, f3, f4, a1, a2, a3, a4, a5, a6, a7) p0 :=
  pk_loop (fun n i s => wX_rowsNextTo_4 post p0 f0 f1 f2 f3 f4 a1 a2 a3 a4 a5 a6 a7 n s (nI i)) (fun _ _ => True) 7 0 0 (by omega) trivial
    (fun n s h => pk_le 7 7 (fun _ => H s) (fun z => absurd z (by omega)))
    (fun n i s hi h hw => pk_le 7 i (fun z => absurd z (by omega)) (fun _ => br_c (fun _ => nm_r (nI_1 i) (hw s h)) (fun g => dm_re (fun v => nm_e (nm_r (nI_1 i) (hw _ trivial))))))
theorem dm_178 {post : St2 → Prop} {J : Int32 → (Nat → Int32) → (Nat → Int32) → (Nat → Int32) → (Nat → Int32) → (Nat → Int32) → (Nat → Int32) → (Nat → Int32) → Prop} {t : Nat} (ht : t < 7) (hJ : ∀ s, J (nI (t + 1)) a1 a2 a3 a4 a5 s a7) : ∃ n, wX_findReach_178 post J (nI t) f0 f1 f2 f3 f4 n 0 a1 a2 a3 a4 a5 a6 a7 :=
  pk_loop (fun n i s => wX_findReach_178 post J (nI t) f0 f1 f2 f3 f4 n (nI i) a1 a2 a3 a4 a5 s a7) (fun _ _ => True) 7 0 a6 (by omega) trivial
    (fun n s h => pk_le 7 7 (fun _ => nm_r (nI_1 t) (hJ s)) (fun z => absurd z (by omega)))
    (fun n i s hi h hw => pk_le 7 i (fun z => absurd z (by omega)) (fun _ => ⟨pk_in i 7 hi, br_c (fun _ => nm_r (nI_1 i) (hw s trivial)) (fun _ => ⟨pk_in i 7 hi, pk_in t 7 ht, pk_in i 7 hi, nm_e (nm_r (nI_1 i) (hw _ trivial))⟩)⟩))
theorem dm_170 {post : St2 → Prop} (H : ∀ s, post (f0, f1, f2, f3, f4, a1, a2, a3, a4, a5, s, a7)) : ∃ n, wX_findReach_170 post f0 f1 f2 f3 f4 n 0 a1 a2 a3 a4 a5 a6 a7 :=
  pk_loop (fun n i s => wX_findReach_170 post f0 f1 f2 f3 f4 n (nI i) a1 a2 a3 a4 a5 s a7) (fun _ _ => True) 7 0 a6 (by omega) trivial
    (fun n s h => pk_le 7 7 (fun _ => H s) (fun z => absurd z (by omega)))
    (fun n i s hi h hw => pk_le 7 i (fun z => absurd z (by omega)) (fun _ => dm_178 hi (fun s' => hw s' trivial)))
theorem dm_140 {post : St2 → Prop} (H : ∀ s, post (f0, f1, f2, f3, f4, a1, a2, a3, a4, a5, s, a7)) : ∃ n, wX_findReach_140 post f0 f1 f2 f3 f4 n 0 a1 a2 a3 a4 a5 a6 a7 :=
  pk_loop (fun n i s => wX_findReach_140 post f0 f1 f2 f3 f4 n (nI i) a1 a2 a3 a4 a5 s a7) (fun _ _ => True) 7 0 a6 (by omega) trivial
    (fun n s h => pk_le 7 7 (fun _ => dm_170 H) (fun z => absurd z (by omega)))
    (fun n i s hi h hw => pk_le 7 i (fun z => absurd z (by omega)) (fun _ => ⟨pk_in i 7 hi, dm_pc (fun v _ => ⟨pk_in i 7 hi, nm_e (nm_r (nI_1 i) (hw _ trivial))⟩)⟩))
theorem dm_68 {post : St2 → Prop} {R : Nat} (hR : R < 128) (ha : ∀ j, j < 7 → R.testBit j = true → a1 j = 0) (H : ∀ x y z s, post (f0, nI R, x, y, z, a1, a2, a3, a4, a5, s, a7)) : ∃ n, wX_findReach_68 post f0 a1 a2 a3 a4 a5 a6 a7 n 0 (nI R) f2 f3 f4 :=
  pk_loop (σ := Int32 × Int32 × Int32) (fun n i s => wX_findReach_68 post f0 a1 a2 a3 a4 a5 a6 a7 n (nI i) (nI R) s.1 s.2.1 s.2.2) (fun _ _ => True) 8 0 (f2, f3, f4) (by omega) trivial
    (fun n s h => pk_le 8 8 (fun _ => dm_140 (H _ _ _)) (fun z => absurd z (by omega)))
    (fun n i s hi h hw => pk_le 8 i (fun z => absurd z (by omega)) (fun _ => dm_cn hR ha (dm_pc (fun v hv => nm_r (dm_or1 (hv rfl)) (dm_rn (fun v2 => dm_pr (fun v3 => nm_e (nm_r (nI_1 i) (hw (_, _, _) trivial)))))))))
theorem dm_39 {post : St2 → Prop} {J : Int32 → Int32 → Int32 → Prop} {i : Nat} (hi : i < 7) (HJ : ∀ v, J (nI (i + 1)) f1 v) : wX_findReach_39 post J (nI i) f0 f1 f2 f3 f4 a1 a2 a3 a4 a5 a6 a7 :=
  ⟨pk_in i 7 hi, br_c (fun _ => nm_r (nI_1 i) (HJ _)) (fun _ => nm_e (nm_r (nI_1 i) (HJ _)))⟩
theorem dm_12 {post : St2 → Prop} {r m p k : Nat} (hE : dm_E r m a1) (hM : dm_M p k a2 a3) (hG : dm_G r m p k) (H : ∀ x y z s, post (f0, nI (dm_rr p 7), x, y, z, a1, a2, a3, a4, a5, s, a7)) : ∃ n, wX_findReach_12 post f0 f2 f3 a1 a2 a3 a4 a5 a6 a7 n 0 0 0 := by
  have hp : p < 8 := dm_Gp hE.1 hG
  have h0 : nI (dm_rr p 0) = 0 := by
    rw [dm_rr0 p hp]
    rfl
  have L := pk_loop (fun n i s => wX_findReach_12 post f0 f2 f3 a1 a2 a3 a4 a5 a6 a7 n (nI i) (nI (dm_rr p i)) s) (fun _ _ => True) 7 0 0 (by omega) trivial
    (fun n s h => pk_le 7 7 (fun _ => dm_68 (dm_rrL p hp) (fun j hj hb => dm_free hE hG j hj (dm_rrT p hp j hj hb)) H) (fun z => absurd z (by omega)))
    (fun n i s hi h hw => by
      refine pk_le 7 i (fun z => absurd z (by omega)) (fun _ => ⟨pk_in i 7 hi, ?_⟩)
      rw [nI_clamp (show i < 2 ^ 31 by omega)]
      by_cases e : i = p
      · refine br_t ?_ (dm_39 hi (fun v => ?_))
        · rw [e, dm_Mp hM (by omega)]
          exact nI_pos' (by rcases hG with g | g <;> omega)
        · have t := hw v trivial
          rw [← e, dm_rrP i hi] at t
          rw [← e]
          exact t
      · refine br_f ?_ (nm_r (dm_rrS p hp i hi e) (dm_39 hi (fun v => hw v trivial)))
        rw [dm_Mn hM hi e]
        exact dm_neg')
  obtain ⟨n, hn⟩ := L
  rw [h0] at hn
  exact ⟨n, hn⟩
theorem dm_reach {post : St2 → Prop} {r m p k : Nat} (hE : dm_E r m a1) (hM : dm_M p k a2 a3) (hG : dm_G r m p k) (H : ∀ x y z s, post (f0, nI (dm_rr p 7), x, y, z, a1, a2, a3, a4, a5, s, a7)) : wpX_findReach post (f0, f1, f2, f3, f4, a1, a2, a3, a4, a5, a6, a7) :=
  dm_12 hE hM hG H
end
end
section
section
variable {f0 f1 f2 f3 f4 : Int32} {a1 a2 a3 a4 a5 a6 a7 : Nat → Int32}
theorem dm_iu {post : Int32 → Prop} {r m p k i c : Nat} (hr : r < 7) (hM : dm_M p k a2 a3) (hG : dm_G r m p k) (hi : i < 7) (hc : c < 7) (H : ∀ v, (a2 i = nI c → v = 1) → post v) : wpX_isUsable post (f0, f1, f2, f3, f4, a1, a2, a3, a4, a5, a6, a7) (nI i) (nI c) := by
  refine ⟨pk_in i 7 hi, ?_⟩
  rw [nI_clamp (show i < 2 ^ 31 by omega)]
  refine br_c (fun _ => H 1 (fun _ => rfl)) (fun e => br_c (fun _ => br_c (fun _ => ⟨pk_in c 7 hc, nm_e ?_⟩) (fun _ => H 1 (fun _ => rfl))) (fun _ => H 1 (fun _ => rfl)))
  rw [nI_clamp (show c < 2 ^ 31 by omega)]
  refine br_c (fun _ => H 0 (fun z => absurd z e)) (fun g => ⟨?_, br_c (fun _ => H 0 (fun z => absurd z e)) (fun _ => H 1 (fun _ => rfl))⟩)
  by_cases z : c = k
  · rw [z, dm_Mk hM (by omega)]
    exact pk_in p 7 (by rcases hG with y | y <;> omega)
  · exact absurd (by rw [dm_Mc hM hc z]; exact dm_neg) g
theorem dm_17 {post : St2 → Prop} {J : Int32 → (Nat → Int32) → (Nat → Int32) → (Nat → Int32) → (Nat → Int32) → (Nat → Int32) → (Nat → Int32) → (Nat → Int32) → Prop} {r m p k i : Nat} (hE : dm_E r m a1) (hM : dm_M p k a2 a3) (hG : dm_G r m p k) (hi : i < 7) (h7 : ∀ j, j < i → dm_U1 r m k a7 j) (hz : a7 i = 0) (hJ : ∀ s, (∀ j, j < i + 1 → dm_U1 r m k s j) → J (nI (i + 1)) a1 a2 a3 a4 a5 a6 s) : ∃ n, wX_findUsable_17 post J (nI i) f0 f1 f2 f3 f4 n 0 a1 a2 a3 a4 a5 a6 a7 :=
  pk_loop (fun n c s => wX_findUsable_17 post J (nI i) f0 f1 f2 f3 f4 n (nI c) a1 a2 a3 a4 a5 a6 s) (fun c s => (∀ j, j < i → dm_U1 r m k s j) ∧ (i ≠ r → s i = 0) ∧ (i = r → (∀ c, c < 7 → m.testBit c = true → c = k) → s i = nI (m % 2 ^ c))) 7 0 a7 (by omega)
    ⟨h7, fun _ => hz, fun _ _ => by rw [hz, Nat.pow_zero, Nat.mod_one]; rfl⟩
    (fun n s h => pk_le 7 7 (fun _ => nm_r (nI_1 i) (hJ s (lt_s h.1 ⟨h.2.1, fun e g => by rw [h.2.2 e g, Nat.mod_eq_of_lt (show m < 2 ^ 7 from hE.2.1)]⟩))) (fun z => absurd z (by omega)))
    (fun n c s hc h hw => by
      obtain ⟨u1, u2, u3⟩ := h
      refine pk_le 7 c (fun z => absurd z (by omega)) (fun _ => ⟨pk_in i 7 hi, ?_⟩)
      rw [nI_clamp (show i < 2 ^ 31 by omega)]
      obtain ⟨q, q1, q2, q3, q4⟩ := dm_Er hE i hi
      rw [q2]
      refine ek_if (dm_bit q q1 c hc) (fun g => nm_r (nI_1 c) (hw s ⟨u1, u2, fun e y => ?_⟩)) (fun g => ?_)
      · rw [u3 e y, dm_mod0 m hE.2.1 c hc (by rw [← q3 e]; exact g)]
      · have er : i = r := by
          by_cases z : i = r
          · exact z
          · exact absurd (by rw [q4 z]; exact dm_tz c) g
        have hb : m.testBit c = true := by
          rw [← q3 er]
          exact dm_nt g
        refine dm_iu hE.1 hM hG hi hc (fun v hv => br_c (fun v0 => nm_r (nI_1 c) (hw s ⟨u1, u2, fun e y => ?_⟩)) (fun v1 => ⟨pk_in i 7 hi, pk_in i 7 hi, nm_e (nm_r (nI_1 c) (hw _ ⟨fun j hj => ?_, fun z => absurd er z, fun e y => ?_⟩))⟩))
        · have ck := y c hc hb
          have pr : p = r := by
            rcases hG with z | z
            · exact z.1
            · omega
          have : v = 1 := hv (by rw [er, ← pr, dm_Mp hM (by rw [pr]; exact hE.1), ck])
          rw [v0] at this
          exact absurd this (by decide)
        · have ne : j ≠ i := by omega
          have t := u1 j hj
          unfold dm_U1 at t ⊢
          rw [pk_un ne]
          exact t
        · rw [pk_us, u3 e y]
          exact dm_mod1 m hE.2.1 c hc hb)
theorem dm_u2 {post : St2 → Prop} {r m p k : Nat} (hE : dm_E r m a1) (hM : dm_M p k a2 a3) (hG : dm_G r m p k) (H : ∀ s, (∀ j, j < 7 → dm_U1 r m k s j) → post (f0, f1, f2, f3, f4, a1, a2, a3, a4, a5, a6, s)) : wpX_findUsable post (f0, f1, f2, f3, f4, a1, a2, a3, a4, a5, a6, a7) :=
  pk_loop (fun n i s => wX_findUsable_2 post f0 f1 f2 f3 f4 n (nI i) a1 a2 a3 a4 a5 a6 s) (fun i s => ∀ j, j < i → dm_U1 r m k s j) 7 0 a7 (by omega) (fun j hj => absurd hj (by omega))
    (fun n s h => pk_le 7 7 (fun _ => H s h) (fun z => absurd z (by omega)))
    (fun n i s hi h hw => by
      refine pk_le 7 i (fun z => absurd z (by omega)) (fun _ => ⟨pk_in i 7 hi, nm_e (dm_17 hE hM hG hi (fun j hj => ?_) ?_ (fun s' hs' => hw s' hs'))⟩)
      · rw [nI_clamp (show i < 2 ^ 31 by omega)]
        have ne : j ≠ i := by omega
        have t := h j hj
        unfold dm_U1 at t ⊢
        rw [pk_un ne]
        exact t
      · rw [nI_clamp (show i < 2 ^ 31 by omega)]
        exact pk_us)
end
end
section
section
variable {f0 f1 f2 f3 f4 : Int32} {a1 a2 a3 a4 a5 a6 a7 : Nat → Int32}
theorem dm_tp {post : St2 → Prop} {c i : Nat} (hc : c < 7) (hi : i < 7) (h5 : a5 c = nI i) (H : post (f0, f1, f2, f3, f4, a1, upd a2 i (nI c), upd a3 c (nI i), a4, a5, a6, a7)) : wpX_turnPath post (f0, f1, f2, f3, f4, a1, a2, a3, a4, a5, a6, a7) (nI c) (nI i) := by
  refine ⟨1, ?_⟩
  refine pk_le 7 0 (fun z => absurd z (by omega)) (fun _ => ⟨pk_in c 7 hc, nm_r (e' := nI i) ?_ ⟨pk_in i 7 hi, nm_e ⟨pk_in i 7 hi, nm_r (e' := upd a2 i (nI c)) ?_ ⟨pk_in c 7 hc, nm_r (e' := upd a3 c (nI i)) ?_ (br_t rfl H)⟩⟩⟩⟩)
  · rw [nI_clamp (show c < 2 ^ 31 by omega)]
    exact h5
  · rw [nI_clamp (show i < 2 ^ 31 by omega), dm_b8 c (by omega)]
  · rw [nI_clamp (show c < 2 ^ 31 by omega), dm_b8 i (by omega)]
theorem dm_33 {post : Int32 → St2 → Prop} {J : Int32 → Int32 → Int32 → (Nat → Int32) → (Nat → Int32) → (Nat → Int32) → (Nat → Int32) → (Nat → Int32) → (Nat → Int32) → (Nat → Int32) → Prop} {i q : Nat} (hi : i < 7) (hq : q < 128) (h1 : a1 i = nI q) (h3 : q ≠ 0 → ∀ j, j < 7 → a3 j = -1) (HJ : q = 0 → J 1 0 (nI 1) a1 a2 a3 a4 a5 a6 a7)
    (H1 : ∀ c s, c < 7 → q.testBit c = true → post 1 (f0, f1, f2, f3, f4, a1, upd a2 i (nI c), upd a3 c (nI i), a4, s, a6, a7)) : ∃ n, wX_augment_33 post J (nI i) 0 (nI i) f0 f1 f2 f3 f4 n 1 0 0 a1 a2 a3 a4 a5 a6 a7 :=
  pk_loop (σ := Unit) (fun n c _ => wX_augment_33 post J (nI i) 0 (nI i) f0 f1 f2 f3 f4 n 1 0 (nI c) a1 a2 a3 a4 a5 a6 a7) (fun c _ => ∀ d, d < c → q.testBit d = false) 7 0 () (by omega) (fun d hd => absurd hd (by omega))
    (fun n s h => pk_le 7 7 (fun _ => nm_r (e' := nI 1) rfl (HJ (dm_zero q hq h))) (fun z => absurd z (by omega)))
    (fun n c s hc h hw => by
      refine pk_le 7 c (fun z => absurd z (by omega)) (fun _ => ⟨pk_in i 7 hi, ?_⟩)
      rw [nI_clamp (show i < 2 ^ 31 by omega), h1]
      refine ek_if (dm_abit q hq c hc) (fun g => nm_r (nI_1 c) (hw () (lt_s h g))) (fun g => nm_e ⟨pk_in c 7 hc, nm_e ⟨pk_in c 7 hc, br_f ?_ (dm_tp hc hi ?_ (H1 c _ hc (dm_nt g)))⟩⟩)
      · rw [nI_clamp (show c < 2 ^ 31 by omega), h3 (fun z => g (by rw [z]; exact dm_tz c)) c hc]
        exact dm_neg'
      · rw [nI_clamp (show c < 2 ^ 31 by omega), pk_us]
        exact dm_b8 i (by omega))
theorem dm_aug {post : Int32 → St2 → Prop} {i q : Nat} (hi : i < 7) (hq : q < 128) (h1 : a1 i = nI q) (h3 : q ≠ 0 → ∀ j, j < 7 → a3 j = -1) (H0 : q = 0 → ∀ t, post 0 (f0, f1, f2, f3, f4, a1, a2, a3, t, a5, a6, a7))
    (H1 : ∀ c t s, c < 7 → q.testBit c = true → post 1 (f0, f1, f2, f3, f4, a1, upd a2 i (nI c), upd a3 c (nI i), t, s, a6, a7)) : wpX_augment post (f0, f1, f2, f3, f4, a1, a2, a3, a4, a5, a6, a7) (nI i) := by
  refine nm_e ⟨2, ?_⟩
  refine pk_le 1 0 (fun z => absurd z (by omega)) (fun _ => ⟨pk_in 0 7 (by omega), nm_r (e' := nI i) ?_ (dm_33 hi hq h1 h3 (fun z => ?_) (fun c s hc hb => H1 c _ s hc hb))⟩)
  · rw [sb_cl0, pk_us]
    exact dm_b8 i (by omega)
  · exact pk_le 1 1 (fun _ => H0 z _) (fun y => absurd y (by omega))
end
end
section
section
variable {f0 f1 f2 f3 f4 : Int32} {a1 a2 a3 a4 a5 a6 a7 : Nat → Int32}
theorem dm_123 {post : St2 → Prop} {r m p k : Nat} (hE : dm_E r m a1) (hM : dm_M p k a2 a3) (hG : dm_G r m p k) (H : ∀ x y z s t, (∀ j, j < 7 → dm_U1 r m k t j) → post (f0, nI (dm_rr p 7), x, y, z, a1, a2, a3, a4, a5, s, t)) : wX_prepare_123 post f0 f1 f2 f3 f4 a1 a2 a3 a4 a5 a6 a7 :=
  dm_reach hE hM hG (fun x y z s => dm_u2 hE hM hG (fun t ht => H x y z s t ht))
theorem dm_86 {post : St2 → Prop} {J : Int32 → Int32 → Int32 → Int32 → Int32 → Int32 → Int32 → (Nat → Int32) → (Nat → Int32) → (Nat → Int32) → (Nat → Int32) → (Nat → Int32) → (Nat → Int32) → (Nat → Int32) → Prop} {r m p k t : Nat} (hE : dm_E r m a1) (hM : dm_M p k a2 a3) (hW : dm_Wk r m p k)
    (hJ : ∀ x b2 b3 b4 b5 p' k', dm_M p' k' b2 b3 → dm_G r m p' k' → J x (nI (t + 1)) f0 f1 f2 f3 f4 a1 b2 b3 b4 b5 a6 a7) : ∃ n, wX_prepare_86 post J (nI t) n 0 0 f0 f1 f2 f3 f4 a1 a2 a3 a4 a5 a6 a7 :=
  pk_loop (σ := Int32 × (Nat → Int32) × (Nat → Int32) × (Nat → Int32) × (Nat → Int32)) (fun n i s => wX_prepare_86 post J (nI t) n s.1 (nI i) f0 f1 f2 f3 f4 a1 s.2.1 s.2.2.1 s.2.2.2.1 s.2.2.2.2 a6 a7)
    (fun i s => ∃ p k, dm_M p k s.2.1 s.2.2.1 ∧ dm_Wk r m p k ∧ (r < i → dm_G r m p k)) 7 0 (0, a2, a3, a4, a5) (by omega) ⟨p, k, hM, hW, fun z => absurd z (by omega)⟩
    (fun n s h => by
      obtain ⟨x, b2, b3, b4, b5⟩ := s
      obtain ⟨p, k, hM, hW, hG⟩ := h
      exact pk_le 7 7 (fun _ => nm_r (nI_1 t) (hJ x b2 b3 b4 b5 p k hM (hG hE.1))) (fun z => absurd z (by omega)))
    (fun n i s hi h hw => by
      obtain ⟨x, b2, b3, b4, b5⟩ := s
      obtain ⟨p, k, hM, hW, hG⟩ := h
      have hM' : dm_M p k b2 b3 := hM
      have hw' : ∀ y c2 c3 c4 c5, (∃ p k, dm_M p k c2 c3 ∧ dm_Wk r m p k ∧ (r < i + 1 → dm_G r m p k)) → wX_prepare_86 post J (nI t) n y (nI (i + 1)) f0 f1 f2 f3 f4 a1 c2 c3 c4 c5 a6 a7 := fun y c2 c3 c4 c5 hh => hw (y, c2, c3, c4, c5) hh
      show wX_prepare_86 post J (nI t) (n + 1) x (nI i) f0 f1 f2 f3 f4 a1 b2 b3 b4 b5 a6 a7
      refine pk_le 7 i (fun z => absurd z (by omega)) (fun _ => ⟨pk_in i 7 hi, ?_⟩)
      rw [nI_clamp (show i < 2 ^ 31 by omega)]
      by_cases e : i = p
      · refine br_t ?_ (nm_r (nI_1 i) (hw' _ _ _ _ _ ⟨p, k, hM', hW, fun _ => ?_⟩))
        · rw [e, dm_Mp hM' (by omega)]
          exact nI_pos' (by rcases hW with g | g <;> omega)
        · rcases hW with g | g
          · exact Or.inl g
          · omega
      · refine br_f ?_ ?_
        · rw [dm_Mn hM' hi e]
          exact dm_neg'
        · obtain ⟨q, q1, q2, q3, q4⟩ := dm_Er hE i hi
          have hr : q ≠ 0 → i = r := fun z => by
            by_cases y : i = r
            · exact y
            · exact absurd (q4 y) z
          have h77 : i = r → p = 7 ∧ k = 7 := fun y => by
            rcases hW with g | g
            · exact absurd (y.trans g.1.symm) e
            · exact g
          refine dm_aug hi q1 q2 (fun z j hj => dm_Mc hM' hj (by have := (h77 (hr z)).2; omega)) (fun z s => ?_) (fun c s u hc hb => ?_)
          · refine br_t rfl (nm_r (nI_1 i) (hw' _ _ _ _ _ ⟨p, k, hM', hW, fun y => ?_⟩))
            by_cases w : r < i
            · exact hG w
            · have ir : i = r := by omega
              exact Or.inr ⟨(h77 ir).1, (h77 ir).2, by rw [← q3 ir]; exact z⟩
          · have ir : i = r := hr (fun z => by rw [z, dm_tz] at hb; exact absurd hb (by decide))
            have g : dm_G r m i c := Or.inl ⟨ir, hc, by rw [← q3 ir]; exact hb⟩
            have M7 : dm_M 7 7 b2 b3 := by
              have z := h77 ir
              rw [z.1, z.2] at hM'
              exact hM'
            exact br_f (by decide) (nm_r (nI_1 i) (hw' _ _ _ _ _ ⟨i, c, dm_Mmake M7 i c, dm_WkG g, fun _ => g⟩)))
theorem dm_72 {post : St2 → Prop} {r m p k : Nat} (hE : dm_E r m a1) (hM : dm_M p k a2 a3) (hW : dm_Wk r m p k)
    (H : ∀ p' k' b2 b3 b4 b5 x y z s t, dm_M p' k' b2 b3 → dm_G r m p' k' → (∀ j, j < 7 → dm_U1 r m k' t j) → post (f0, nI (dm_rr p' 7), x, y, z, a1, b2, b3, b4, b5, s, t)) : ∃ n, wX_prepare_72 post n 1 0 f0 f1 f2 f3 f4 a1 a2 a3 a4 a5 a6 a7 :=
  pk_loop (σ := Int32 × (Nat → Int32) × (Nat → Int32) × (Nat → Int32) × (Nat → Int32)) (fun n i s => wX_prepare_72 post n s.1 (nI i) f0 f1 f2 f3 f4 a1 s.2.1 s.2.2.1 s.2.2.2.1 s.2.2.2.2 a6 a7)
    (fun i s => ∃ p k, dm_M p k s.2.1 s.2.2.1 ∧ dm_Wk r m p k ∧ (0 < i → dm_G r m p k) ∧ (i = 0 → s.1 = 1)) 8 0 (1, a2, a3, a4, a5) (by omega) ⟨p, k, hM, hW, fun z => absurd z (by omega), fun _ => rfl⟩
    (fun n s h => by
      obtain ⟨x, b2, b3, b4, b5⟩ := s
      obtain ⟨p, k, hM, hW, hG, _⟩ := h
      have g := hG (by omega)
      exact pk_le 8 8 (fun _ => dm_123 hE hM g (fun x y z s t ht => H p k _ _ _ _ x y z s t hM g ht)) (fun z => absurd z (by omega)))
    (fun n i s hi h hw => by
      obtain ⟨x, b2, b3, b4, b5⟩ := s
      obtain ⟨p, k, hM, hW, hG, h1⟩ := h
      have h1' : i = 0 → x = 1 := h1
      refine pk_le 8 i (fun z => absurd z (by omega)) (fun _ => br_c (fun x0 => ?_) (fun x1 => ?_))
      · have g := hG (by
          by_cases e : i = 0
          · have x0' : x = 0 := x0
            rw [h1' e] at x0'
            exact absurd x0' (by decide)
          · omega)
        exact dm_123 hE hM g (fun x y z s t ht => H p k _ _ _ _ x y z s t hM g ht)
      · exact dm_86 hE hM hW (fun x c2 c3 c4 c5 p' k' hM' hG' => hw (x, c2, c3, c4, c5) ⟨p', k', hM', dm_WkG hG', fun _ => hG', fun z => absurd z (by omega)⟩))
theorem dm_15 {post : St2 → Prop} {r m p k : Nat} (hE : dm_E r m a1) (hM : dm_M p k a2 a3) (hV : dm_V r p k)
    (H : ∀ p' k' b2 b3 b4 b5 x y z s t, dm_M p' k' b2 b3 → dm_G r m p' k' → (∀ j, j < 7 → dm_U1 r m k' t j) → post (f0, nI (dm_rr p' 7), x, y, z, a1, b2, b3, b4, b5, s, t)) : ∃ n, wX_prepare_15 post f0 f1 f2 f3 f4 n 0 a1 a2 a3 a4 a5 a6 a7 :=
  pk_loop (σ := (Nat → Int32) × (Nat → Int32)) (fun n i s => wX_prepare_15 post f0 f1 f2 f3 f4 n (nI i) a1 s.1 s.2 a4 a5 a6 a7)
    (fun i s => ∃ p k, dm_M p k s.1 s.2 ∧ dm_V r p k ∧ (r < i → dm_Wk r m p k)) 7 0 (a2, a3) (by omega) ⟨p, k, hM, hV, fun z => absurd z (by omega)⟩
    (fun n s h => by
      obtain ⟨b2, b3⟩ := s
      obtain ⟨p, k, hM, hV, hW⟩ := h
      exact pk_le 7 7 (fun _ => dm_72 hE hM (hW hE.1) H) (fun z => absurd z (by omega)))
    (fun n i s hi h hw => by
      obtain ⟨b2, b3⟩ := s
      obtain ⟨p, k, hM, hV, hW⟩ := h
      have hM' : dm_M p k b2 b3 := hM
      have hw' : ∀ c2 c3, (∃ p k, dm_M p k c2 c3 ∧ dm_V r p k ∧ (r < i + 1 → dm_Wk r m p k)) → wX_prepare_15 post f0 f1 f2 f3 f4 n (nI (i + 1)) a1 c2 c3 a4 a5 a6 a7 := fun c2 c3 hh => hw (c2, c3) hh
      show wX_prepare_15 post f0 f1 f2 f3 f4 (n + 1) (nI i) a1 b2 b3 a4 a5 a6 a7
      refine pk_le 7 i (fun z => absurd z (by omega)) (fun _ => ⟨pk_in i 7 hi, ?_⟩)
      rw [nI_clamp (show i < 2 ^ 31 by omega)]
      by_cases e : i = p
      · have kr : p = r ∧ k < 7 := by
          rcases hV with g | g
          · exact g
          · omega
        refine nm_r (e' := nI k) (by rw [e, dm_Mp hM' (by omega)]) (br_f (nI_pos (by omega)) ⟨pk_in i 7 hi, ?_⟩)
        rw [show a1 i = nI m by rw [e, kr.1]; exact hE.2.2.1, nI_clamp (show k < 2 ^ 31 by omega)]
        refine ek_if (dm_bit m hE.2.1 k kr.2) (fun g => ⟨pk_in i 7 hi, nm_e ⟨pk_in k 7 kr.2, nm_e (nm_r (nI_1 i) (hw' _ _ ⟨7, 7, ?_, Or.inr ⟨rfl, rfl⟩, fun _ => Or.inr ⟨rfl, rfl⟩⟩))⟩⟩) (fun g => nm_r (nI_1 i) (hw' _ _ ⟨p, k, hM', hV, fun _ => Or.inl ⟨kr.1, kr.2, dm_nt g⟩⟩))
        rw [e]
        exact dm_Mdrop hM'
      · refine nm_r (e' := -1) (dm_Mn hM' hi e) (br_t dm_neg (nm_r (nI_1 i) (hw' _ _ ⟨p, k, hM', hV, fun y => ?_⟩)))
        by_cases w : r < i
        · exact hW w
        · rcases hV with g | g
          · omega
          · exact Or.inr g)
end
/-- a prepared state -/
def dm_Rdy (r m : Nat) (u : St2) : Prop := ∃ (p k : Nat) (f2 f3 f4 : Int32) (a1 a2 a3 a4 a5 a6 a7 : Nat → Int32), u = (1, nI (dm_rr p 7), f2, f3, f4, a1, a2, a3, a4, a5, a6, a7) ∧ dm_E r m a1 ∧ dm_M p k a2 a3 ∧ dm_G r m p k ∧ ∀ j, j < 7 → dm_U1 r m k a7 j
/-- a state that is to be prepared -/
def dm_Stl (r m : Nat) (u : St2) : Prop := ∃ (p k : Nat) (f1 f2 f3 f4 : Int32) (a1 a2 a3 a4 a5 a6 a7 : Nat → Int32), u = (0, f1, f2, f3, f4, a1, a2, a3, a4, a5, a6, a7) ∧ dm_E r m a1 ∧ dm_M p k a2 a3 ∧ dm_V r p k
theorem dm_prep {post : St2 → Prop} {r m : Nat} {u : St2} (h : dm_Rdy r m u ∨ dm_Stl r m u) (H : ∀ v, dm_Rdy r m v → post v) : wpX_prepare post u := by
  rcases h with h | h
  · have h' := H u h
    obtain ⟨p, k, f2, f3, f4, a1, a2, a3, a4, a5, a6, a7, rfl, h1, h2, h3, h4⟩ := h
    exact br_f (by decide) h'
  · obtain ⟨p, k, f1, f2, f3, f4, a1, a2, a3, a4, a5, a6, a7, rfl, h1, h2, h3⟩ := h
    exact br_t rfl (dm_15 h1 h2 h3 (fun p' k' b2 b3 b4 b5 x y z s t e1 e2 e3 => H _ ⟨p', k', x, y, z, a1, b2, b3, b4, b5, s, t, rfl, h1, e1, e2, e3⟩))
end
section
/-- what the law's booleans mean: row (x4), put (x5), whole (x6), asked (x7) -/
def dm_A1 (x0 x4 : Int32) (r : Nat) : Prop := r < 7 ∧ ((x4 = 1 ∧ x0 = nI r) ∨ (x4 = 0 ∧ (x0 < 0 ∨ 6 < x0)))
def dm_A2 (x1 x4 x5 : Int32) (m : Nat) : Prop := (x5 = 1 ∧ x4 = 1 ∧ ∃ c, c < 7 ∧ x1 = nI c ∧ m = 2 ^ c) ∨ (x5 = 0 ∧ m = 0 ∧ (x4 = 0 ∨ x1 < 0 ∨ 6 < x1))
def dm_A3 (x2 x4 x6 : Int32) (m w : Nat) : Prop := (x6 = 1 ∧ x4 = 1 ∧ x2 = nI w ∧ w < 128) ∨ (x6 = 0 ∧ w = m ∧ (x4 = 0 ∨ x2 < 0 ∨ 127 < x2))
def dm_A4 (x3 x7 : Int32) (q : Nat) : Prop := (x7 = 1 ∧ x3 = nI q ∧ q < 7) ∨ (x7 = 0 ∧ (x3 < 0 ∨ 6 < x3))
theorem dm_10 : ¬ (1 : Int32) = 0 := by decide
theorem dm_GV {r m p k : Nat} (h : dm_G r m p k) : dm_V r p k := by
  rcases h with h | h
  · exact Or.inl ⟨h.1, h.2.1⟩
  · exact Or.inr ⟨h.1, h.2.1⟩
theorem dm_Ez {r m : Nat} {a1 : Nat → Int32} (h : dm_E r m a1) (i : Nat) (hi : i < 7) : a1 i = if i = r then nI m else 0 := by
  by_cases e : i = r
  · rw [if_pos e, e]
    exact h.2.2.1
  · rw [if_neg e]
    exact h.2.2.2 i hi e
theorem dm_Eu {r m s : Nat} {a1 : Nat → Int32} (h : dm_E r m a1) (hs : s < 128) : dm_E r s (upd a1 r (nI s)) :=
  ⟨h.1, hs, pk_us, fun j hj e => by rw [pk_un e]; exact h.2.2.2 j hj e⟩
section
variable {f0 f1 f2 f3 f4 : Int32} {a1 a2 a3 a4 a5 a6 a7 : Nat → Int32}
theorem dm_in {post : Int32 → Prop} {i : Nat} (hi : i < 7) (H : post 1) : wpX_isNumber post (f0, f1, f2, f3, f4, a1, a2, a3, a4, a5, a6, a7) (nI i) :=
  br_f (nI_pos (by omega)) (pk_lt 6 i (fun z => absurd z (by omega)) (fun _ => H))
theorem dm_out {post : Int32 → Prop} {x : Int32} (hx : x < 0 ∨ 6 < x) (H : post 0) : wpX_isNumber post (f0, f1, f2, f3, f4, a1, a2, a3, a4, a5, a6, a7) x :=
  br_c (fun _ => H) (fun z => by
    rcases hx with y | y
    · exact absurd y z
    · exact br_t y H)
end
theorem dm_init {post : St2 → Prop} (H : ∀ b2 b3, dm_M 7 7 b2 b3 → post (0, 0, 0, 0, 0, fun _ => 0, b2, b3, fun _ => 0, fun _ => 0, fun _ => 0, fun _ => 0)) : wpX_init post 7 49 (0, 0, 0, 0, 0) := by
  refine ⟨by omega, by omega, by omega, by omega, by omega, by omega, by omega, by omega, by omega, by omega, by omega, by omega, by omega, by omega, ?_⟩
  refine pk_loop (σ := (Nat → Int32) × (Nat → Int32)) (fun n i s => wX_init_62 post 7 49 7 49 0 0 0 0 0 n (nI i) (fun _ => 0) s.1 s.2 (fun _ => 0) (fun _ => 0) (fun _ => 0) (fun _ => 0))
    (fun i s => (∀ j, j < i → s.1 j = -1) ∧ (∀ j, j < i → s.2 j = -1)) 7 0 (fun _ => 0, fun _ => 0) (by omega) ⟨fun j hj => absurd hj (by omega), fun j hj => absurd hj (by omega)⟩
    (fun n s h => pk_le 7 7 (fun _ => H s.1 s.2 ⟨fun j hj => by rw [h.1 j hj, if_neg (by omega)], fun j hj => by rw [h.2 j hj, if_neg (by omega)]⟩) (fun z => absurd z (by omega)))
    (fun n i s hi h hw => pk_le 7 i (fun z => absurd z (by omega)) (fun _ => ⟨pk_in i 7 hi, nm_e ⟨pk_in i 7 hi, nm_e (nm_r (nI_1 i) (hw (_, _) ⟨?_, ?_⟩))⟩⟩))
  · show ∀ j, j < i + 1 → upd s.1 (nI i).toNatClampNeg (-1) j = -1
    rw [nI_clamp (show i < 2 ^ 31 by omega)]
    intro j hj
    by_cases e : j = i
    · rw [e, pk_us]
    · rw [pk_un e]
      exact h.1 j (by omega)
  · show ∀ j, j < i + 1 → upd s.2 (nI i).toNatClampNeg (-1) j = -1
    rw [nI_clamp (show i < 2 ^ 31 by omega)]
    intro j hj
    by_cases e : j = i
    · rw [e, pk_us]
    · rw [pk_un e]
      exact h.2 j (by omega)
theorem dm_edge {post : Int32 → St2 → Prop} {r m : Nat} {x0 x1 x4 x5 f1 f2 f3 f4 : Int32} {a2 a3 a4 a5 a6 a7 : Nat → Int32} (h1 : dm_A1 x0 x4 r) (h2 : dm_A2 x1 x4 x5 m) (hM : dm_M 7 7 a2 a3) (H : ∀ v, dm_Stl r m v → post x5 v) : wpX_edge post (0, f1, f2, f3, f4, fun _ => 0, a2, a3, a4, a5, a6, a7) x0 x1 1 := by
  obtain ⟨hr, h1⟩ := h1
  have hE : dm_E r 0 (fun _ => 0) := ⟨hr, by omega, rfl, fun _ _ _ => rfl⟩
  unfold wpX_edge
  rcases h1 with h1 | h1
  · rw [h1.2]
    refine dm_in hr (br_f dm_10 ?_)
    rcases h2 with h2 | h2
    · obtain ⟨e5, e4, c, hc, e1, em⟩ := h2
      subst e5
      rw [e1]
      refine dm_in hc (br_f dm_10 (br_f dm_10 ⟨pk_in r 7 hr, pk_in r 7 hr, nm_r (e' := upd (fun _ => 0) r (nI (2 ^ c))) ?_ ?_⟩))
      · rw [nI_clamp (show r < 2 ^ 31 by omega), ← dm_pw c hc]
      · exact H _ ⟨7, 7, f1, f2, f3, f4, _, a2, a3, a4, a5, a6, a7, rfl, by rw [em]; exact dm_Eu hE (dm_pwL c hc), hM, Or.inr ⟨rfl, rfl⟩⟩
    · obtain ⟨e5, em, h2⟩ := h2
      subst e5
      have hx : x1 < 0 ∨ 6 < x1 := by
        rcases h2 with z | z
        · rw [h1.1] at z
          exact absurd z dm_10
        · exact z
      exact dm_out hx (br_t rfl (H _ ⟨7, 7, f1, f2, f3, f4, _, a2, a3, a4, a5, a6, a7, rfl, by rw [em]; exact hE, hM, Or.inr ⟨rfl, rfl⟩⟩))
  · refine dm_out h1.2 (br_t rfl ?_)
    rcases h2 with h2 | h2
    · have z := h2.2.1
      rw [h1.1] at z
      exact absurd z.symm dm_10
    · obtain ⟨e5, em, _⟩ := h2
      subst e5
      exact H _ ⟨7, 7, f1, f2, f3, f4, _, a2, a3, a4, a5, a6, a7, rfl, by rw [em]; exact hE, hM, Or.inr ⟨rfl, rfl⟩⟩
theorem dm_only {r m p k : Nat} (hm : m = 0 ∨ ∃ c, c < 7 ∧ m = 2 ^ c) (hG : dm_G r m p k) : ∀ c, c < 7 → m.testBit c = true → c = k := by
  intro c hc hb
  rcases hm with z | ⟨d, hd, z⟩
  · rw [z, dm_tz] at hb
    exact absurd hb (by decide)
  · rcases hG with g | g
    · have g2 := g.2.2
      rw [z] at g2 hb
      rw [dm_pwT d hd c hc hb, dm_pwT d hd k g.2.1 g2]
    · exact absurd (z.symm.trans g.2.2) (dm_pw0 d hd)
theorem dm_usable {post : Int32 → St2 → Prop} {r m q : Nat} {x3 x7 : Int32} {u : St2} (hu : dm_Rdy r m u ∨ dm_Stl r m u) (h4 : dm_A4 x3 x7 q) (hm : m = 0 ∨ ∃ c, c < 7 ∧ m = 2 ^ c)
    (H : ∀ w v, (dm_Rdy r m v ∨ dm_Stl r m v) → (x7 = 0 → w = -1) → (x7 = 1 → w = if q = r then nI m else 0) → post w v) : wpX_usable post u x3 := by
  obtain ⟨f0, f1, f2, f3, f4, a1, a2, a3, a4, a5, a6, a7⟩ := u
  unfold wpX_usable
  rcases h4 with h4 | h4
  · obtain ⟨e7, e3, hq⟩ := h4
    rw [e3]
    refine dm_in hq (br_f dm_10 (dm_prep hu (fun v hv => ?_)))
    have hv' := hv
    obtain ⟨p, k, g2, g3, g4, b1, b2, b3, b4, b5, b6, b7, rfl, k1, k2, k3, k4⟩ := hv
    refine ⟨pk_in q 7 hq, H _ _ (Or.inl hv') (fun z => ?_) (fun _ => ?_)⟩
    · rw [e7] at z
      exact absurd z dm_10
    · rw [nI_clamp (show q < 2 ^ 31 by omega)]
      by_cases e : q = r
      · rw [if_pos e]
        exact (k4 q hq).2 e (dm_only hm k3)
      · rw [if_neg e]
        exact (k4 q hq).1 e
  · refine dm_out h4.2 (br_t rfl (H _ _ hu (fun _ => rfl) (fun z => ?_)))
    rw [h4.1] at z
    exact absurd z.symm dm_10
theorem dm_loose {post : Int32 → St2 → Prop} {r m : Nat} {u : St2} (hu : dm_Rdy r m u ∨ dm_Stl r m u)
    (H : ∀ w v, dm_Rdy r m v → (m = 0 → w = 127) → (m ≠ 0 → w = 127 &&& (((1 : Int32) <<< (nI r &&& 31)) ^^^ (-1))) → post w v) : wpX_looseRows post u := by
  obtain ⟨f0, f1, f2, f3, f4, a1, a2, a3, a4, a5, a6, a7⟩ := u
  unfold wpX_looseRows
  refine dm_prep hu (fun v hv => ?_)
  have hv' := hv
  obtain ⟨p, k, g2, g3, g4, b1, b2, b3, b4, b5, b6, b7, rfl, k1, k2, k3, k4⟩ := hv
  refine H _ _ hv' (fun z => ?_) (fun z => ?_)
  · rcases k3 with g | g
    · have g2 := g.2.2
      rw [z, dm_tz] at g2
      exact absurd g2 (by decide)
    · rw [g.1]
      exact dm_rr7
  · rcases k3 with g | g
    · rw [g.1]
      exact dm_rrR r k1.1
    · exact absurd g.2.2 z
theorem dm_row {post : Int32 → St2 → Prop} {r m w : Nat} {x0 x2 x4 x6 : Int32} {u : St2} (hu : dm_Rdy r m u) (h1 : dm_A1 x0 x4 r) (h3 : dm_A3 x2 x4 x6 m w) (H : ∀ v, (dm_Rdy r w v ∨ dm_Stl r w v) → post x6 v) : wpX_row post u x0 x2 := by
  have hu' := hu
  obtain ⟨p, k, g2, g3, g4, b1, b2, b3, b4, b5, b6, b7, rfl, k1, k2, k3, k4⟩ := hu
  obtain ⟨hr, h1⟩ := h1
  unfold wpX_row
  rcases h1 with h1 | h1
  · rw [h1.2]
    refine dm_in hr (br_f dm_10 ?_)
    rcases h3 with h3 | h3
    · obtain ⟨e6, e4, e2, hw⟩ := h3
      subst e6
      rw [e2]
      refine br_f (nI_pos (by omega)) (br_t (nI_le (b := 127) (by omega) (by omega)) ⟨pk_in r 7 hr, nm_r (e' := upd b1 r (nI w)) ?_ ?_⟩)
      · rw [nI_clamp (show r < 2 ^ 31 by omega)]
      · exact H _ (Or.inr ⟨p, k, _, g2, g3, g4, _, b2, b3, b4, b5, b6, b7, rfl, dm_Eu k1 hw, k2, dm_GV k3⟩)
    · obtain ⟨e6, ew, h3⟩ := h3
      subst e6
      have K : post 0 (1, nI (dm_rr p 7), g2, g3, g4, b1, b2, b3, b4, b5, b6, b7) := H _ (Or.inl (by rw [ew]; exact hu'))
      refine br_c (fun _ => K) (fun z => br_f ?_ K)
      rcases h3 with y | y | y
      · rw [h1.1] at y
        exact absurd y dm_10
      · exact absurd y z
      · exact Int32.not_le.mpr y
  · refine dm_out h1.2 (br_t rfl ?_)
    rcases h3 with h3 | h3
    · have z := h3.2.1
      rw [h1.1] at z
      exact absurd z.symm dm_10
    · obtain ⟨e6, ew, _⟩ := h3
      subst e6
      exact H _ (Or.inl (by rw [ew]; exact hu'))
theorem dm_cols {post : Int32 → Prop} {r m q : Nat} {x3 x7 : Int32} {u : St2} (hu : dm_Rdy r m u ∨ dm_Stl r m u) (h4 : dm_A4 x3 x7 q) (H : ∀ w, (x7 = 0 → w = -1) → (x7 = 1 → w = if q = r then nI m else 0) → post w) : wpX_columnsOf post u x3 := by
  have hE : dm_E r m u.2.2.2.2.2.1 := by
    rcases hu with h | h
    · obtain ⟨p, k, g2, g3, g4, b1, b2, b3, b4, b5, b6, b7, rfl, k1, k2, k3, k4⟩ := h
      exact k1
    · obtain ⟨p, k, g1, g2, g3, g4, b1, b2, b3, b4, b5, b6, b7, rfl, k1, k2, k3⟩ := h
      exact k1
  obtain ⟨f0, f1, f2, f3, f4, a1, a2, a3, a4, a5, a6, a7⟩ := u
  have hE' : dm_E r m a1 := hE
  unfold wpX_columnsOf
  rcases h4 with h4 | h4
  · obtain ⟨e7, e3, hq⟩ := h4
    rw [e3]
    refine dm_in hq (br_f dm_10 ⟨pk_in q 7 hq, H _ (fun z => ?_) (fun _ => ?_)⟩)
    · rw [e7] at z
      exact absurd z dm_10
    · rw [nI_clamp (show q < 2 ^ 31 by omega)]
      exact dm_Ez hE' q hq
  · refine dm_out h4.2 (br_t rfl (H _ (fun _ => rfl) (fun z => ?_)))
    rw [h4.1] at z
    exact absurd z.symm dm_10
theorem dm_lg8 {post : Int32 → St2 → Prop} {f0 f1 f2 f3 f4 : Int32} {a1 a2 a3 a4 a5 a6 a7 : Nat → Int32} {p k : Nat} (hk : k < 8) (hM : dm_M p k a2 a3) (hp : p < 7 → k < 7) (H : post (if p < 7 then 1 else 0) (f0, f1, f2, f3, f4, a1, a2, a3, a4, a5, a6, a7)) : ∃ n, wX_largest_8 post f0 f1 f2 f3 f4 a1 a2 a3 a4 a5 a6 a7 n 0 0 :=
  pk_loop (fun n i s => wX_largest_8 post f0 f1 f2 f3 f4 a1 a2 a3 a4 a5 a6 a7 n s (nI i)) (fun i s => s = if p < i then 1 else 0) 7 0 0 (by omega) (by rw [if_neg (by omega)])
    (fun n s h => pk_le 7 7 (fun _ => by rw [h]; exact H) (fun z => absurd z (by omega)))
    (fun n i s hi h hw => by
      refine pk_le 7 i (fun z => absurd z (by omega)) (fun _ => ⟨pk_in i 7 hi, ?_⟩)
      rw [nI_clamp (show i < 2 ^ 31 by omega)]
      by_cases e : i = p
      · refine br_f ?_ (nm_r (e' := 1) ?_ (nm_r (nI_1 i) (hw 1 ?_)))
        · rw [e, dm_Mp hM (by omega)]
          exact nI_pos (by omega)
        · rw [h, if_neg (by omega)]
          decide
        · rw [if_pos (by omega)]
      · refine br_t ?_ (nm_r (nI_1 i) (hw s ?_))
        · rw [dm_Mn hM hi e]
          exact dm_neg
        · rw [h]
          by_cases w : p < i
          · rw [if_pos w, if_pos (by omega)]
          · rw [if_neg w, if_neg (by omega)])
theorem dm_large {post : Int32 → St2 → Prop} {r m : Nat} {u : St2} (hu : dm_Rdy r m u ∨ dm_Stl r m u) (H : ∀ w v, (m = 0 → w = 0) → (m ≠ 0 → w = 1) → post w v) : wpX_largest post u := by
  obtain ⟨f0, f1, f2, f3, f4, a1, a2, a3, a4, a5, a6, a7⟩ := u
  unfold wpX_largest
  refine dm_prep hu (fun v hv => ?_)
  obtain ⟨p, k, g2, g3, g4, b1, b2, b3, b4, b5, b6, b7, rfl, k1, k2, k3, k4⟩ := hv
  refine dm_lg8 (p := p) (k := k) ?_ k2 ?_ (H _ _ (fun z => ?_) (fun z => ?_))
  · rcases k3 with g | g <;> omega
  · intro z
    rcases k3 with g | g <;> omega
  · rcases k3 with g | g
    · have g2 := g.2.2
      rw [z, dm_tz] at g2
      exact absurd g2 (by decide)
    · rw [if_neg (by omega)]
  · rcases k3 with g | g
    · rw [if_pos (by have := k1.1; omega)]
    · exact absurd g.2.2 z
end
section
section
variable {f0 f1 f2 f3 f4 : Int32} {a1 a2 a3 a4 a5 a6 a7 : Nat → Int32} {post : Int32 → St0 → Prop} {mc ms kc ks : Nat}
theorem dm_235 {r w : Nat} {x9 z0 z1 : Int32} (H : post 1 ()) (hz : z1 = z0) (hu : dm_Rdy r w (f0, f1, f2, f3, f4, a1, a2, a3, a4, a5, a6, a7) ∨ dm_Stl r w (f0, f1, f2, f3, f4, a1, a2, a3, a4, a5, a6, a7)) (h9 : x9 = 0 ↔ w = 0) : wL_lawOf_235 post mc ms x9 z0 z1 kc ks f0 f1 f2 f3 f4 a1 a2 a3 a4 a5 a6 a7 := by
  refine br_t hz (dm_large hu (fun v y v0 v1 => ?_))
  obtain ⟨g0, g1, g2, g3, g4, b1, b2, b3, b4, b5, b6, b7⟩ := y
  exact br_c (fun e => br_t (v0 (h9.mp e)) H) (fun e => br_t (v1 (fun z => e (h9.mpr z))) H)
theorem dm_202 {r q m w : Nat} {x0 x1 x2 x3 x4 x5 x6 x7 : Int32} (H : post 1 ()) (h1 : dm_A1 x0 x4 r) (h2 : dm_A2 x1 x4 x5 m) (h3 : dm_A3 x2 x4 x6 m w) (h4 : dm_A4 x3 x7 q) (hw : w < 128) (hu : dm_Rdy r w (f0, f1, f2, f3, f4, a1, a2, a3, a4, a5, a6, a7) ∨ dm_Stl r w (f0, f1, f2, f3, f4, a1, a2, a3, a4, a5, a6, a7)) : wL_lawOf_202 post mc ms x0 x3 x4 x7 (nI w) kc ks f0 f1 f2 f3 f4 a1 a2 a3 a4 a5 a6 a7 := by
  have h9 : nI w = 0 ↔ w = 0 := nI_eq (b := 0) (by omega) (by omega)
  unfold wL_lawOf_202
  refine dm_cols hu h4 (fun v v0 v1 => br_c (fun e => dm_235 H (v0 e) hu h9) (fun e => ?_))
  have hq : x3 = nI q ∧ q < 7 ∧ x7 = 1 := by
    rcases h4 with z | z
    · exact ⟨z.2.1, z.2.2, z.1⟩
    · exact absurd z.1 e
  have hv := v1 hq.2.2
  refine br_c (fun e4 => dm_235 H ?_ hu h9) (fun e4 => br_c (fun e0 => dm_235 H ?_ hu h9) (fun e0 => dm_235 H ?_ hu h9))
  · have hw0 : w = 0 := by
      have n4 : ¬ x4 = 1 := fun z => by
        rw [e4] at z
        exact absurd z.symm dm_10
      rcases h3 with z | z
      · exact absurd z.2.1 n4
      · rcases h2 with y | y
        · exact absurd y.2.1 n4
        · exact z.2.1.trans y.2.1
    rw [hv, hw0]
    by_cases z : q = r
    · rw [if_pos z]
      rfl
    · rw [if_neg z]
  · have hr := h1.1
    rcases h1.2 with z | z
    · rw [z.2, hq.1, nI_eq (by omega) (by omega)] at e0
      rw [hv, if_pos e0]
    · exact absurd z.1 e4
  · rcases h1.2 with z | z
    · rw [z.2, hq.1] at e0
      rw [hv, if_neg (fun y => e0 (by rw [y]))]
    · exact absurd z.1 e4
theorem dm_162 {r q m w : Nat} {x0 x1 x2 x3 x4 x5 x6 x7 z0 z1 : Int32} (H : post 1 ()) (h1 : dm_A1 x0 x4 r) (h2 : dm_A2 x1 x4 x5 m) (h3 : dm_A3 x2 x4 x6 m w) (h4 : dm_A4 x3 x7 q) (hz : z1 = z0) (hu : dm_Rdy r m (f0, f1, f2, f3, f4, a1, a2, a3, a4, a5, a6, a7)) : wL_lawOf_162 post mc ms x0 x1 x2 x3 x4 x5 x6 x7 z0 z1 kc ks f0 f1 f2 f3 f4 a1 a2 a3 a4 a5 a6 a7 := by
  refine br_t hz (dm_row hu h1 h3 (fun y hy => ?_))
  obtain ⟨g0, g1, g2, g3, g4, b1, b2, b3, b4, b5, b6, b7⟩ := y
  have hm : m < 128 := by
    rcases h2 with z | z
    · obtain ⟨_, _, c, hc, _, e⟩ := z
      rw [e]
      exact dm_pwL c hc
    · omega
  have hw : w < 128 := by
    rcases h3 with z | z
    · exact z.2.2.2
    · omega
  have L := dm_202 (mc := mc) (ms := ms) (kc := kc) (ks := ks) H h1 h2 h3 h4 hw hy
  refine br_t rfl (br_c (fun e6 => ?_) (fun e6 => ?_))
  · have wm : w = m := by
      rcases h3 with z | z
      · rw [z.1] at e6
        exact absurd e6 dm_10
      · exact z.2.1
    refine br_c (fun e5 => ?_) (fun e5 => ?_)
    · have m0 : m = 0 := by
        rcases h2 with z | z
        · rw [z.1] at e5
          exact absurd e5 dm_10
        · exact z.2.1
      rw [wm, m0] at L
      exact L
    · rcases h2 with z | z
      · obtain ⟨_, _, c, hc, e1, e⟩ := z
        rw [wm, e, ← dm_pw1 c hc, ← e1] at L
        exact L
      · exact absurd z.1 e5
  · rcases h3 with z | z
    · rw [← z.2.2.1] at L
      exact L
    · exact absurd z.1 e6
theorem dm_134 {r q m w : Nat} {x0 x1 x2 x3 x4 x5 x6 x7 z0 z1 : Int32} (H : post 1 ()) (h1 : dm_A1 x0 x4 r) (h2 : dm_A2 x1 x4 x5 m) (h3 : dm_A3 x2 x4 x6 m w) (h4 : dm_A4 x3 x7 q) (hz : z1 = z0) (hu : dm_Rdy r m (f0, f1, f2, f3, f4, a1, a2, a3, a4, a5, a6, a7) ∨ dm_Stl r m (f0, f1, f2, f3, f4, a1, a2, a3, a4, a5, a6, a7)) : wL_lawOf_134 post mc ms x0 x1 x2 x3 x4 x5 x6 x7 z0 z1 kc ks f0 f1 f2 f3 f4 a1 a2 a3 a4 a5 a6 a7 := by
  refine br_t hz (dm_loose hu (fun v y hy v0 v1 => ?_))
  obtain ⟨g0, g1, g2, g3, g4, b1, b2, b3, b4, b5, b6, b7⟩ := y
  refine br_c (fun e5 => dm_162 H h1 h2 h3 h4 (v0 ?_) hy) (fun e5 => dm_162 H h1 h2 h3 h4 ?_ hy)
  · rcases h2 with z | z
    · rw [z.1] at e5
      exact absurd e5 dm_10
    · exact z.2.1
  · rcases h2 with z | z
    · obtain ⟨_, e4, c, hc, _, e⟩ := z
      rcases h1.2 with y | y
      · rw [y.2]
        exact v1 (by rw [e]; exact dm_pw0 c hc)
      · rw [y.1] at e4
        exact absurd e4.symm dm_10
    · exact absurd z.1 e5
end
theorem dm_76 {post : Int32 → St0 → Prop} {r q m w : Nat} {x0 x1 x2 x3 x4 x5 x6 x7 : Int32} (H : post 1 ()) (h1 : dm_A1 x0 x4 r) (h2 : dm_A2 x1 x4 x5 m) (h3 : dm_A3 x2 x4 x6 m w) (h4 : dm_A4 x3 x7 q) : wL_lawOf_76 post 8 61 x0 x1 x2 x3 x4 x5 x6 x7 0 0 := by
  refine ⟨by omega, by omega, 7, 49, by omega, by omega, dm_init (fun b2 b3 hM => dm_edge h1 h2 hM (fun y hy => ?_))⟩
  obtain ⟨g0, g1, g2, g3, g4, c1, c2, c3, c4, c5, c6, c7⟩ := y
  have hm : m = 0 ∨ ∃ c, c < 7 ∧ m = 2 ^ c := by
    rcases h2 with z | z
    · obtain ⟨_, _, c, hc, _, e⟩ := z
      exact Or.inr ⟨c, hc, e⟩
    · exact Or.inl z.2.1
  refine br_t rfl (dm_usable (Or.inr hy) h4 hm (fun v t ht v0 v1 => ?_))
  obtain ⟨k0, k1, k2, k3, k4, d1, d2, d3, d4, d5, d6, d7⟩ := t
  refine br_c (fun e7 => dm_134 H h1 h2 h3 h4 (v0 e7) ht) (fun e7 => ?_)
  have hq : x3 = nI q ∧ q < 7 ∧ x7 = 1 := by
    rcases h4 with z | z
    · exact ⟨z.2.1, z.2.2, z.1⟩
    · exact absurd z.1 e7
  have hv := v1 hq.2.2
  refine br_c (fun e5 => dm_134 H h1 h2 h3 h4 ?_ ht) (fun e5 => ?_)
  · have m0 : m = 0 := by
      rcases h2 with z | z
      · rw [z.1] at e5
        exact absurd e5 dm_10
      · exact z.2.1
    rw [hv, m0]
    by_cases z : q = r
    · rw [if_pos z]
      rfl
    · rw [if_neg z]
  · rcases h2 with z | z
    · have h2 : dm_A2 x1 x4 x5 m := Or.inl z
      obtain ⟨_, e4, c, hc, e1, e⟩ := z
      have hr := h1.1
      rcases h1.2 with y | y
      · refine br_c (fun e0 => dm_134 H h1 h2 h3 h4 ?_ ht) (fun e0 => dm_134 H h1 h2 h3 h4 ?_ ht)
        · rw [y.2, hq.1, nI_eq (by omega) (by omega)] at e0
          rw [hv, if_pos e0, e1, dm_pw1 c hc, e]
        · rw [y.2, hq.1] at e0
          rw [hv, if_neg (fun z => e0 (by rw [z]))]
      · rw [y.1] at e4
        exact absurd e4.symm dm_10
    · exact absurd z.1 e5
theorem dm_of6 {x : Int32} (h : ¬ x < 0) (h6 : ¬ 6 < x) : ∃ j, j < 7 ∧ x = nI j := by
  obtain ⟨j, hj, e⟩ := nI_of2 (M := 6) (n := 6) (by decide) h (Int32.not_lt.mp h6)
  exact ⟨j, by omega, e⟩
theorem dm_of127 {x : Int32} (h : ¬ x < 0) (h6 : ¬ 127 < x) : ∃ j, j < 128 ∧ x = nI j := by
  obtain ⟨j, hj, e⟩ := nI_of2 (M := 127) (n := 127) (by decide) h (Int32.not_lt.mp h6)
  exact ⟨j, by omega, e⟩
theorem dm_59 {post : Int32 → St0 → Prop} {r m w : Nat} {x0 x1 x2 x3 x4 x5 x6 : Int32} (H : post 1 ()) (h1 : dm_A1 x0 x4 r) (h2 : dm_A2 x1 x4 x5 m) (h3 : dm_A3 x2 x4 x6 m w) : wL_lawOf_59 post 8 61 x0 x1 x2 x3 x4 x5 x6 0 0 :=
  br_c (fun z => dm_76 (q := 0) H h1 h2 h3 (Or.inr ⟨rfl, Or.inl z⟩)) (fun z => br_c (fun y => dm_76 (q := 0) H h1 h2 h3 (Or.inr ⟨rfl, Or.inr y⟩)) (fun y => by
    obtain ⟨q, hq, e⟩ := dm_of6 z y
    exact dm_76 H h1 h2 h3 (Or.inl ⟨rfl, e, hq⟩)))
theorem dm_37 {post : Int32 → St0 → Prop} {r m : Nat} {x0 x1 x2 x3 x4 x5 : Int32} (H : post 1 ()) (h1 : dm_A1 x0 x4 r) (h2 : dm_A2 x1 x4 x5 m) : wL_lawOf_37 post 8 61 x0 x1 x2 x3 x4 x5 0 0 :=
  br_c (fun z => dm_59 (w := m) H h1 h2 (Or.inr ⟨rfl, rfl, Or.inl z⟩)) (fun z4 => br_c (fun z => dm_59 (w := m) H h1 h2 (Or.inr ⟨rfl, rfl, Or.inr (Or.inl z)⟩)) (fun z => br_c (fun y => dm_59 (w := m) H h1 h2 (Or.inr ⟨rfl, rfl, Or.inr (Or.inr y)⟩)) (fun y => by
    obtain ⟨w, hw, e⟩ := dm_of127 z y
    have e4 : x4 = 1 := by
      rcases h1.2 with t | t
      · exact t.1
      · exact absurd t.1 z4
    exact dm_59 H h1 h2 (Or.inl ⟨rfl, e4, e, hw⟩))))
theorem dm_L15 {post : Int32 → St0 → Prop} {r : Nat} {x0 x1 x2 x3 x4 : Int32} (H : post 1 ()) (h1 : dm_A1 x0 x4 r) : wL_lawOf_15 post 8 61 x0 x1 x2 x3 x4 0 0 :=
  br_c (fun z => dm_37 (m := 0) H h1 (Or.inr ⟨rfl, rfl, Or.inl z⟩)) (fun z4 => br_c (fun z => dm_37 (m := 0) H h1 (Or.inr ⟨rfl, rfl, Or.inr (Or.inl z)⟩)) (fun z => br_c (fun y => dm_37 (m := 0) H h1 (Or.inr ⟨rfl, rfl, Or.inr (Or.inr y)⟩)) (fun y => by
    obtain ⟨c, hc, e⟩ := dm_of6 z y
    have e4 : x4 = 1 := by
      rcases h1.2 with t | t
      · exact t.1
      · exact absurd t.1 z4
    exact dm_37 (m := 2 ^ c) H h1 (Or.inl ⟨rfl, e4, c, hc, e, rfl⟩))))
theorem dm_lawOf {post : Int32 → St0 → Prop} {x0 x1 x2 x3 : Int32} (H : post 1 ()) : wpL_lawOf post 8 61 () x0 x1 x2 x3 :=
  br_c (fun z => dm_L15 (r := 0) H ⟨by omega, Or.inr ⟨rfl, Or.inl z⟩⟩) (fun z => br_c (fun y => dm_L15 (r := 0) H ⟨by omega, Or.inr ⟨rfl, Or.inr y⟩⟩) (fun y => by
    obtain ⟨r, hr, e⟩ := dm_of6 z y
    exact dm_L15 (r := r) H ⟨hr, Or.inl ⟨rfl, e⟩⟩))
theorem dm_cell {post : Int32 → Prop} {L : Nat} {xs : Nat → Int32} (hL : L ≤ 4) (j : Nat) (hj : j < 4) (H : ∀ v, post v) : wpL_cellAt post L xs () (nI j) :=
  pk_le L j (fun _ => H _) (fun h => ⟨pk_in j L h, H _⟩)
theorem i_vc (xs : Nat → Int32) (L : Nat) (hL : L ≤ 4) : wpL_law (fun r => r = 1) L xs :=
  dm_cell hL 0 (by omega) (fun _ => dm_cell hL 1 (by omega) (fun _ => dm_cell hL 2 (by omega) (fun _ => dm_cell hL 3 (by omega) (fun _ => ⟨8, 61, by omega, by omega, dm_lawOf rfl⟩))))
end
