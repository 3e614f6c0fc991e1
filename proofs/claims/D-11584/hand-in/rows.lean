section
def ht_rw (B r : Nat) : Nat := B / 16 * 16 + B % 2 + 2 * r
def ht_bt (B r c : Nat) : Nat := ht_rw B r / 2 ^ c % 2
def ht_bb (u r c : Nat) : Nat := if c = 1 then r % 2 else if c = 2 then r / 2 % 2 else if c = 3 then r / 4 % 2 else u
def ht_st (f : Nat → Nat) : List (Nat × Nat) → Nat → Nat → List (Nat × Nat) → List (Nat × Nat) → List (Nat × Nat)
  | [], _, _, zs, os => zs ++ os
  | p :: l, sz, so, zs, os =>
    if f p.1 = 0 then ht_st f l 0 (max so p.2) (zs ++ [(p.1, max sz p.2)]) os
    else ht_st f l (max sz p.2) 0 zs (os ++ [(p.1, max so p.2)])
def ht_tab : List (List (List (Nat × Nat))) := [
  [[],
   [],
   [],
   [],
   [],
   [],
   [],
   [],
   [],
   [],
   [],
   [],
   []],
  [[(0, 0)],
   [(0, 1)],
   [(0, 2)],
   [(0, 3)],
   [(0, 4)],
   [(0, 5)],
   [(0, 6)],
   [(0, 7)],
   [(0, 8)],
   [(0, 9)],
   [(0, 10)],
   [(0, 11)],
   [(0, 12)]],
  [[(0, 0), (1, 0)],
   [(0, 1), (1, 0)],
   [(0, 2), (1, 2)],
   [(0, 3), (1, 2)],
   [(0, 4), (1, 2)],
   [(0, 5), (1, 2)],
   [(0, 6), (1, 2)],
   [(0, 7), (1, 2)],
   [(0, 8), (1, 2)],
   [(0, 9), (1, 2)],
   [(0, 10), (1, 2)],
   [(0, 11), (1, 2)],
   [(0, 12), (1, 2)]],
  [[(0, 0), (1, 0), (2, 0)],
   [(0, 1), (1, 0), (2, 0)],
   [(0, 2), (2, 0), (1, 2)],
   [(0, 3), (1, 2), (2, 3)],
   [(0, 4), (1, 2), (2, 3)],
   [(0, 5), (1, 2), (2, 3)],
   [(0, 6), (1, 2), (2, 3)],
   [(0, 7), (1, 2), (2, 3)],
   [(0, 8), (1, 2), (2, 3)],
   [(0, 9), (1, 2), (2, 3)],
   [(0, 10), (1, 2), (2, 3)],
   [(0, 11), (1, 2), (2, 3)],
   [(0, 12), (1, 2), (2, 3)]],
  [[(0, 0), (1, 0), (2, 0), (3, 0)],
   [(0, 1), (1, 0), (2, 0), (3, 0)],
   [(0, 2), (2, 0), (1, 2), (3, 0)],
   [(0, 3), (1, 2), (2, 3), (3, 2)],
   [(0, 4), (1, 2), (2, 3), (3, 2)],
   [(0, 5), (1, 2), (2, 3), (3, 2)],
   [(0, 6), (1, 2), (2, 3), (3, 2)],
   [(0, 7), (1, 2), (2, 3), (3, 2)],
   [(0, 8), (1, 2), (2, 3), (3, 2)],
   [(0, 9), (1, 2), (2, 3), (3, 2)],
   [(0, 10), (1, 2), (2, 3), (3, 2)],
   [(0, 11), (1, 2), (2, 3), (3, 2)],
   [(0, 12), (1, 2), (2, 3), (3, 2)]],
  [[(0, 0), (1, 0), (2, 0), (3, 0), (4, 0)],
   [(0, 1), (1, 0), (2, 0), (3, 0), (4, 0)],
   [(0, 2), (2, 0), (4, 0), (1, 2), (3, 0)],
   [(0, 3), (4, 0), (1, 2), (2, 3), (3, 2)],
   [(0, 4), (1, 2), (2, 3), (3, 2), (4, 4)],
   [(0, 5), (1, 2), (2, 3), (3, 2), (4, 4)],
   [(0, 6), (1, 2), (2, 3), (3, 2), (4, 4)],
   [(0, 7), (1, 2), (2, 3), (3, 2), (4, 4)],
   [(0, 8), (1, 2), (2, 3), (3, 2), (4, 4)],
   [(0, 9), (1, 2), (2, 3), (3, 2), (4, 4)],
   [(0, 10), (1, 2), (2, 3), (3, 2), (4, 4)],
   [(0, 11), (1, 2), (2, 3), (3, 2), (4, 4)],
   [(0, 12), (1, 2), (2, 3), (3, 2), (4, 4)]],
  [[(0, 0), (1, 0), (2, 0), (3, 0), (4, 0), (5, 0)],
   [(0, 1), (1, 0), (2, 0), (3, 0), (4, 0), (5, 0)],
   [(0, 2), (2, 0), (4, 0), (1, 2), (3, 0), (5, 0)],
   [(0, 3), (4, 0), (1, 2), (5, 0), (2, 3), (3, 2)],
   [(0, 4), (1, 2), (2, 3), (3, 2), (4, 4), (5, 2)],
   [(0, 5), (1, 2), (2, 3), (3, 2), (4, 4), (5, 2)],
   [(0, 6), (1, 2), (2, 3), (3, 2), (4, 4), (5, 2)],
   [(0, 7), (1, 2), (2, 3), (3, 2), (4, 4), (5, 2)],
   [(0, 8), (1, 2), (2, 3), (3, 2), (4, 4), (5, 2)],
   [(0, 9), (1, 2), (2, 3), (3, 2), (4, 4), (5, 2)],
   [(0, 10), (1, 2), (2, 3), (3, 2), (4, 4), (5, 2)],
   [(0, 11), (1, 2), (2, 3), (3, 2), (4, 4), (5, 2)],
   [(0, 12), (1, 2), (2, 3), (3, 2), (4, 4), (5, 2)]],
  [[(0, 0), (1, 0), (2, 0), (3, 0), (4, 0), (5, 0), (6, 0)],
   [(0, 1), (1, 0), (2, 0), (3, 0), (4, 0), (5, 0), (6, 0)],
   [(0, 2), (2, 0), (4, 0), (6, 0), (1, 2), (3, 0), (5, 0)],
   [(0, 3), (4, 0), (1, 2), (5, 0), (2, 3), (6, 0), (3, 2)],
   [(0, 4), (1, 2), (2, 3), (3, 2), (4, 4), (5, 2), (6, 3)],
   [(0, 5), (1, 2), (2, 3), (3, 2), (4, 4), (5, 2), (6, 3)],
   [(0, 6), (1, 2), (2, 3), (3, 2), (4, 4), (5, 2), (6, 3)],
   [(0, 7), (1, 2), (2, 3), (3, 2), (4, 4), (5, 2), (6, 3)],
   [(0, 8), (1, 2), (2, 3), (3, 2), (4, 4), (5, 2), (6, 3)],
   [(0, 9), (1, 2), (2, 3), (3, 2), (4, 4), (5, 2), (6, 3)],
   [(0, 10), (1, 2), (2, 3), (3, 2), (4, 4), (5, 2), (6, 3)],
   [(0, 11), (1, 2), (2, 3), (3, 2), (4, 4), (5, 2), (6, 3)],
   [(0, 12), (1, 2), (2, 3), (3, 2), (4, 4), (5, 2), (6, 3)]],
  [[(0, 0), (1, 0), (2, 0), (3, 0), (4, 0), (5, 0), (6, 0), (7, 0)],
   [(0, 1), (1, 0), (2, 0), (3, 0), (4, 0), (5, 0), (6, 0), (7, 0)],
   [(0, 2), (2, 0), (4, 0), (6, 0), (1, 2), (3, 0), (5, 0), (7, 0)],
   [(0, 3), (4, 0), (1, 2), (5, 0), (2, 3), (6, 0), (3, 2), (7, 0)],
   [(0, 4), (1, 2), (2, 3), (3, 2), (4, 4), (5, 2), (6, 3), (7, 2)],
   [(0, 5), (1, 2), (2, 3), (3, 2), (4, 4), (5, 2), (6, 3), (7, 2)],
   [(0, 6), (1, 2), (2, 3), (3, 2), (4, 4), (5, 2), (6, 3), (7, 2)],
   [(0, 7), (1, 2), (2, 3), (3, 2), (4, 4), (5, 2), (6, 3), (7, 2)],
   [(0, 8), (1, 2), (2, 3), (3, 2), (4, 4), (5, 2), (6, 3), (7, 2)],
   [(0, 9), (1, 2), (2, 3), (3, 2), (4, 4), (5, 2), (6, 3), (7, 2)],
   [(0, 10), (1, 2), (2, 3), (3, 2), (4, 4), (5, 2), (6, 3), (7, 2)],
   [(0, 11), (1, 2), (2, 3), (3, 2), (4, 4), (5, 2), (6, 3), (7, 2)],
   [(0, 12), (1, 2), (2, 3), (3, 2), (4, 4), (5, 2), (6, 3), (7, 2)]]]
def ht_L (n c : Nat) : List (Nat × Nat) := (ht_tab.getD n []).getD c []
def ht_to (n c i : Nat) : Nat := ((ht_L n c).getD i (0, 0)).1
def ht_tb (n c i : Nat) : Nat := ((ht_L n c).getD i (0, 0)).2
theorem ht_len : ∀ n, n < 9 → ∀ c, c < 13 → (ht_L n c).length = n := by decide +kernel
theorem ht_bd : ∀ n, n < 9 → ∀ c, c < 13 → ∀ i, i < n → ht_to n c i < n ∧ ht_tb n c i ≤ c := by decide +kernel
theorem ht_ze : ∀ n, n < 9 → ∀ i, i < n → (ht_L n 0).getD i (0, 0) = (i, 0) := by decide +kernel
theorem ht_nx : ∀ n, n < 9 → ∀ c, c < 12 → ∀ u, u < 2 → ht_st (fun r => ht_bb u r c) (ht_L n c) (c + 1) (c + 1) [] [] = ht_L n (c + 1) := by decide +kernel
theorem ht_mem : ∀ n, n < 9 → ∀ c, c < 13 → ∀ p ∈ ht_L n c, p.1 < n ∧ p.2 ≤ 12 := by decide +kernel
/-! mirrors of the queries -/
def ht_pl (f : Nat → Nat) (r : Nat) : Nat → Nat
  | 0 => 0
  | i + 1 => if f i = r then i else ht_pl f r i
def ht_ac (g : Nat → Nat) (lo : Nat) : Nat → Nat
  | 0 => 0
  | m + 1 => max (ht_ac g lo m) (g (lo + 1 + m))
def ht_po (n c r : Nat) : Nat := ht_pl (ht_to n c) r n
def ht_ag (n r s c : Nat) : Nat := ht_ac (ht_tb n c) (min (ht_po n c r) (ht_po n c s)) (max (ht_po n c r) (ht_po n c s) - min (ht_po n c r) (ht_po n c s))
def ht_lg (n r s : Nat) : Nat → Nat
  | 0 => 0
  | k + 1 => max (ht_lg n r s k) (k + 1 - ht_ag n r s (k + 1))
def ht_wd (i k : Nat) : Nat := if (nI i ^^^ nI k) &&& 4 = 0 then (if (nI i ^^^ nI k) &&& 2 = 0 then 10 else 9) else 8
def ht_pt (r s c : Nat) : Nat := if c = 12 then 1 else if ht_bb 0 r c = ht_bb 0 s c then 0 else 1
def ht_ei (n c m i : Nat) : Nat → Nat
  | 0 => 0
  | k + 1 => ht_ei n c m i k + (if c - ht_ac (ht_tb n c) i (k + 1) < m then 0 else ht_pt (ht_to n c i) (ht_to n c (i + 1 + k)) c)
def ht_eo (n c m : Nat) : Nat → Nat
  | 0 => 0
  | i + 1 => ht_eo n c m i + ht_ei n c m i (n - (i + 1))
def ht_ms (n m : Nat) : Nat → Nat
  | 0 => 0
  | k + 1 => ht_ms n m k + ht_eo n (k + 1) m n
def ht_kd (n a b : Nat) : Nat → Nat
  | 0 => 0
  | i + 1 => ht_kd n a b i + (if i = 0 ∨ a < ht_tb n (b + 1) i then 1 else 0)
def ht_hn (g : Nat → Nat) (a : Nat) (p : Nat → Bool) (i f d : Nat) : Nat := if d = 0 then (if f = 0 then (if p i = true then 1 else 0) else 0) else (if a < g i then 0 else 1)
def ht_hv (g : Nat → Nat) (a : Nat) (p : Nat → Bool) : Nat → Nat × Nat
  | 0 => (0, 0)
  | i + 1 => ((ht_hv g a p i).1 + ht_hn g a p i (ht_hv g a p i).1 (ht_hv g a p i).2, ht_hn g a p i (ht_hv g a p i).1 (ht_hv g a p i).2)
def ht_sn (i : Nat) : Nat := if i = 0 then 12 else if i = 4 then 4 else if i % 2 = 0 then 3 else 2
def ht_tk (n i : Nat) : Nat → Nat
  | 0 => 0
  | k + 1 => ht_tk n i k + (if i < k ∧ k < n ∧ 8 < ht_wd i k then 1 else 0)
def ht_ti (n : Nat) : Nat → Nat
  | 0 => 0
  | i + 1 => ht_ti n i + ht_tk n i 8
/-! what the law asks, by the table -/
theorem ht_q1 : ∀ n, n < 9 → 2 ≤ n → ht_kd n 1 3 n = n ∧ ht_kd n 4 11 n = 1 ∧ ht_kd n 0 0 n = 1 := by decide +kernel
theorem ht_q2 : ∀ n, n < 9 → 2 ≤ n → (ht_hv (ht_tb n 12) 4 (fun _ => true) n).1 = n ∧ (ht_hv (ht_tb n 4) 1 (fun i => decide (ht_to n 4 i = 1)) n).1 = 1 := by decide +kernel
theorem ht_q3 : ∀ n, n < 9 → ∀ i, i < n → ht_to n 4 i = i ∧ ht_to n 12 i = i ∧ ht_to n 1 i = i := by decide +kernel
theorem ht_q4 : ∀ n, n < 9 → ∀ i, i < n → (i ≠ 0 → ht_tb n 12 i = ht_sn i ∧ ht_tb n 4 i = ht_sn i) := by decide +kernel
theorem ht_q5 : ∀ n, n < 9 → ∀ i, i < n → ∀ k, k < n → i ≠ k → ht_lg n i k 12 = ht_wd i k := by decide +kernel
theorem ht_q6 : ∀ n, n < 9 → ht_ms n 9 12 = ht_ti n 8 ∧ ht_ms n 8 12 = n * (n - 1) / 2 := by decide +kernel
end
section
/-! bits -/
theorem ht_sl : ∀ c, c < 32 → ((nI c &&& 31).toBitVec.smod 32).toNat = c := by decide +kernel
theorem ht_xor (a b : Nat) : nI a ^^^ nI b = nI (a ^^^ b) := by
  apply Int32.toBitVec_inj.1
  show BitVec.ofNat 32 a ^^^ BitVec.ofNat 32 b = BitVec.ofNat 32 (a ^^^ b)
  apply BitVec.eq_of_getLsbD_eq
  intro i hi
  simp [hi]
theorem ht_or (a b : Nat) : nI a ||| nI b = nI (a ||| b) := by
  apply Int32.toBitVec_inj.1
  show BitVec.ofNat 32 a ||| BitVec.ofNat 32 b = BitVec.ofNat 32 (a ||| b)
  apply BitVec.eq_of_getLsbD_eq
  intro i hi
  simp [hi]
theorem ht_rw_lt {B r : Nat} (hB : B < 4096) (hr : r < 8) : ht_rw B r < 4096 := by unfold ht_rw; omega
theorem ht_sh {v c : Nat} (hv : v < 4096) (hc : c < 32) {m : Int32} (k : Nat) (hm : m.toBitVec.toNat = 2 ^ k - 1) : (nI v >>> (nI c &&& 31)) &&& m = nI (v / 2 ^ c % 2 ^ k) := by
  have h1 : v / 2 ^ c ≤ v := Nat.div_le_self _ _
  rw [pk_shrN (by omega) _ c (ht_sl c hc), pk_andN (by omega) k hm]
theorem ht_uni {B c : Nat} (hc : c < 12) : ∃ u, u < 2 ∧ ∀ r, r < 8 → ht_bt B r c = ht_bb u r c := by
  refine ⟨B / 2 ^ c % 2, by omega, fun r hr => ?_⟩
  unfold ht_bt ht_bb ht_rw
  have h : c = 0 ∨ c = 1 ∨ c = 2 ∨ c = 3 ∨ c = 4 ∨ c = 5 ∨ c = 6 ∨ c = 7 ∨ c = 8 ∨ c = 9 ∨ c = 10 ∨ c = 11 := by omega
  rcases h with h | h | h | h | h | h | h | h | h | h | h | h <;> subst h <;> simp only [Nat.reducePow, Nat.reduceEqDiff, if_true, if_false] <;> omega
theorem ht_bt_hi {B r c : Nat} (hc : c < 12) (h4 : 4 ≤ c) (hr : r < 8) : ht_bt B r c = B / 2 ^ c % 2 := by
  unfold ht_bt ht_rw
  have h : c = 4 ∨ c = 5 ∨ c = 6 ∨ c = 7 ∨ c = 8 ∨ c = 9 ∨ c = 10 ∨ c = 11 := by omega
  rcases h with h | h | h | h | h | h | h | h <;> subst h <;> simp only [Nat.reducePow] <;> omega
theorem ht_bt_lt (B r c : Nat) : ht_bt B r c < 2 := Nat.mod_lt _ (by omega)
theorem ht_bb_iff (u r s c : Nat) : ht_bb u r c = ht_bb u s c ↔ ht_bb 0 r c = ht_bb 0 s c := by
  unfold ht_bb
  split
  · exact Iff.rfl
  · split
    · exact Iff.rfl
    · split
      · exact Iff.rfl
      · simp
theorem ht_st_c {f g : Nat → Nat} : ∀ (l : List (Nat × Nat)) (sz so : Nat) (zs os : List (Nat × Nat)), (∀ p, p ∈ l → f p.1 = g p.1) → ht_st f l sz so zs os = ht_st g l sz so zs os := by
  intro l
  induction l with
  | nil => intro sz so zs os _; rfl
  | cons p l ih =>
    intro sz so zs os h
    unfold ht_st
    rw [h p (by simp), ih _ _ _ _ (fun q hq => h q (by simp [hq])), ih _ _ _ _ (fun q hq => h q (by simp [hq]))]
/-! slices of the two tables -/
def ht_S (a2 a3 : Nat → Int32) (o : Nat) (l : List (Nat × Nat)) : Prop := ∀ k, k < l.length → a2 (o + k) = nI (l.getD k (0, 0)).1 ∧ a3 (o + k) = nI (l.getD k (0, 0)).2
def ht_T (n C : Nat) (a2 a3 : Nat → Int32) : Prop := ∀ c, c ≤ C → ht_S a2 a3 (8 * c) (ht_L n c)
def ht_R (B n : Nat) (a1 : Nat → Int32) : Prop := ∀ r, r < n → a1 r = nI (ht_rw B r)
theorem ht_gl {l l' : List (Nat × Nat)} {k : Nat} {d : Nat × Nat} (h : k < l.length) : (l ++ l').getD k d = l.getD k d := by
  simp [List.getD_eq_getElem?_getD, List.getElem?_append_left h]
theorem ht_gr {l l' : List (Nat × Nat)} {k : Nat} {d : Nat × Nat} : (l ++ l').getD (l.length + k) d = l'.getD k d := by
  simp [List.getD_eq_getElem?_getD, List.getElem?_append_right]
theorem ht_S_cons {a2 a3 : Nat → Int32} {o : Nat} {p : Nat × Nat} {l : List (Nat × Nat)} (h : ht_S a2 a3 o (p :: l)) : a2 o = nI p.1 ∧ a3 o = nI p.2 ∧ ht_S a2 a3 (o + 1) l := by
  refine ⟨(h 0 (by simp)).1, (h 0 (by simp)).2, fun k hk => ?_⟩
  have t := h (k + 1) (by simp; omega)
  rw [show o + 1 + k = o + (k + 1) by omega]
  exact t
theorem ht_S_app {a2 a3 : Nat → Int32} {o : Nat} {l l' : List (Nat × Nat)} (h : ht_S a2 a3 o l) (h' : ht_S a2 a3 (o + l.length) l') : ht_S a2 a3 o (l ++ l') := by
  intro k hk
  rw [List.length_append] at hk
  by_cases e : k < l.length
  · rw [ht_gl e]; exact h k e
  · obtain ⟨j, rfl⟩ : ∃ j, k = l.length + j := ⟨k - l.length, by omega⟩
    rw [ht_gr, ← Nat.add_assoc]
    exact h' j (by omega)
theorem ht_S_fr {a2 a3 b2 b3 : Nat → Int32} {o : Nat} {l : List (Nat × Nat)} (h : ht_S a2 a3 o l) (hf : ∀ j, o ≤ j → j < o + l.length → b2 j = a2 j ∧ b3 j = a3 j) : ht_S b2 b3 o l := by
  intro k hk
  rw [(hf (o + k) (by omega) (by omega)).1, (hf (o + k) (by omega) (by omega)).2]
  exact h k hk
theorem ht_S_snoc {a2 a3 : Nat → Int32} {o r b k : Nat} {l : List (Nat × Nat)} (h : ht_S a2 a3 o l) (hk : k = o + l.length) : ht_S (upd a2 k (nI r)) (upd a3 k (nI b)) o (l ++ [(r, b)]) := by
  refine ht_S_app (ht_S_fr h (fun j h1 h2 => ⟨pk_un (by omega), pk_un (by omega)⟩)) ?_
  intro j hj
  have hj0 : j = 0 := by simp at hj; exact hj
  subst hj0
  rw [Nat.add_zero, ← hk]
  exact ⟨pk_us, pk_us⟩
theorem ht_T_nx {n c : Nat} {a2 a3 b2 b3 : Nat → Int32} (hn : n < 9) (hc : c < 12) (h : ht_T n c a2 a3) (hf : ∀ j, j < 8 * c + 8 → b2 j = a2 j ∧ b3 j = a3 j) (hs : ht_S b2 b3 (8 * c + 8) (ht_L n (c + 1))) : ht_T n (c + 1) b2 b3 := by
  intro d hd
  by_cases e : d = c + 1
  · subst e; exact hs
  · refine ht_S_fr (h d (by omega)) (fun j h1 h2 => hf j ?_)
    rw [ht_len n hn d (by omega)] at h2
    omega
/-! the walk: at, part, build -/
theorem ht_at {post : Int32 → Prop} {B n r c : Nat} {f b : Int32} {a1 a2 a3 a4 a5 : Nat → Int32} (hB : B < 4096) (hn : n < 9) (hR : ht_R B n a1) (hr : r < n) (hc : c < 12) (H : post (nI (ht_bt B r c))) : wpX_at post (f, b, a1, a2, a3, a4, a5) (nI r) (nI c) := by
  refine And.intro (pk_in r 8 (by omega)) ?_
  rw [nI_clamp (by omega), hR r hr, ht_sh (ht_rw_lt hB (by omega)) (by omega) 1 (by decide)]
  exact H
theorem ht_166 {post : St2 → Prop} {T Z M : Nat} {f b : Int32} {a1 a2 a3 a4 a5 : Nat → Int32} (hT : T + Z + M ≤ 104) (hM : M ≤ 8)
    (H : ∀ b2 b3 : Nat → Int32, (∀ j, j < T + Z → b2 j = a2 j ∧ b3 j = a3 j) → (∀ k, k < M → b2 (T + Z + k) = a4 k ∧ b3 (T + Z + k) = a5 k) → post (f, b, a1, b2, b3, a4, a5)) :
    ∃ fu, wX_part_166 post (nI T) (nI Z) (nI M) f b fu 0 a1 a2 a3 a4 a5 :=
  pk_loop (σ := (Nat → Int32) × (Nat → Int32)) (fun k i s => wX_part_166 post (nI T) (nI Z) (nI M) f b k (nI i) a1 s.1 s.2 a4 a5)
    (fun i s => (∀ j, j < T + Z → s.1 j = a2 j ∧ s.2 j = a3 j) ∧ (∀ k, k < i → s.1 (T + Z + k) = a4 k ∧ s.2 (T + Z + k) = a5 k)) M 0 (a2, a3) (by omega)
    ⟨fun j _ => ⟨rfl, rfl⟩, fun k hk => absurd hk (by omega)⟩
    (fun k s h => pk_le M M (fun _ => H s.1 s.2 h.1 h.2) (fun z => absurd z (by omega)))
    (fun k i s hi h hw => by
      have e : nI T + nI Z + nI i = nI (T + Z + i) := by rw [nI_add, nI_add]
      refine pk_le M i (fun z => absurd z (by omega)) (fun _ => ⟨pk_in i 8 (by omega), pk_in (T + Z + i) 104 (by omega) e, nm_r (e' := upd s.1 (T + Z + i) (a4 i)) ?_ ⟨pk_in i 8 (by omega), pk_in (T + Z + i) 104 (by omega) e, nm_r (e' := upd s.2 (T + Z + i) (a5 i)) ?_ (nm_r (nI_1 i) (hw (upd s.1 (T + Z + i) (a4 i), upd s.2 (T + Z + i) (a5 i)) ⟨fun j hj => ?_, fun j hj => ?_⟩))⟩⟩)
      · rw [e, nI_clamp (by omega), nI_clamp (by omega)]
      · rw [e, nI_clamp (by omega), nI_clamp (by omega)]
      · show upd s.1 (T + Z + i) (a4 i) j = a2 j ∧ upd s.2 (T + Z + i) (a5 i) j = a3 j
        rw [pk_un (by omega), pk_un (by omega)]
        exact h.1 j hj
      · show upd s.1 (T + Z + i) (a4 i) (T + Z + j) = a4 j ∧ upd s.2 (T + Z + i) (a5 i) (T + Z + j) = a5 j
        by_cases z : j = i
        · subst z; exact ⟨pk_us, pk_us⟩
        · rw [pk_un (by omega), pk_un (by omega)]
          exact h.2 j (by omega))
theorem ht_29 {post : St2 → Prop} {B n c : Nat} {b : Int32} {a1 e2 e3 : Nat → Int32} {R : List (Nat × Nat)} (hB : B < 4096) (hn : n < 9) (hc : c < 12) (hR : ht_R B n a1)
    (H : ∀ a2 a3 a4 a5 : Nat → Int32, (∀ j, j < 8 * c + 8 → a2 j = e2 j ∧ a3 j = e3 j) → ht_S a2 a3 (8 * c + 8) R → post (nI n, b, a1, a2, a3, a4, a5)) :
    ∀ (l : List (Nat × Nat)) (i sz so Z M : Nat) (zs os : List (Nat × Nat)) (a2 a3 a4 a5 : Nat → Int32),
      i + l.length = n → Z + M = i → Z = zs.length → M = os.length → ht_S e2 e3 (8 * c + i) l → (∀ p, p ∈ l → p.1 < n ∧ p.2 ≤ 12) → sz ≤ 12 → so ≤ 12 →
      (∀ j, j < 8 * c + 8 → a2 j = e2 j ∧ a3 j = e3 j) → ht_S a2 a3 (8 * c + 8) zs → ht_S a4 a5 0 os →
      ht_st (fun r => ht_bt B r c) l sz so zs os = R →
      wX_part_29 post (nI c) (nI (8 * c)) (nI (8 * c + 8)) (nI n) b (l.length + 1) (nI Z) (nI M) (nI sz) (nI so) (nI i) a1 a2 a3 a4 a5 := by
  intro l
  induction l with
  | nil =>
    intro i sz so Z M zs os a2 a3 a4 a5 hi hzm hZ hM _ _ _ _ hp hz ho hst
    have hin : i = n := by simpa using hi
    refine pk_le n i (fun _ => ?_) (fun z => absurd z (by omega))
    refine ht_166 (T := 8 * c + 8) (Z := Z) (M := M) (by omega) (by omega) (fun b2 b3 h1 h2 => ?_)
    refine H b2 b3 a4 a5 (fun j hj => ?_) ?_
    · rw [(h1 j (by omega)).1, (h1 j (by omega)).2]
      exact hp j hj
    · rw [← hst]
      refine ht_S_app (ht_S_fr hz (fun j _ hj => h1 j (by omega))) (fun k hk => ?_)
      rw [← hZ, (h2 k (by omega)).1, (h2 k (by omega)).2]
      have t := ho k hk
      rw [Nat.zero_add] at t
      exact t
  | cons p l ih =>
    intro i sz so Z M zs os a2 a3 a4 a5 hi hzm hZ hM hl hm hsz hso hp hz ho hst
    obtain ⟨l1, l2, l3⟩ := ht_S_cons hl
    rw [List.length_cons] at hi
    have hm1 := hm p (by simp)
    have hm2 : ∀ q, q ∈ l → q.1 < n ∧ q.2 ≤ 12 := fun q hq => hm q (by simp [hq])
    have ei : nI (8 * c) + nI i = nI (8 * c + i) := nI_add _ _
    have et : nI (8 * c + 8) + nI Z = nI (8 * c + 8 + Z) := nI_add _ _
    have k90 : ∀ z y, z = max sz p.2 → y = max so p.2 → wX_part_90 post (wX_part_29 post (nI c) (nI (8 * c)) (nI (8 * c + 8)) (nI n) b (l.length + 1)) (nI c) (nI (8 * c)) (nI (8 * c + 8)) (nI Z) (nI M) (nI z) (nI i) (nI p.1) (nI y) (nI n) b a1 a2 a3 a4 a5 := by
      intro z y hz0 hy0
      subst hz0 hy0
      refine ht_at hB hn hR hm1.1 hc (pk_eq (ht_bt B p.1 c) 0 (fun e => ?_) (fun e => ?_) rfl rfl (by have := ht_bt_lt B p.1 c; omega) (by omega))
      · refine ⟨pk_in (8 * c + 8 + Z) 104 (by omega) et, nm_r (e' := upd a2 (8 * c + 8 + Z) (nI p.1)) (by rw [et, nI_clamp (by omega)]) ⟨pk_in (8 * c + 8 + Z) 104 (by omega) et, nm_r (e' := upd a3 (8 * c + 8 + Z) (nI (max sz p.2))) (by rw [et, nI_clamp (by omega)]) (nm_r (nI_1 Z) (nm_r (nI_1 i) ?_))⟩⟩
        refine ih (i + 1) 0 (max so p.2) (Z + 1) M (zs ++ [(p.1, max sz p.2)]) os _ _ a4 a5 (by omega) (by omega) (by simp [hZ]) hM l3 hm2 (by omega) (by omega) (fun j hj => ?_) (ht_S_snoc hz (by omega)) ho ?_
        · rw [pk_un (by omega), pk_un (by omega)]; exact hp j hj
        · rw [← hst]; exact (if_pos e).symm
      · refine ⟨pk_in M 8 (by omega), nm_r (e' := upd a4 M (nI p.1)) (by rw [nI_clamp (by omega)]) ⟨pk_in M 8 (by omega), nm_r (e' := upd a5 M (nI (max so p.2))) (by rw [nI_clamp (by omega)]) (nm_r (nI_1 M) (nm_r (nI_1 i) ?_))⟩⟩
        refine ih (i + 1) (max sz p.2) 0 Z (M + 1) zs (os ++ [(p.1, max so p.2)]) a2 a3 _ _ (by omega) (by omega) hZ (by simp [hM]) l3 hm2 (by omega) (by omega) hp hz (ht_S_snoc ho (by omega)) ?_
        rw [← hst]; exact (if_neg e).symm
    have k74 : ∀ z, z = max sz p.2 → wX_part_74 post (wX_part_29 post (nI c) (nI (8 * c)) (nI (8 * c + 8)) (nI n) b (l.length + 1)) (nI c) (nI (8 * c)) (nI (8 * c + 8)) (nI Z) (nI M) (nI so) (nI i) (nI p.1) (nI p.2) (nI z) (nI n) b a1 a2 a3 a4 a5 :=
      fun z hz0 => pk_le p.2 so (fun h => k90 z so hz0 (by omega)) (fun h => k90 z p.2 hz0 (by omega))
    refine pk_le n i (fun z => absurd z (by omega)) (fun _ => ⟨pk_in (8 * c + i) 104 (by omega) ei, nm_r (e' := nI p.1) ?_ ⟨pk_in (8 * c + i) 104 (by omega) ei, nm_r (e' := nI p.2) ?_ (pk_le p.2 sz (fun h => k74 sz (by omega)) (fun h => k74 p.2 (by omega)))⟩⟩)
    · rw [ei, nI_clamp (by omega), (hp (8 * c + i) (by omega)).1, l1]
    · rw [ei, nI_clamp (by omega), (hp (8 * c + i) (by omega)).2, l2]
theorem ht_part {post : St2 → Prop} {B n c : Nat} {b : Int32} {a1 a2 a3 a4 a5 : Nat → Int32} (hB : B < 4096) (hn : n < 9) (hc : c < 12) (hR : ht_R B n a1) (hT : ht_T n c a2 a3)
    (H : ∀ b2 b3 b4 b5 : Nat → Int32, ht_T n (c + 1) b2 b3 → post (nI n, b, a1, b2, b3, b4, b5)) : wpX_part post (nI n, b, a1, a2, a3, a4, a5) (nI c) := by
  obtain ⟨u, hu, hbt⟩ := ht_uni (B := B) hc
  refine nm_r (e' := nI (8 * c)) (pk_mul 8 c) (nm_r (e' := nI (8 * c + 8)) (nI_add (8 * c) 8) (nm_r (nI_1 c) (nm_r (nI_1 c) ⟨(ht_L n c).length + 1, ?_⟩)))
  refine ht_29 hB hn hc hR (R := ht_L n (c + 1)) (e2 := a2) (e3 := a3) (fun b2 b3 b4 b5 h1 h2 => H b2 b3 b4 b5 (ht_T_nx hn hc hT h1 h2)) (ht_L n c) 0 (c + 1) (c + 1) 0 0 [] [] a2 a3 a4 a5
    (by rw [ht_len n hn c (by omega)]; omega) rfl rfl rfl (hT c (Nat.le_refl c)) (ht_mem n hn c (by omega)) (by omega) (by omega) (fun j _ => ⟨rfl, rfl⟩) (fun k hk => absurd hk (by simp)) (fun k hk => absurd hk (by simp)) ?_
  rw [ht_st_c (g := fun r => ht_bb u r c) (ht_L n c) _ _ _ _ (fun p hp => hbt p.1 (by have := (ht_mem n hn c (by omega) p hp).1; omega))]
  exact ht_nx n hn c hc u hu
theorem ht_b40 {post : St2 → Prop} {B n : Nat} {b : Int32} {a1 a2 a3 a4 a5 : Nat → Int32} (hB : B < 4096) (hn : n < 9) (hR : ht_R B n a1) (hT : ht_T n 0 a2 a3)
    (H : ∀ b2 b3 b4 b5 : Nat → Int32, ht_T n 12 b2 b3 → post (nI n, 1, a1, b2, b3, b4, b5)) : ∃ fu, wX_build_40 post fu 0 (nI n) b a1 a2 a3 a4 a5 :=
  pk_loop (σ := (Nat → Int32) × (Nat → Int32) × (Nat → Int32) × (Nat → Int32)) (fun k i s => wX_build_40 post k (nI i) (nI n) b a1 s.1 s.2.1 s.2.2.1 s.2.2.2)
    (fun i s => ht_T n i s.1 s.2.1) 12 0 (a2, a3, a4, a5) (by omega) hT
    (fun k s h => pk_le 12 12 (fun _ => H s.1 s.2.1 s.2.2.1 s.2.2.2 h) (fun z => absurd z (by omega)))
    (fun k i s hi h hw => pk_le 12 i (fun z => absurd z (by omega)) (fun _ => ht_part hB hn hi hR h (fun b2 b3 b4 b5 h' => nm_r (nI_1 i) (hw (b2, b3, b4, b5) h'))))
theorem ht_b10 {post : St2 → Prop} {B n : Nat} {b : Int32} {a1 a2 a3 a4 a5 : Nat → Int32} (hB : B < 4096) (hn : n < 9) (hR : ht_R B n a1)
    (H : ∀ b2 b3 b4 b5 : Nat → Int32, ht_T n 12 b2 b3 → post (nI n, 1, a1, b2, b3, b4, b5)) : ∃ fu, wX_build_10 post (nI n) b fu 0 a1 a2 a3 a4 a5 :=
  pk_loop (σ := (Nat → Int32) × (Nat → Int32)) (fun k i s => wX_build_10 post (nI n) b k (nI i) a1 s.1 s.2 a4 a5)
    (fun i s => ∀ j, j < i → s.1 j = nI j ∧ s.2 j = nI 0) n 0 (a2, a3) (by omega) (fun j hj => absurd hj (by omega))
    (fun k s h => pk_le n n (fun _ => ht_b40 hB hn hR (by
      intro c hc j hj
      have hc0 : c = 0 := by omega
      subst hc0
      rw [ht_len n hn 0 (by omega)] at hj
      rw [ht_ze n hn j hj, Nat.mul_zero, Nat.zero_add]
      exact h j hj) H) (fun z => absurd z (by omega)))
    (fun k i s hi h hw => by
      refine pk_le n i (fun z => absurd z (by omega)) (fun _ => ⟨pk_in i 104 (by omega), nm_r (e' := upd s.1 i (nI i)) (by rw [nI_clamp (by omega)]) ⟨pk_in i 104 (by omega), nm_r (e' := upd s.2 i (nI 0)) (by rw [nI_clamp (by omega)]; rfl) (nm_r (nI_1 i) (hw (upd s.1 i (nI i), upd s.2 i (nI 0)) (fun j hj => ?_)))⟩⟩)
      show upd s.1 i (nI i) j = nI j ∧ upd s.2 i (nI 0) j = nI 0
      by_cases z : j = i
      · subst z; exact ⟨pk_us, pk_us⟩
      · rw [pk_un z, pk_un z]; exact h j (by omega))
theorem ht_build0 {post : St2 → Prop} {B n : Nat} {a1 a2 a3 a4 a5 : Nat → Int32} (hB : B < 4096) (hn : n < 9) (hR : ht_R B n a1)
    (H : ∀ b2 b3 b4 b5 : Nat → Int32, ht_T n 12 b2 b3 → post (nI n, 1, a1, b2, b3, b4, b5)) : wpX_build post (nI n, 0, a1, a2, a3, a4, a5) :=
  br_t rfl (ht_b10 hB hn hR H)
theorem ht_build1 {post : St2 → Prop} {f : Int32} {a1 a2 a3 a4 a5 : Nat → Int32} (H : post (f, 1, a1, a2, a3, a4, a5)) : wpX_build post (f, 1, a1, a2, a3, a4, a5) :=
  br_f (by decide) H
end
section
/-! bounds of the mirrors -/
theorem ht_pl_lt (f : Nat → Nat) (r : Nat) : ∀ i, 0 < i → ht_pl f r i < i := by
  intro i
  induction i with
  | zero => intro h; omega
  | succ i ih =>
    intro _
    unfold ht_pl
    split
    · omega
    · rcases Nat.eq_zero_or_pos i with z | z
      · subst z; exact Nat.one_pos
      · have := ih z; omega
theorem ht_po_lt {n : Nat} (c r : Nat) (h : 0 < n) : ht_po n c r < n := ht_pl_lt _ r n h
theorem ht_ac_le {g : Nat → Nat} {lo C : Nat} : ∀ m, (∀ j, j < m → g (lo + 1 + j) ≤ C) → ht_ac g lo m ≤ C := by
  intro m
  induction m with
  | zero => intro _; exact Nat.zero_le _
  | succ m ih =>
    intro h
    have h1 := ih (fun j hj => h j (by omega))
    have h2 := h m (by omega)
    unfold ht_ac
    omega
theorem ht_ag_le {n c : Nat} (r s : Nat) (hn : n < 9) (h0 : 0 < n) (hc : c ≤ 12) : ht_ag n r s c ≤ c := by
  have h1 := ht_po_lt c r h0
  have h2 := ht_po_lt c s h0
  exact ht_ac_le _ (fun j hj => (ht_bd n hn c (by omega) _ (by omega)).2)
/-! reading the tables -/
theorem ht_ix (c i : Nat) : (8 : Int32) * nI c + nI i = nI (8 * c + i) := by
  rw [← nI_add, ← pk_mul]; rfl
theorem ht_in {c i : Nat} (hc : c ≤ 12) (hi : i < 8) : vp_in ((8 : Int32) * nI c + nI i) 104 := pk_in (8 * c + i) 104 (by omega) (ht_ix c i)
theorem ht_rd {n c i : Nat} {a2 a3 : Nat → Int32} (hn : n < 9) (hT : ht_T n 12 a2 a3) (hc : c ≤ 12) (hi : i < n) : a2 (8 * c + i) = nI (ht_to n c i) ∧ a3 (8 * c + i) = nI (ht_tb n c i) :=
  hT c hc i (by rw [ht_len n hn c (by omega)]; exact hi)
theorem ht_g2 {n c i : Nat} {a2 a3 : Nat → Int32} (hn : n < 9) (hT : ht_T n 12 a2 a3) (hc : c ≤ 12) (hi : i < n) : a2 ((8 : Int32) * nI c + nI i).toNatClampNeg = nI (ht_to n c i) := by
  rw [ht_ix, nI_clamp (by omega)]
  exact (ht_rd hn hT hc hi).1
theorem ht_g3 {n c i : Nat} {a2 a3 : Nat → Int32} (hn : n < 9) (hT : ht_T n 12 a2 a3) (hc : c ≤ 12) (hi : i < n) : a3 ((8 : Int32) * nI c + nI i).toNatClampNeg = nI (ht_tb n c i) := by
  rw [ht_ix, nI_clamp (by omega)]
  exact (ht_rd hn hT hc hi).2
/-! placeOf, agreeSince, longest -/
theorem ht_wpl {post : Int32 → Prop} {n c r : Nat} {b : Int32} {a1 a2 a3 a4 a5 : Nat → Int32} (hn : n < 9) (hT : ht_T n 12 a2 a3) (hc : c ≤ 12) (hr : r < 8) (H : post (nI (ht_po n c r))) : wpX_placeOf post (nI n, b, a1, a2, a3, a4, a5) (nI r) (nI c) :=
  pk_loop (σ := Nat) (fun k i s => wX_placeOf_5 post (nI r) (nI c) (nI n) b a1 a2 a3 a4 a5 k (nI s) (nI i)) (fun i s => s = ht_pl (ht_to n c) r i) n 0 0 (by omega) rfl
    (fun k s h => pk_le n n (fun _ => by rw [h]; exact H) (fun z => absurd z (by omega)))
    (fun k i s hi h hw => pk_le n i (fun z => absurd z (by omega)) (fun _ => ⟨ht_in hc (by omega), pk_eq (ht_to n c i) r
      (fun e => nm_r (nI_1 i) (hw i (if_pos e).symm))
      (fun e => nm_r (nI_1 i) (hw s (by rw [h]; exact (if_neg e).symm)))
      (ht_g2 hn hT hc hi) rfl (by have := (ht_bd n hn c (by omega) i hi).1; omega) (by omega)⟩))
theorem ht_57 {post : Int32 → Prop} {n c lo hh : Nat} {b : Int32} {a1 a2 a3 a4 a5 : Nat → Int32} (hn : n < 9) (hT : ht_T n 12 a2 a3) (hc : c ≤ 12) (hl : lo ≤ hh) (hh' : hh < n) (H : post (nI (ht_ac (ht_tb n c) lo (hh - lo)))) :
    ∃ fu, wX_agreeSince_57 post (nI c) (nI hh) (nI n) b a1 a2 a3 a4 a5 fu 0 (nI (lo + 1)) :=
  pk_loop (σ := Nat) (fun k i s => wX_agreeSince_57 post (nI c) (nI hh) (nI n) b a1 a2 a3 a4 a5 k (nI s) (nI (lo + 1 + i))) (fun i s => s = ht_ac (ht_tb n c) lo i) (hh - lo) 0 0 (by omega) rfl
    (fun k s h => pk_lt hh (lo + 1 + (hh - lo)) (fun _ => by rw [h]; exact H) (fun z => absurd z (by omega)))
    (fun k i s hi h hw => by
      have b1 := (ht_bd n hn c (by omega) (lo + 1 + i) (by omega)).2
      have b2 : s ≤ c := by
        rw [h]
        exact ht_ac_le _ (fun j hj => (ht_bd n hn c (by omega) (lo + 1 + j) (by omega)).2)
      have e : ht_ac (ht_tb n c) lo (i + 1) = max s (ht_tb n c (lo + 1 + i)) := by rw [h]; rfl
      exact pk_lt hh (lo + 1 + i) (fun z => absurd z (by omega)) (fun _ => ⟨ht_in hc (by omega), nm_r (ht_g3 hn hT hc (by omega)) (pk_le (ht_tb n c (lo + 1 + i)) s
        (fun z => nm_r (nI_1 _) (hw s (by rw [e]; omega)))
        (fun z => nm_r (nI_1 _) (hw (ht_tb n c (lo + 1 + i)) (by rw [e]; omega))))⟩))
theorem ht_was {post : Int32 → Prop} {n c r s : Nat} {b : Int32} {a1 a2 a3 a4 a5 : Nat → Int32} (hn : n < 9) (h0 : 0 < n) (hT : ht_T n 12 a2 a3) (hc : c ≤ 12) (hr : r < 8) (hs : s < 8) (H : post (nI (ht_ag n r s c))) : wpX_agreeSince post (nI n, b, a1, a2, a3, a4, a5) (nI r) (nI s) (nI c) := by
  have h1 := ht_po_lt c r h0
  have h2 := ht_po_lt c s h0
  unfold ht_ag at H
  refine ht_wpl hn hT hc hr (ht_wpl hn hT hc hs ?_)
  refine pk_le (ht_po n c s) (ht_po n c r) (fun z => ?_) (fun z => ?_)
  · rw [Nat.min_eq_right z, Nat.max_eq_left z] at H
    exact pk_le (ht_po n c s) (ht_po n c r) (fun _ => nm_r (nI_1 _) (ht_57 hn hT hc z h1 H)) (fun z' => absurd z' (by omega))
  · rw [Nat.min_eq_left (by omega), Nat.max_eq_right (by omega)] at H
    exact pk_le (ht_po n c s) (ht_po n c r) (fun z' => absurd z' (by omega)) (fun _ => nm_r (nI_1 _) (ht_57 hn hT hc (by omega) h2 H))
theorem ht_lg_le {n : Nat} (r s : Nat) : ∀ k, ht_lg n r s k ≤ k := by
  intro k
  induction k with
  | zero => exact Nat.le_refl 0
  | succ k ih => unfold ht_lg; omega
theorem ht_l33 {post : Int32 → St2 → Prop} {n r s : Nat} {b : Int32} {a1 a2 a3 a4 a5 : Nat → Int32} (hn : n < 9) (h0 : 0 < n) (hT : ht_T n 12 a2 a3) (hr : r < 8) (hs : s < 8) (H : post (nI (ht_lg n r s 12)) (nI n, b, a1, a2, a3, a4, a5)) :
    ∃ fu, wX_longest_33 post (nI r) (nI s) (nI n) b a1 a2 a3 a4 a5 fu 0 1 :=
  pk_loop (σ := Nat) (fun k i t => wX_longest_33 post (nI r) (nI s) (nI n) b a1 a2 a3 a4 a5 k (nI t) (nI (i + 1))) (fun i t => t = ht_lg n r s i) 12 0 0 (by omega) rfl
    (fun k t h => pk_lt 12 13 (fun _ => by rw [h]; exact H) (fun z => absurd z (by omega)))
    (fun k i t hi h hw => by
      have b1 := ht_ag_le (c := i + 1) r s hn h0 (by omega)
      have b2 := ht_lg_le (n := n) r s i
      have e : ht_lg n r s (i + 1) = max t (i + 1 - ht_ag n r s (i + 1)) := by rw [h]; rfl
      have es : nI (i + 1) - nI (ht_ag n r s (i + 1)) = nI (i + 1 - ht_ag n r s (i + 1)) := pk_sub b1
      refine pk_lt 12 (i + 1) (fun z => absurd z (by omega)) (fun _ => ht_was hn h0 hT (by omega) hr hs ?_)
      exact pk_le (i + 1 - ht_ag n r s (i + 1)) t (fun z => nm_r (nI_1 _) (hw t (by rw [e]; omega)))
        (fun z => nm_r es (nm_r (nI_1 _) (hw _ (by rw [e]; omega)))) es rfl (by omega) (by omega))
theorem ht_long {post : Int32 → St2 → Prop} {n i k : Nat} {a1 a2 a3 a4 a5 : Nat → Int32} (hn : n < 9) (hT : ht_T n 12 a2 a3) (hi : i < 8) (hk : k < 8)
    (H1 : i < n → k < n → i ≠ k → post (nI (ht_lg n i k 12)) (nI n, 1, a1, a2, a3, a4, a5)) (H2 : (n ≤ i ∨ n ≤ k ∨ i = k) → post (-4) (nI n, 1, a1, a2, a3, a4, a5)) :
    wpX_longest post (nI n, 1, a1, a2, a3, a4, a5) (nI i) (nI k) := by
  refine pk_lt i 0 (fun z => absurd z (by omega)) (fun _ => pk_lt i n (fun h1 => br_t rfl ?_) (fun h1 => br_f (by decide) (H2 (Or.inl h1))))
  refine pk_lt k 0 (fun z => absurd z (by omega)) (fun _ => pk_lt k n (fun h2 => br_t rfl ?_) (fun h2 => br_f (by decide) (H2 (Or.inr (Or.inl h2)))))
  exact pk_eq i k (fun e => H2 (Or.inr (Or.inr e))) (fun e => ht_build1 (ht_l33 hn (by omega) hT hi hk (H1 h1 h2 e)))
/-! parts, endingAt, matches -/
theorem ht_parts {post : Int32 → Prop} {B n r s c : Nat} {f b : Int32} {a1 a2 a3 a4 a5 : Nat → Int32} (hB : B < 4096) (hn : n < 9) (hR : ht_R B n a1) (hr : r < n) (hs : s < n) (hc : c ≤ 12) (H : post (nI (ht_pt r s c))) : wpX_parts post (f, b, a1, a2, a3, a4, a5) (nI r) (nI s) (nI c) := by
  unfold ht_pt at H
  refine pk_eq c 12 (fun e => ?_) (fun e => ?_)
  · rw [if_pos e] at H; exact H
  · rw [if_neg e] at H
    obtain ⟨u, hu, hbt⟩ := ht_uni (B := B) (c := c) (by omega)
    have l1 := ht_bt_lt B r c
    have l2 := ht_bt_lt B s c
    refine ht_at hB hn hR hr (by omega) (ht_at hB hn hR hs (by omega) (pk_eq (ht_bt B r c) (ht_bt B s c) (fun h => ?_) (fun h => ?_)))
    · rw [hbt r (by omega), hbt s (by omega), ht_bb_iff] at h
      rw [if_pos h] at H; exact H
    · rw [hbt r (by omega), hbt s (by omega)] at h
      rw [if_neg (fun z => h ((ht_bb_iff u r s c).mpr z))] at H; exact H
theorem ht_e23 {post : Int32 → Prop} {J : Int32 → Int32 → Prop} {B n c m i F : Nat} {b : Int32} {a1 a2 a3 a4 a5 : Nat → Int32} (hB : B < 4096) (hn : n < 9) (hR : ht_R B n a1) (hT : ht_T n 12 a2 a3) (hc : c ≤ 12) (hm : m ≤ 12) (hi : i < n)
    (H : J (nI (F + ht_ei n c m i (n - (i + 1)))) (nI (i + 1))) :
    ∃ fu, wX_endingAt_23 post J (nI c) (nI m) (nI i) (nI n) b a1 a2 a3 a4 a5 fu (nI F) 0 (nI (i + 1)) :=
  pk_loop (σ := Nat × Nat) (fun k j s => wX_endingAt_23 post J (nI c) (nI m) (nI i) (nI n) b a1 a2 a3 a4 a5 k (nI (F + s.1)) (nI s.2) (nI (i + 1 + j)))
    (fun j s => s.1 = ht_ei n c m i j ∧ s.2 = ht_ac (ht_tb n c) i j) (n - (i + 1)) 0 (0, 0) (by omega) ⟨rfl, rfl⟩
    (fun k s h => pk_le n (i + 1 + (n - (i + 1))) (fun _ => nm_r (nI_1 i) (by rw [h.1]; exact H)) (fun z => absurd z (by omega)))
    (fun k j s hj h hw => by
      obtain ⟨hs1, hs2⟩ := h
      have b1 := (ht_bd n hn c (by omega) (i + 1 + j) (by omega))
      have b0 := (ht_bd n hn c (by omega) i (by omega))
      have b2 : s.2 ≤ c := by
        rw [hs2]
        exact ht_ac_le _ (fun l hl => (ht_bd n hn c (by omega) (i + 1 + l) (by omega)).2)
      have e2 : ht_ac (ht_tb n c) i (j + 1) = max s.2 (ht_tb n c (i + 1 + j)) := by rw [hs2]; rfl
      have e1 : ht_ei n c m i (j + 1) = s.1 + (if c - ht_ac (ht_tb n c) i (j + 1) < m then 0 else ht_pt (ht_to n c i) (ht_to n c (i + 1 + j)) c) := by rw [hs1]; rfl
      have k60 : ∀ z, z = max s.2 (ht_tb n c (i + 1 + j)) → wX_endingAt_60 post J (wX_endingAt_23 post J (nI c) (nI m) (nI i) (nI n) b a1 a2 a3 a4 a5 k) (nI c) (nI m) (nI (F + s.1)) (nI i) (nI (i + 1 + j)) (nI z) (nI n) b a1 a2 a3 a4 a5 := by
        intro z hz
        rw [← e2] at hz
        have hzc : z ≤ c := by omega
        have es : nI c - nI z = nI (c - z) := pk_sub hzc
        rw [← hz] at e1
        refine And.intro (ht_in hc (by omega)) (nm_r (ht_g2 hn hT hc hi) ⟨ht_in hc (by omega), nm_r (ht_g2 hn hT hc (by omega)) (pk_lt (c - z) m (fun y => nm_r (nI_1 _) (hw (s.1, z) ⟨?_, hz⟩)) (fun y => ht_parts hB hn hR b0.1 b1.1 hc ?_) es rfl (by omega) (by omega))⟩)
        · rw [e1, if_pos y]; rfl
        · rw [if_neg (by omega)] at e1
          have hpt : ht_pt (ht_to n c i) (ht_to n c (i + 1 + j)) c = 0 ∨ ht_pt (ht_to n c i) (ht_to n c (i + 1 + j)) c = 1 := by
            unfold ht_pt
            split
            · exact Or.inr rfl
            · split
              · exact Or.inl rfl
              · exact Or.inr rfl
          rcases hpt with hp | hp
          · rw [hp] at e1 ⊢
            exact br_t rfl (nm_r (nI_1 _) (hw (s.1, z) ⟨e1.symm, hz⟩))
          · rw [hp] at e1 ⊢
            exact br_f (by decide) (nm_r (nI_1 _) (nm_r (nI_1 _) (hw (s.1 + 1, z) ⟨e1.symm, hz⟩)))
      exact pk_le n (i + 1 + j) (fun z => absurd z (by omega)) (fun _ => ⟨ht_in hc (by omega), nm_r (ht_g3 hn hT hc (by omega)) (pk_le (ht_tb n c (i + 1 + j)) s.2 (fun z => k60 s.2 (by omega)) (fun z => k60 _ (by omega)))⟩))
theorem ht_ea {post : Int32 → Prop} {B n c m : Nat} {b : Int32} {a1 a2 a3 a4 a5 : Nat → Int32} (hB : B < 4096) (hn : n < 9) (hR : ht_R B n a1) (hT : ht_T n 12 a2 a3) (hc : c ≤ 12) (hm : m ≤ 12)
    (H : post (nI (ht_eo n c m n))) : wpX_endingAt post (nI n, b, a1, a2, a3, a4, a5) (nI c) (nI m) :=
  pk_loop (σ := Nat) (fun k i s => wX_endingAt_5 post (nI c) (nI m) (nI n) b a1 a2 a3 a4 a5 k (nI s) (nI i)) (fun i s => s = ht_eo n c m i) n 0 0 (by omega) rfl
    (fun k s h => pk_le n n (fun _ => by rw [h]; exact H) (fun z => absurd z (by omega)))
    (fun k i s hi h hw => pk_le n i (fun z => absurd z (by omega)) (fun _ => nm_r (nI_1 i) (ht_e23 hB hn hR hT hc hm hi (hw _ (by rw [h]; rfl)))))
theorem ht_mat {post : Int32 → St2 → Prop} {B n m : Nat} {a1 a2 a3 a4 a5 : Nat → Int32} (hB : B < 4096) (hn : n < 9) (hR : ht_R B n a1) (hT : ht_T n 12 a2 a3) (hm0 : 1 ≤ m) (hm : m ≤ 12)
    (H : post (nI (ht_ms n m 12)) (nI n, 1, a1, a2, a3, a4, a5)) : wpX_matches post (nI n, 1, a1, a2, a3, a4, a5) (nI m) := by
  refine pk_lt m 1 (fun z => absurd z (by omega)) (fun _ => pk_le m 12 (fun _ => ht_build1 ?_) (fun z => absurd z (by omega)))
  exact pk_loop (σ := Nat) (fun k i s => wX_matches_21 post (nI m) (nI n) 1 a1 a2 a3 a4 a5 k (nI s) (nI (i + 1))) (fun i s => s = ht_ms n m i) 12 0 0 (by omega) rfl
    (fun k s h => pk_lt 12 13 (fun _ => by rw [h]; exact H) (fun z => absurd z (by omega)))
    (fun k i s hi h hw => pk_lt 12 (i + 1) (fun z => absurd z (by omega)) (fun _ => ht_ea hB hn hR hT (by omega) hm (nm_r (nI_add _ _) (nm_r (nI_1 _) (hw _ (by rw [h]; rfl))))))
/-! kinds -/
theorem ht_k26 {post : Int32 → St2 → Prop} {n a b : Nat} {a1 a2 a3 a4 a5 : Nat → Int32} (hn : n < 9) (hT : ht_T n 12 a2 a3) (ha : a ≤ 12) (hb : b < 12)
    (H : post (nI (ht_kd n a b n)) (nI n, 1, a1, a2, a3, a4, a5)) : ∃ fu, wX_kinds_26 post (nI a) (nI b) (nI n) 1 a1 a2 a3 a4 a5 fu 0 0 :=
  pk_loop (σ := Nat) (fun k i s => wX_kinds_26 post (nI a) (nI b) (nI n) 1 a1 a2 a3 a4 a5 k (nI s) (nI i)) (fun i s => s = ht_kd n a b i) n 0 0 (by omega) rfl
    (fun k s h => pk_le n n (fun _ => by rw [h]; exact H) (fun z => absurd z (by omega)))
    (fun k i s hi h hw => by
      have e : ht_kd n a b (i + 1) = s + (if i = 0 ∨ a < ht_tb n (b + 1) i then 1 else 0) := by rw [h]; rfl
      have b1 := (ht_bd n hn (b + 1) (by omega) i hi).2
      have eb : nI b + 1 = nI (b + 1) := nI_1 b
      refine pk_le n i (fun z => absurd z (by omega)) (fun _ => pk_eq i 0 (fun z => nm_r (nI_1 _) (nm_r (nI_1 _) (hw (s + 1) ?_))) (fun z => ?_))
      · rw [e, if_pos (Or.inl z)]
      · rw [eb]
        refine ⟨ht_in (by omega) (by omega), pk_le (ht_tb n (b + 1) i) a (fun y => nm_r (nI_1 _) (hw s ?_)) (fun y => nm_r (nI_1 _) (nm_r (nI_1 _) (hw (s + 1) ?_))) (ht_g3 hn hT (by omega) hi) rfl (by omega) (by omega)⟩
        · rw [e, if_neg (by omega)]; rfl
        · rw [e, if_pos (Or.inr y)])
theorem ht_kin0 {post : Int32 → St2 → Prop} {B n a b : Nat} {a1 a2 a3 a4 a5 : Nat → Int32} (hB : B < 4096) (hn : n < 9) (hR : ht_R B n a1) (hab : a ≤ b) (hb : b < 12)
    (H : ∀ b2 b3 b4 b5 : Nat → Int32, ht_T n 12 b2 b3 → post (nI (ht_kd n a b n)) (nI n, 1, a1, b2, b3, b4, b5)) : wpX_kinds post (nI n, 0, a1, a2, a3, a4, a5) (nI a) (nI b) :=
  pk_lt a 0 (fun z => absurd z (by omega)) (fun _ => pk_le 12 b (fun z => absurd z (by omega)) (fun _ => pk_le a b (fun _ => ht_build0 hB hn hR (fun b2 b3 b4 b5 hT => ht_k26 hn hT (by omega) hb (H b2 b3 b4 b5 hT))) (fun z => absurd z (by omega))))
theorem ht_kin1 {post : Int32 → St2 → Prop} {n a b : Nat} {a1 a2 a3 a4 a5 : Nat → Int32} (hn : n < 9) (hT : ht_T n 12 a2 a3) (hab : a ≤ b) (hb : b < 12)
    (H : post (nI (ht_kd n a b n)) (nI n, 1, a1, a2, a3, a4, a5)) : wpX_kinds post (nI n, 1, a1, a2, a3, a4, a5) (nI a) (nI b) :=
  pk_lt a 0 (fun z => absurd z (by omega)) (fun _ => pk_le 12 b (fun z => absurd z (by omega)) (fun _ => pk_le a b (fun _ => ht_build1 (ht_k26 hn hT (by omega) hb H)) (fun z => absurd z (by omega))))
end
section
/-! having -/
theorem ht_h66 {post : Int32 → St2 → Prop} {B n a c q : Nat} {mk : Int32} {pp : Nat → Bool} {a1 a2 a3 a4 a5 : Nat → Int32} (hB : B < 4096) (hn : n < 9) (hR : ht_R B n a1) (hT : ht_T n 12 a2 a3) (ha : a ≤ 12) (hc : c ≤ 12)
    (hp : ∀ r, r < 8 → ((nI (ht_rw B r) >>> (nI a &&& 31)) &&& mk = nI q &&& mk ↔ pp r = true))
    (H : post (nI (ht_hv (ht_tb n c) a (fun i => pp (ht_to n c i)) n).1) (nI n, 1, a1, a2, a3, a4, a5)) :
    ∃ fu, wX_having_66 post (nI a) (nI q) mk (nI c) (nI n) 1 a1 a2 a3 a4 a5 fu 0 0 0 :=
  pk_loop (σ := Nat × Nat) (fun k i s => wX_having_66 post (nI a) (nI q) mk (nI c) (nI n) 1 a1 a2 a3 a4 a5 k (nI s.1) (nI s.2) (nI i))
    (fun i s => s = ht_hv (ht_tb n c) a (fun i => pp (ht_to n c i)) i ∧ s.1 ≤ i ∧ s.2 ≤ 1) n 0 (0, 0) (by omega) ⟨rfl, Nat.le_refl 0, Nat.zero_le 1⟩
    (fun k s h => pk_le n n (fun _ => by rw [h.1]; exact H) (fun z => absurd z (by omega)))
    (fun k i s hi h hw => by
      obtain ⟨hs, h1, h2⟩ := h
      have b0 := ht_bd n hn c (by omega) i hi
      have e : ht_hv (ht_tb n c) a (fun i => pp (ht_to n c i)) (i + 1) = (s.1 + ht_hn (ht_tb n c) a (fun i => pp (ht_to n c i)) i s.1 s.2, ht_hn (ht_tb n c) a (fun i => pp (ht_to n c i)) i s.1 s.2) := by rw [hs]; rfl
      have k149 : ∀ d, d = ht_hn (ht_tb n c) a (fun i => pp (ht_to n c i)) i s.1 s.2 → d ≤ 1 → wX_having_149 post (wX_having_66 post (nI a) (nI q) mk (nI c) (nI n) 1 a1 a2 a3 a4 a5 k) (nI a) (nI q) mk (nI c) (nI s.1) (nI d) (nI i) (nI n) 1 a1 a2 a3 a4 a5 := by
        intro d hd hd1
        rw [← hd] at e
        refine pk_eq d 0 (fun z => nm_r (nI_1 i) (hw (s.1, d) ⟨?_, ?_, ?_⟩)) (fun z => nm_r (nI_1 _) (nm_r (nI_1 i) (hw (s.1 + 1, d) ⟨?_, ?_, ?_⟩)))
        · rw [e, z]; rfl
        · show s.1 ≤ i + 1; omega
        · exact hd1
        · rw [e, show d = 1 by omega]
        · show s.1 + 1 ≤ i + 1; omega
        · exact hd1
      refine pk_le n i (fun z => absurd z (by omega)) (fun _ => pk_eq s.2 0 (fun z2 => pk_eq s.1 0 (fun z1 => ⟨ht_in hc (by omega), ?_, ek_if (d := pp (ht_to n c i) = true) ?_ (fun y => k149 1 ?_ (by omega)) (fun y => k149 0 ?_ (by omega))⟩) (fun z1 => k149 s.2 ?_ h2)) (fun z2 => ⟨ht_in hc (by omega), pk_lt a (ht_tb n c i) (fun y => k149 0 ?_ (by omega)) (fun y => k149 1 ?_ (by omega)) rfl (ht_g3 hn hT hc hi) (by omega) (by omega)⟩))
      · rw [ht_g2 hn hT hc hi]; exact pk_in (ht_to n c i) 8 (by omega)
      · rw [ht_g2 hn hT hc hi, nI_clamp (by omega), hR _ b0.1]
        exact hp _ (by omega)
      · unfold ht_hn; rw [if_pos z2, if_pos z1, if_pos y]
      · unfold ht_hn; rw [if_pos z2, if_pos z1, if_neg y]
      · unfold ht_hn; rw [if_pos z2, if_neg z1]; exact z2
      · unfold ht_hn; rw [if_neg z2, if_pos y]
      · unfold ht_hn; rw [if_neg z2, if_neg (by omega)])
theorem ht_hav {post : Int32 → St2 → Prop} {B n a w q : Nat} {mk : Int32} {pp : Nat → Bool} {a1 a2 a3 a4 a5 : Nat → Int32} (hB : B < 4096) (hn : n < 9) (hR : ht_R B n a1) (hT : ht_T n 12 a2 a3) (haw : a + w ≤ 12) (hq : q ≤ 4095)
    (hmk : ((1 : Int32) <<< (nI w &&& 31)) - 1 = mk)
    (hp : ∀ r, r < 8 → ((nI (ht_rw B r) >>> (nI a &&& 31)) &&& mk = nI q &&& mk ↔ pp r = true))
    (H : post (nI (ht_hv (ht_tb n (a + w)) a (fun i => pp (ht_to n (a + w) i)) n).1) (nI n, 1, a1, a2, a3, a4, a5)) :
    wpX_having post (nI n, 1, a1, a2, a3, a4, a5) (nI a) (nI w) (nI q) :=
  pk_lt a 0 (fun z => absurd z (by omega)) (fun _ => pk_lt 12 a (fun z => absurd z (by omega)) (fun _ => pk_lt w 0 (fun z => absurd z (by omega)) (fun _ => pk_lt 12 w (fun z => absurd z (by omega)) (fun _ =>
    pk_lt 12 (a + w) (fun z => absurd z (by omega)) (fun _ => pk_lt q 0 (fun z => absurd z (by omega)) (fun _ => pk_le q 4095 (fun _ => ht_build1 (nm_r hmk (nm_r (nI_add a w) (ht_h66 hB hn hR hT (by omega) haw hp H)))) (fun z => absurd z (by omega)))) rfl (nI_add a w)))))
/-! sameBack, isBefore, fit -/
theorem ht_sb8 {post : Int32 → Prop} {B n r : Nat} {f b : Int32} {a1 a2 a3 a4 a5 : Nat → Int32} (hB : B < 4096) (hn : n < 9) (hR : ht_R B n a1) (hr : r < n) (H : ∀ w, 8 ≤ w → w ≤ 12 → post (nI w)) :
    ∀ k v, v + k = 12 → wX_sameBack_8 post (nI r) (nI B) f b a1 a2 a3 a4 a5 (k + 1) (nI v) (nI k + (-1)) := by
  intro k
  induction k with
  | zero =>
    intro v hv
    have e : v = 12 := by omega
    subst e
    exact br_t (by decide) (H 12 (by omega) (by omega))
  | succ k ih =>
    intro v hv
    rw [pk_m1]
    have l1 := ht_bt_lt B r k
    refine pk_lt k 0 (fun z => absurd z (by omega)) (fun _ => ht_at hB hn hR hr (by omega) (pk_eq (ht_bt B r k) (B / 2 ^ k % 2) (fun e => nm_r (nI_1 v) (nm_e (ih (v + 1) (by omega)))) (fun e => H v ?_ (by omega)) rfl (ht_sh hB (by omega) 1 (by decide)) (by omega) (by omega)))
    rcases Nat.lt_or_ge k 4 with z | z
    · omega
    · exact absurd (ht_bt_hi (by omega) z (by omega)) e
theorem ht_sbk {post : Int32 → Prop} {B n r : Nat} {f b : Int32} {a1 a2 a3 a4 a5 : Nat → Int32} (hB : B < 4096) (hn : n < 9) (hR : ht_R B n a1) (hr : r < n) (H : ∀ w, 8 ≤ w → w ≤ 12 → post (nI w)) :
    wpX_sameBack post (f, b, a1, a2, a3, a4, a5) (nI r) (nI B) (nI 12) :=
  nm_r (e' := nI 12 + (-1)) (by decide) ⟨13, ht_sb8 hB hn hR hr H 12 0 rfl⟩
theorem ht_isb {post : Int32 → Prop} {B n r : Nat} {f b : Int32} {a1 a2 a3 a4 a5 : Nat → Int32} (hB : B < 4096) (hn : n < 9) (hR : ht_R B n a1) (hr : r < n) (H0 : post 0) (H1 : post 1) :
    wpX_isBefore post (f, b, a1, a2, a3, a4, a5) (nI r) (nI B) (nI 12) :=
  ht_sbk hB hn hR hr (fun w h8 h12 => pk_le 12 w (fun _ => H0) (fun _ => And.intro (pk_in r 8 (by omega)) (br_c (fun _ => H1) (fun _ => H0))))
theorem ht_139 {post : Int32 → St2 → Prop} {u v : Nat} {f b : Int32} {a1 a2 a3 a4 a5 : Nat → Int32} (hu : u ≤ 12) (hv : v ≤ 12) (h8 : 8 ≤ u ∨ 8 ≤ v) (H : ∀ w, 8 ≤ w → w ≤ 12 → post (nI w) (f, b, a1, a2, a3, a4, a5)) :
    wX_fit_139 post (nI u) (nI v) f b a1 a2 a3 a4 a5 :=
  pk_le u v (fun z => H v (by omega) hv) (fun z => H u (by omega) hu)
theorem ht_108 {post : Int32 → St2 → Prop} {B n s u : Nat} {a1 a2 a3 a4 a5 : Nat → Int32} (hB : B < 4096) (hn : n < 9) (hR : ht_R B n a1) (hT : ht_T n 12 a2 a3) (hs : s ≤ n) (hu : u ≤ 12) (h8 : 8 ≤ u ∨ s < n) (H : ∀ w, 8 ≤ w → w ≤ 12 → post (nI w) (nI n, 1, a1, a2, a3, a4, a5)) :
    wX_fit_108 post (nI 12) (nI B) (nI s) (nI u) (nI n) 1 a1 a2 a3 a4 a5 :=
  pk_le n s (fun z => ht_139 (v := 0) hu (by omega) (by omega) H) (fun z => ⟨ht_in (by omega) (by omega), by
    rw [ht_g2 hn hT (Nat.le_refl 12) z]
    exact ht_sbk hB hn hR (ht_bd n hn 12 (by omega) s z).1 (fun w w8 w12 => ht_139 hu w12 (Or.inr w8) H)⟩)
theorem ht_fit {post : Int32 → St2 → Prop} {B n : Nat} {a1 a2 a3 a4 a5 : Nat → Int32} (hB : B < 4096) (hn : n < 9) (h0 : 0 < n) (hR : ht_R B n a1) (hT : ht_T n 12 a2 a3) (H : ∀ w, 8 ≤ w → w ≤ 12 → post (nI w) (nI n, 1, a1, a2, a3, a4, a5)) :
    wpX_fit post (nI n, 1, a1, a2, a3, a4, a5) (nI 12) (nI B) := by
  refine pk_lt 12 0 (fun z => absurd z (by omega)) (fun _ => pk_lt 12 12 (fun z => absurd z (by omega)) (fun _ => pk_lt B 0 (fun z => absurd z (by omega)) (fun _ => pk_le B 4095 (fun _ => ht_build1 ?_) (fun z => absurd z (by omega)))))
  refine pk_loop (σ := Nat) (fun k i s => wX_fit_32 post (nI 12) (nI B) (nI n) 1 a1 a2 a3 a4 a5 k (nI s) (nI i)) (fun i s => s ≤ i) n 0 0 (by omega) (Nat.le_refl 0) ?_ ?_
  · intro k s h
    refine pk_le n n (fun _ => pk_le s 0 (fun z => ?_) (fun z => ?_)) (fun z => absurd z (by omega))
    · exact ht_108 (u := 0) hB hn hR hT h (by omega) (by omega) H
    · obtain ⟨t, rfl⟩ : ∃ t, s = t + 1 := ⟨s - 1, by omega⟩
      have e : (8 : Int32) * nI 12 + nI (t + 1) - 1 = nI (8 * 12 + t) := by rw [ht_ix]; exact nI_pred _
      have g : a2 (nI (8 * 12 + t)).toNatClampNeg = nI (ht_to n 12 t) := by
        rw [nI_clamp (by omega)]
        exact (ht_rd hn hT (Nat.le_refl 12) (by omega)).1
      refine ⟨pk_in (8 * 12 + t) 104 (by omega) e, ?_⟩
      rw [e, g]
      exact ht_sbk hB hn hR (ht_bd n hn 12 (by omega) t (by omega)).1 (fun w w8 w12 => ht_108 hB hn hR hT h w12 (Or.inl w8) H)
  · intro k i s hi h hw
    refine pk_le n i (fun z => absurd z (by omega)) (fun _ => ⟨ht_in (by omega) (by omega), ?_⟩)
    rw [ht_g2 hn hT (Nat.le_refl 12) hi]
    exact ht_isb hB hn hR (ht_bd n hn 12 (by omega) i hi).1 (br_t rfl (nm_r (nI_1 i) (hw s (by omega)))) (br_f (by decide) (nm_r (nI_1 i) (nm_r (nI_1 i) (hw (i + 1) (by omega)))))
/-! ordered, since -/
theorem ht_ord {post : Int32 → St2 → Prop} {n c i : Nat} {a1 a2 a3 a4 a5 : Nat → Int32} (hn : n < 9) (hT : ht_T n 12 a2 a3) (hc : c ≤ 12) (hi : i < 8)
    (H1 : i < n → post (nI (ht_to n c i)) (nI n, 1, a1, a2, a3, a4, a5)) (H2 : n ≤ i → post (-4) (nI n, 1, a1, a2, a3, a4, a5)) :
    wpX_ordered post (nI n, 1, a1, a2, a3, a4, a5) (nI c) (nI i) := by
  refine pk_lt c 0 (fun z => absurd z (by omega)) (fun _ => pk_lt 12 c (fun z => absurd z (by omega)) (fun _ => pk_lt i 0 (fun z => absurd z (by omega)) (fun _ => pk_lt i n (fun z => br_t rfl (ht_build1 ⟨ht_in hc hi, ?_⟩)) (fun z => br_f (by decide) (H2 z)))))
  rw [ht_g2 hn hT hc z]
  exact H1 z
theorem ht_sin {post : Int32 → St2 → Prop} {n c i : Nat} {a1 a2 a3 a4 a5 : Nat → Int32} (hn : n < 9) (hT : ht_T n 12 a2 a3) (hc : c ≤ 12) (hi : i < 8)
    (H0 : i = 0 → post (nI c) (nI n, 1, a1, a2, a3, a4, a5)) (H1 : i < n → i ≠ 0 → post (nI (ht_tb n c i)) (nI n, 1, a1, a2, a3, a4, a5)) (H2 : n ≤ i → post (-4) (nI n, 1, a1, a2, a3, a4, a5)) :
    wpX_since post (nI n, 1, a1, a2, a3, a4, a5) (nI c) (nI i) := by
  refine pk_lt c 0 (fun z => absurd z (by omega)) (fun _ => pk_lt 12 c (fun z => absurd z (by omega)) (fun _ => pk_lt i 0 (fun z => absurd z (by omega)) (fun _ => pk_lt i n (fun z => br_t rfl (ht_build1 (pk_eq i 0 (fun e => H0 e) (fun e => ⟨ht_in hc hi, ?_⟩)))) (fun z => br_f (by decide) (H2 z)))))
  rw [ht_g3 hn hT hc z]
  exact H1 z e
/-! add, turn -/
theorem ht_add {post : Int32 → St2 → Prop} {m v : Nat} {b : Int32} {a1 a2 a3 a4 a5 : Nat → Int32} (hm : m < 8) (hv : v ≤ 4095) (H : post (nI m) (nI (m + 1), 0, upd a1 m (nI v), a2, a3, a4, a5)) :
    wpX_add post (nI m, b, a1, a2, a3, a4, a5) (nI v) := by
  refine pk_lt v 0 (fun z => absurd z (by omega)) (fun _ => pk_le v 4095 (fun _ => pk_eq m 8 (fun z => absurd z (by omega)) (fun _ => ⟨pk_in m 8 hm, nm_r (e' := upd a1 m (nI v)) (by rw [nI_clamp (by omega)]) (nm_r (nI_1 m) ?_)⟩)) (fun z => absurd z (by omega)))
  rw [nI_pred]
  exact H
theorem ht_x11 : ∀ v, v < 4096 → v ^^^ 2048 < 4096 ∧ (v ^^^ 2048) ^^^ 2048 = v ∧ (v ^^^ 2048) / 2 ^ 11 % 2 ^ 1 + v / 2 ^ 11 % 2 ^ 1 = 1 := by decide +kernel
theorem ht_trn {post : Int32 → St2 → Prop} {v : Nat} {b : Int32} {a1 a2 a3 a4 a5 : Nat → Int32} (hv : v < 4096) (ha : a1 0 = nI v) (H : post (nI ((v ^^^ 2048) / 2 ^ 11 % 2 ^ 1)) (nI 8, 0, upd a1 0 (nI (v ^^^ 2048)), a2, a3, a4, a5)) :
    wpX_turn post (nI 8, b, a1, a2, a3, a4, a5) 0 11 := by
  refine pk_lt 0 0 (fun z => absurd z (by omega)) (fun _ => pk_lt 0 8 (fun _ => br_t rfl (br_f (by decide) (br_t (by decide) ⟨pk_in 0 8 (by omega), pk_in 0 8 (by omega), nm_r (e' := upd a1 0 (nI (v ^^^ 2048))) ?_ (And.intro (pk_in 0 8 (by omega)) ?_)⟩))) (fun z => absurd z (by omega)))
  · rw [show (0 : Int32).toNatClampNeg = 0 from by decide, ha, show ((1 : Int32) <<< ((11 : Int32) &&& 31)) = nI 2048 from by decide, ht_xor]
  · rw [show (0 : Int32).toNatClampNeg = 0 from by decide, pk_us]
    have t := ht_sh (v := v ^^^ 2048) (c := 11) (ht_x11 v hv).1 (by omega) (m := 1) 1 (by decide)
    have t' : (nI (v ^^^ 2048) >>> ((11 : Int32) &&& 31)) &&& 1 = nI ((v ^^^ 2048) / 2 ^ 11 % 2 ^ 1) := t
    rw [t']
    exact H
end
section
theorem ht_a16 : ∀ B, B < 4096 → nI B &&& (-16) = nI (B / 16 * 16) := by decide +kernel
theorem ht_o2 : ∀ b, b < 2 → ∀ i, i < 8 → b ||| 2 * i = b + 2 * i := by decide +kernel
theorem ht_rwI {B i : Nat} (hB : B < 4096) (hi : i < 8) : ((nI B &&& (-16)) ||| (nI B &&& 1)) ||| nI (2 * i) = nI (ht_rw B i) := by
  rw [ht_a16 B hB, pk_andN (m := 1) (by omega) 1 (by decide), ht_or, ht_or, Nat.or_assoc, Nat.pow_one, ht_o2 _ (by omega) i hi]
  have h : 2 ^ 4 * (B / 16) + (B % 2 + 2 * i) = 2 ^ 4 * (B / 16) ||| (B % 2 + 2 * i) := Nat.two_pow_add_eq_or_of_lt (by omega) (B / 16)
  rw [show B / 16 * 16 = 2 ^ 4 * (B / 16) by omega, ← h]
  exact congrArg nI (by unfold ht_rw; omega)
theorem ht_rwA {B i : Nat} (hB : B < 4096) (hi : i < 8) : ((nI B &&& (-16)) ||| (nI B &&& 1)) ||| (2 * (nI i &&& 7)) = nI (ht_rw B i) := by
  rw [pk_andN (m := 7) (by omega) 3 (by decide), show i % 2 ^ 3 = i by omega]
  exact (congrArg (fun x => ((nI B &&& (-16)) ||| (nI B &&& 1)) ||| x) (pk_mul 2 i)).trans (ht_rwI hB hi)
theorem ht_x12 {B : Nat} (hB : B < 4096) : nI B ^^^ 4095 = nI (B ^^^ 4095) ∧ B ^^^ 4095 ≤ 4095 := by
  refine ⟨ht_xor B 4095, ?_⟩
  have : B ^^^ 4095 < 2 ^ 12 := Nat.xor_lt_two_pow (by omega) (by omega)
  omega
theorem ht_774 {post : Int32 → St0 → Prop} {mc ms kc ks : Nat} {z0 z1 b : Int32} {a1 a2 a3 a4 a5 : Nat → Int32} (hp : post 1 ()) (hz : z1 = z0) : wL_lawOf_774 post mc ms z0 z1 kc ks (nI 7) b a1 a2 a3 a4 a5 :=
  br_t hz (br_t rfl
    (br_t (by decide) (br_t rfl
    (br_f (by decide) (br_f (by decide) (br_t rfl
    (br_f (by decide) (br_f (by decide) (br_f (by decide) (br_t rfl
    (br_f (by decide) (br_f (by decide) (br_f (by decide) (br_f (by decide) (br_t (by decide) (br_t rfl
    (br_f (by decide) (br_t (by decide) (br_t rfl
    (br_f (by decide) (br_f (by decide) (br_f (by decide) (br_t rfl
    (br_t (by decide) (br_f (by decide) (br_t rfl hp))))))))))))))))))))))))))
theorem ht_601e {post : Int32 → St0 → Prop} {mc ms kc ks B n v k : Nat} {b : Int32} {a1 a2 a3 a4 a5 : Nat → Int32} (hp : post 1 ()) (hn : n < 9) (hB : B < 4096) (hv : v < 4096) (ha : a1 0 = nI v)
    (h8 : n = 8 → a1 7 = nI (ht_rw B 7)) (h7 : n ≠ 8 → a1 7 = nI B ^^^ 4095) : wL_lawOf_601 post mc ms (nI n) (nI B) kc ks (k + 1) 1 (nI 8) (nI 8) b a1 a2 a3 a4 a5 := by
  have x := ht_x11 v hv
  have y := ht_x11 (v ^^^ 2048) x.1
  refine pk_le 8 8 (fun _ => ht_trn hv ha (ht_trn x.1 pk_us (br_f (by decide)
    (br_f (by decide) (br_t (by decide) (br_t rfl (br_t rfl
    (br_f (by decide) (br_f (by decide) (br_t rfl
    (br_t (by decide) (br_t rfl
    (br_t rfl
    (br_t ?_
    (br_f (by decide) (br_f (by decide) (br_f (by decide) (br_t rfl
    (br_f (by decide) (br_t (by decide) (br_t rfl (br_f (by decide) (br_f (by decide) (br_t rfl
    (br_f (by decide) (nm_r (e' := nI 7) (nI_pred 7) ⟨pk_in 7 8 (by omega), pk_eq n 8 (fun z => ht_774 hp ?_) (fun z => ht_774 hp ?_)⟩)))))))))))))))))))))))))) (fun z => absurd z (by omega))
  · rw [nI_add]
    have w := y.2.2
    rw [x.2.1] at w ⊢
    rw [Nat.add_comm, w]; rfl
  · rw [nI_clamp (by omega), pk_un (by omega), pk_un (by omega), h8 z]
    exact (ht_rwI (i := 7) hB (by omega)).symm
  · rw [nI_clamp (by omega), pk_un (by omega), pk_un (by omega), h7 z]
theorem ht_601 {post : Int32 → St0 → Prop} {mc ms kc ks B n : Nat} {b : Int32} {a1 a2 a3 a4 a5 : Nat → Int32} (hp : post 1 ()) (hn : n < 9) (h2 : 2 ≤ n) (hB : B < 4096) (hR : ht_R B n a1) : ∃ fu, wL_lawOf_601 post mc ms (nI n) (nI B) kc ks fu 1 0 (nI n) b a1 a2 a3 a4 a5 := by
  refine pk_loop (σ := Nat × Int32 × (Nat → Int32)) (fun k i s => wL_lawOf_601 post mc ms (nI n) (nI B) kc ks k 1 (nI i) (nI s.1) s.2.1 s.2.2 a2 a3 a4 a5)
    (fun i s => s.1 = max i n ∧ ht_R B n s.2.2 ∧ ∀ r, n ≤ r → r < i → s.2.2 r = nI B ^^^ 4095) 8 0 (n, b, a1) (by omega) ⟨(Nat.zero_max n).symm, hR, fun r _ hr => absurd hr (by omega)⟩ ?_ ?_
  · intro k s h
    obtain ⟨m, c, a⟩ := s
    obtain ⟨q1, q2, q3⟩ := h
    have e : m = max 8 n := q1
    have e' : m = 8 := by omega
    subst e'
    exact ht_601e hp hn hB (ht_rw_lt (r := 0) hB (by omega)) (q2 0 (by omega)) (fun z => q2 7 (by omega)) (fun z => q3 7 (by omega) (by omega))
  · intro k i s hi h hw
    obtain ⟨m, c, a⟩ := s
    obtain ⟨q1, q2, q3⟩ := h
    have e : m = max i n := q1
    have x := ht_x12 hB
    refine pk_le 8 i (fun z => absurd z (by omega)) (fun _ => br_f (by decide) (pk_lt i n (fun z => nm_r (nI_1 i) (hw (m, c, a) ⟨?_, q2, fun r hr hr' => ?_⟩)) (fun z => ?_)))
    · show m = max (i + 1) n
      omega
    · exact absurd hr' (by omega)
    · have e' : m = i := by omega
      subst e'
      rw [x.1]
      refine ht_add hi x.2 (br_t rfl (nm_r (nI_1 m) (hw (m + 1, 0, upd a m (nI (B ^^^ 4095))) ⟨?_, fun r hr => ?_, fun r hr hr' => ?_⟩)))
      · show m + 1 = max (m + 1) n
        omega
      · show upd a m (nI (B ^^^ 4095)) r = _
        rw [pk_un (by omega)]
        exact q2 r hr
      · show upd a m (nI (B ^^^ 4095)) r = _
        by_cases w : r = m
        · subst w; rw [pk_us, x.1]
        · rw [pk_un w]; exact q3 r hr (by omega)
/-! the pairs -/
theorem ht_514 {post : Int32 → St0 → Prop} {mc ms kc ks n i m G s w : Nat} {J411 J421 : Int32 → Int32 → Int32 → Int32 → Int32 → (Nat → Int32) → (Nat → Int32) → (Nat → Int32) → (Nat → Int32) → (Nat → Int32) → Prop} {x4 : Int32} {a1 a2 a3 a4 a5 : Nat → Int32} (hn : n < 9) (hi : i < 8) (hm : m < 8) (hw : w = ht_wd i m) (hw' : w ≤ 10) (hs : s = ht_tk n i m)
    (H : ∀ t, t = ht_tk n i (m + 1) → J421 1 (nI (G + t)) (nI (m + 1)) (nI n) 1 a1 a2 a3 a4 a5) :
    wL_lawOf_514 post mc ms J411 J421 (nI n) x4 (nI (G + s)) (nI i) (nI m) (nI w) 1 kc ks (nI n) 1 a1 a2 a3 a4 a5 := by
  have e : ht_tk n i (m + 1) = s + (if i < m ∧ m < n ∧ 8 < w then 1 else 0) := by rw [hs, hw]; rfl
  refine pk_le m i (fun z => nm_r (nI_1 m) (H s ?_)) (fun z => pk_le n m (fun y => nm_r (nI_1 m) (H s ?_)) (fun y => pk_le w 8 (fun x => nm_r (nI_1 m) (H s ?_)) (fun x => nm_r (nI_1 _) (nm_r (nI_1 m) (H (s + 1) ?_)))))
  · rw [e, if_neg (by omega)]; rfl
  · rw [e, if_neg (by omega)]; rfl
  · rw [e, if_neg (by omega)]; rfl
  · rw [e, if_pos ⟨z, y, x⟩]
theorem ht_421 {post : Int32 → St0 → Prop} {mc ms kc ks B n i G : Nat} {J : Int32 → Int32 → Int32 → Int32 → Int32 → (Nat → Int32) → (Nat → Int32) → (Nat → Int32) → (Nat → Int32) → (Nat → Int32) → Prop} {a1 a2 a3 a4 a5 : Nat → Int32} (hn : n < 9) (hT : ht_T n 12 a2 a3) (hi : i < 8)
    (H : J 1 (nI (G + ht_tk n i 8)) (nI (i + 1)) (nI n) 1 a1 a2 a3 a4 a5) :
    ∃ fu, wL_lawOf_421 post mc ms J (nI n) (nI B) (nI i) kc ks fu 1 (nI G) 0 (nI n) 1 a1 a2 a3 a4 a5 := by
  refine pk_loop (σ := Nat) (fun k m s => wL_lawOf_421 post mc ms J (nI n) (nI B) (nI i) kc ks k 1 (nI (G + s)) (nI m) (nI n) 1 a1 a2 a3 a4 a5) (fun m s => s = ht_tk n i m) 8 0 0 (by omega) rfl ?_ ?_
  · intro k s h
    refine pk_le 8 8 (fun _ => nm_r (nI_1 i) ?_) (fun z => absurd z (by omega))
    rw [h]
    exact H
  · intro k m s hm h hw
    have k461 : ∀ w, w = ht_wd i m → w ≤ 10 → wL_lawOf_461 post mc ms J (wL_lawOf_421 post mc ms J (nI n) (nI B) (nI i) kc ks k) (nI n) (nI B) 1 (nI (G + s)) (nI i) (nI m) (nI w) kc ks (nI n) 1 a1 a2 a3 a4 a5 := by
      intro w e1 e2
      have k514 : wL_lawOf_514 post mc ms J (wL_lawOf_421 post mc ms J (nI n) (nI B) (nI i) kc ks k) (nI n) (nI B) (nI (G + s)) (nI i) (nI m) (nI w) 1 kc ks (nI n) 1 a1 a2 a3 a4 a5 := ht_514 hn hi hm e1 e2 h hw
      refine ht_long hn hT hi hm (fun y1 y2 y3 => br_f (by decide) (pk_eq i m (fun z => absurd z y3) (fun _ => pk_le n i (fun z => absurd z (by omega)) (fun _ => pk_lt m n (fun _ => br_t ?_ k514) (fun z => absurd z (by omega)))))) (fun y => br_f (by decide) (pk_eq i m (fun _ => br_t rfl k514) (fun _ => pk_le n i (fun _ => br_t rfl k514) (fun _ => pk_lt m n (fun z => absurd y (by omega)) (fun _ => br_t rfl k514)))))
      rw [ht_q5 n hn i y1 m y2 y3, e1]
    refine pk_le 8 m (fun z => absurd z (by omega)) (fun _ => nm_e (br_c (fun h4 => br_c (fun h2 => k461 10 ?_ (by omega)) (fun h2 => k461 9 ?_ (by omega))) (fun h4 => k461 8 ?_ (by omega))))
    · unfold ht_wd; rw [if_pos h4, if_pos h2]
    · unfold ht_wd; rw [if_pos h4, if_neg h2]
    · unfold ht_wd; rw [if_neg h4]
theorem ht_half : ∀ n, n < 9 → nI (n * (n - 1) / 2) = (nI n * (nI n - 1)) / 2 := by decide +kernel
theorem ht_411 {post : Int32 → St0 → Prop} {mc ms kc ks B n : Nat} {a1 a2 a3 a4 a5 : Nat → Int32} (hp : post 1 ()) (hn : n < 9) (h2 : 2 ≤ n) (hB : B < 4096) (hR : ht_R B n a1) (hT : ht_T n 12 a2 a3) : ∃ fu, wL_lawOf_411 post mc ms (nI n) (nI B) kc ks fu 1 0 0 (nI n) 1 a1 a2 a3 a4 a5 := by
  refine pk_loop (σ := Nat) (fun k i s => wL_lawOf_411 post mc ms (nI n) (nI B) kc ks k 1 (nI s) (nI i) (nI n) 1 a1 a2 a3 a4 a5) (fun i s => s = ht_ti n i) 8 0 0 (by omega) rfl ?_ ?_
  · intro k s h
    refine pk_le 8 8 (fun _ => br_f (by decide) (ht_mat (m := 9) hB hn hR hT (by omega) (by omega) (br_t ?_ (ht_mat (m := 8) hB hn hR hT (by omega) (by omega) (And.intro (by decide) (br_t ?_ (ht_601 hp hn h2 hB hR))))))) (fun z => absurd z (by omega))
    · rw [(ht_q6 n hn).1, h]
    · rw [(ht_q6 n hn).2]; exact ht_half n hn
  · intro k i s hi h hw
    exact pk_le 8 i (fun z => absurd z (by omega)) (fun _ => ht_421 hn hT hi (hw _ (by rw [h]; rfl)))
/-! the orders -/
theorem ht_389 {post : Int32 → St0 → Prop} {mc ms kc ks i : Nat} {J : Int32 → Int32 → Int32 → Int32 → (Nat → Int32) → (Nat → Int32) → (Nat → Int32) → (Nat → Int32) → (Nat → Int32) → Prop} {x3 x4 z0 z1 f b : Int32} {a1 a2 a3 a4 a5 : Nat → Int32} (hz : z1 = z0) (H : J 1 (nI (i + 1)) f b a1 a2 a3 a4 a5) :
    wL_lawOf_389 post mc ms J x3 x4 (nI i) z0 z1 kc ks f b a1 a2 a3 a4 a5 := br_t hz (nm_r (nI_1 i) H)
theorem ht_357 {post : Int32 → St0 → Prop} {mc ms kc ks n i : Nat} {J : Int32 → Int32 → Int32 → Int32 → (Nat → Int32) → (Nat → Int32) → (Nat → Int32) → (Nat → Int32) → (Nat → Int32) → Prop} {x4 z0 z1 : Int32} {a1 a2 a3 a4 a5 : Nat → Int32} (hn : n < 9) (h2 : 2 ≤ n) (hi : i < 8) (hT : ht_T n 12 a2 a3) (hz : z1 = z0) (H : J 1 (nI (i + 1)) (nI n) 1 a1 a2 a3 a4 a5) :
    wL_lawOf_357 post mc ms J (nI n) x4 (nI i) (nI (ht_sn i)) z0 z1 kc ks (nI n) 1 a1 a2 a3 a4 a5 :=
  br_t hz (ht_sin (c := 4) hn hT (by omega) hi
    (fun e => pk_le n i (fun z => absurd z (by omega)) (fun _ => pk_eq i 0 (fun _ => ht_389 rfl H) (fun z => absurd e z)))
    (fun y e => pk_le n i (fun z => absurd z (by omega)) (fun _ => pk_eq i 0 (fun z => absurd z e) (fun _ => ht_389 (by rw [(ht_q4 n hn i y e).2]) H)))
    (fun y => pk_le n i (fun _ => ht_389 rfl H) (fun z => absurd z (by omega))))
theorem ht_329 {post : Int32 → St0 → Prop} {mc ms kc ks n i : Nat} {J : Int32 → Int32 → Int32 → Int32 → (Nat → Int32) → (Nat → Int32) → (Nat → Int32) → (Nat → Int32) → (Nat → Int32) → Prop} {x4 w : Int32} {a1 a2 a3 a4 a5 : Nat → Int32} (hn : n < 9) (h2 : 2 ≤ n) (hi : i < 8) (hT : ht_T n 12 a2 a3) (H : J 1 (nI (i + 1)) (nI n) 1 a1 a2 a3 a4 a5) (hw : w = nI (ht_sn i)) :
    wL_lawOf_329 post mc ms J (nI n) x4 1 (nI i) w kc ks (nI n) 1 a1 a2 a3 a4 a5 := by
  subst hw
  exact br_f (by decide) (ht_sin (c := 12) hn hT (by omega) hi
    (fun e => pk_le n i (fun z => absurd z (by omega)) (fun _ => ht_357 hn h2 hi hT (by subst e; rfl) H))
    (fun y e => pk_le n i (fun z => absurd z (by omega)) (fun _ => ht_357 hn h2 hi hT (by rw [(ht_q4 n hn i y e).1]) H))
    (fun y => pk_le n i (fun _ => ht_357 hn h2 hi hT rfl H) (fun z => absurd z (by omega))))
theorem ht_278 {post : Int32 → St0 → Prop} {mc ms kc ks n i : Nat} {J : Int32 → Int32 → Int32 → Int32 → (Nat → Int32) → (Nat → Int32) → (Nat → Int32) → (Nat → Int32) → (Nat → Int32) → Prop} {x4 : Int32} {a1 a2 a3 a4 a5 : Nat → Int32} (hn : n < 9) (h2 : 2 ≤ n) (hi : i < 8) (hT : ht_T n 12 a2 a3) (H : J 1 (nI (i + 1)) (nI n) 1 a1 a2 a3 a4 a5) :
    wL_lawOf_278 post mc ms J (nI n) x4 (nI i) 1 kc ks (nI n) 1 a1 a2 a3 a4 a5 := by
  have h : i = 0 ∨ i = 1 ∨ i = 2 ∨ i = 3 ∨ i = 4 ∨ i = 5 ∨ i = 6 ∨ i = 7 := by omega
  rcases h with h | h | h | h | h | h | h | h <;> subst h
  · exact br_t rfl (br_t rfl (ht_329 hn h2 hi hT H (by decide)))
  · exact br_f (by decide) (br_f (by decide) (br_t (by decide) (br_t (by decide) (ht_329 hn h2 hi hT H (by decide)))))
  · exact br_f (by decide) (br_f (by decide) (br_t (by decide) (br_f (by decide) (ht_329 hn h2 hi hT H (by decide)))))
  · exact br_f (by decide) (br_f (by decide) (br_t (by decide) (br_t (by decide) (ht_329 hn h2 hi hT H (by decide)))))
  · exact br_f (by decide) (br_f (by decide) (br_f (by decide) (ht_329 hn h2 hi hT H (by decide))))
  · exact br_f (by decide) (br_f (by decide) (br_t (by decide) (br_t (by decide) (ht_329 hn h2 hi hT H (by decide)))))
  · exact br_f (by decide) (br_f (by decide) (br_t (by decide) (br_f (by decide) (ht_329 hn h2 hi hT H (by decide)))))
  · exact br_f (by decide) (br_f (by decide) (br_t (by decide) (br_t (by decide) (ht_329 hn h2 hi hT H (by decide)))))
theorem ht_270 {post : Int32 → St0 → Prop} {mc ms kc ks n i : Nat} {J : Int32 → Int32 → Int32 → Int32 → (Nat → Int32) → (Nat → Int32) → (Nat → Int32) → (Nat → Int32) → (Nat → Int32) → Prop} {x4 z0 z1 : Int32} {a1 a2 a3 a4 a5 : Nat → Int32} (hn : n < 9) (h2 : 2 ≤ n) (hi : i < 8) (hT : ht_T n 12 a2 a3) (H : J 1 (nI (i + 1)) (nI n) 1 a1 a2 a3 a4 a5) (hz : z1 = z0) :
    wL_lawOf_270 post mc ms J (nI n) x4 (nI i) z0 z1 kc ks (nI n) 1 a1 a2 a3 a4 a5 := br_t hz (ht_278 hn h2 hi hT H)
theorem ht_247 {post : Int32 → St0 → Prop} {mc ms kc ks n i : Nat} {J : Int32 → Int32 → Int32 → Int32 → (Nat → Int32) → (Nat → Int32) → (Nat → Int32) → (Nat → Int32) → (Nat → Int32) → Prop} {x4 z0 z1 : Int32} {a1 a2 a3 a4 a5 : Nat → Int32} (hn : n < 9) (h2 : 2 ≤ n) (hi : i < 8) (hT : ht_T n 12 a2 a3) (H : J 1 (nI (i + 1)) (nI n) 1 a1 a2 a3 a4 a5) (hz : z1 = z0) :
    wL_lawOf_247 post mc ms J (nI n) x4 (nI i) z0 z1 kc ks (nI n) 1 a1 a2 a3 a4 a5 :=
  br_t hz (ht_ord (c := 1) hn hT (by omega) hi
    (fun y => pk_le n i (fun z => absurd z (by omega)) (fun _ => ht_270 hn h2 hi hT H (by rw [(ht_q3 n hn i y).2.2])))
    (fun y => pk_le n i (fun _ => ht_270 hn h2 hi hT H rfl) (fun z => absurd z (by omega))))
theorem ht_223 {post : Int32 → St0 → Prop} {mc ms kc ks n i : Nat} {J : Int32 → Int32 → Int32 → Int32 → (Nat → Int32) → (Nat → Int32) → (Nat → Int32) → (Nat → Int32) → (Nat → Int32) → Prop} {x4 z0 z1 : Int32} {a1 a2 a3 a4 a5 : Nat → Int32} (hn : n < 9) (h2 : 2 ≤ n) (hi : i < 8) (hT : ht_T n 12 a2 a3) (H : J 1 (nI (i + 1)) (nI n) 1 a1 a2 a3 a4 a5) (hz : z1 = z0) :
    wL_lawOf_223 post mc ms J (nI n) x4 (nI i) z0 z1 kc ks (nI n) 1 a1 a2 a3 a4 a5 :=
  br_t hz (ht_ord (c := 12) hn hT (by omega) hi
    (fun y => pk_le n i (fun z => absurd z (by omega)) (fun _ => ht_247 hn h2 hi hT H (by rw [(ht_q3 n hn i y).2.1])))
    (fun y => pk_le n i (fun _ => ht_247 hn h2 hi hT H rfl) (fun z => absurd z (by omega))))
theorem ht_191 {post : Int32 → St0 → Prop} {mc ms kc ks B n : Nat} {a1 a2 a3 a4 a5 : Nat → Int32} (hp : post 1 ()) (hn : n < 9) (h2 : 2 ≤ n) (hB : B < 4096) (hR : ht_R B n a1) (hT : ht_T n 12 a2 a3) : ∃ fu, wL_lawOf_191 post mc ms (nI n) (nI B) kc ks fu 1 0 (nI n) 1 a1 a2 a3 a4 a5 :=
  pk_loop (σ := Unit) (fun k i _ => wL_lawOf_191 post mc ms (nI n) (nI B) kc ks k 1 (nI i) (nI n) 1 a1 a2 a3 a4 a5) (fun _ _ => True) 8 0 () (by omega) trivial
    (fun k _ _ => pk_le 8 8 (fun _ => ht_411 hp hn h2 hB hR hT) (fun z => absurd z (by omega)))
    (fun k i _ hi _ hw => pk_le 8 i (fun z => absurd z (by omega)) (fun _ => br_f (by decide) (ht_ord (c := 4) hn hT (by omega) hi
      (fun y => pk_le n i (fun z => absurd z (by omega)) (fun _ => ht_223 hn h2 hi hT (hw () trivial) (by rw [(ht_q3 n hn i y).1])))
      (fun y => pk_le n i (fun _ => ht_223 hn h2 hi hT (hw () trivial) rfl) (fun z => absurd z (by omega))))))
/-! the first rows and the counts -/
theorem ht_165 {post : Int32 → St0 → Prop} {mc ms kc ks B n : Nat} {z0 z1 : Int32} {a1 a2 a3 a4 a5 : Nat → Int32} (hp : post 1 ()) (hn : n < 9) (h2 : 2 ≤ n) (hB : B < 4096) (hR : ht_R B n a1) (hT : ht_T n 12 a2 a3) (hz : z1 = z0) : wL_lawOf_165 post mc ms (nI n) (nI B) z0 z1 kc ks (nI n) 1 a1 a2 a3 a4 a5 :=
  br_t hz (ht_fit hB hn (by omega) hR hT (fun w w8 w12 => pk_lt w 8 (fun z => absurd z (by omega)) (fun _ => ht_191 hp hn h2 hB hR hT)))
theorem ht_31e {post : Int32 → St0 → Prop} {mc ms kc ks B n k : Nat} {a1 a2 a3 a4 a5 : Nat → Int32} (hp : post 1 ()) (hn : n < 9) (h2 : 2 ≤ n) (hB : B < 4096) (hR : ht_R B n a1) : wL_lawOf_31 post mc ms (nI n) (nI B) kc ks (k + 1) 1 (nI 8) (nI n) 0 a1 a2 a3 a4 a5 := by
  have q1 := ht_q1 n hn h2
  have q2 := ht_q2 n hn h2
  refine pk_le 8 8 (fun _ => br_f (by decide) (br_t rfl (ht_kin0 (a := 1) (b := 3) hB hn hR (by omega) (by omega) (fun b2 b3 b4 b5 hT => br_t (by rw [q1.1]) (ht_kin1 (a := 4) (b := 11) hn hT (by omega) (by omega) (br_t (by rw [q1.2.1]; rfl) (ht_kin1 (a := 0) (b := 0) hn hT (by omega) (by omega) (br_t (by rw [q1.2.2]; rfl) ?_)))))))) (fun z => absurd z (by omega))
  rw [pk_shrN (n := B) (by omega) ((4 : Int32) &&& 31) 4 (by decide)]
  refine ht_hav (a := 4) (w := 8) (q := B / 2 ^ 4) (mk := 255) (pp := fun _ => true) hB hn hR hT (by omega) (by omega) (by decide) (fun r hr => ?_) (br_t ?_ (ht_hav (a := 1) (w := 3) (q := 1) (mk := 7) (pp := fun r => decide (r = 1)) hB hn hR hT (by omega) (by omega) (by decide) (fun r hr => ?_) (pk_le n 1 (fun z => absurd z (by omega)) (fun _ => ht_165 hp hn h2 hB hR hT ?_))))
  · rw [ht_sh (ht_rw_lt hB hr) (by omega) 8 (by decide), pk_andN (m := 255) (by omega) 8 (by decide)]
    exact ⟨fun _ => rfl, fun _ => congrArg nI (by unfold ht_rw; omega)⟩
  · rw [show (4 + 8 : Nat) = 12 from rfl, q2.1]
  · rw [ht_sh (ht_rw_lt hB hr) (by omega) 3 (by decide), pk_andN (m := 7) (by omega) 3 (by decide), nI_eq (by omega) (by omega), decide_eq_true_iff]
    unfold ht_rw
    omega
  · rw [show (1 + 3 : Nat) = 4 from rfl, q2.2]; rfl
theorem ht_31 {post : Int32 → St0 → Prop} {mc ms kc ks B n : Nat} {a1 a2 a3 a4 a5 : Nat → Int32} (hp : post 1 ()) (hn : n < 9) (h2 : 2 ≤ n) (hB : B < 4096) : ∃ fu, wL_lawOf_31 post mc ms (nI n) (nI B) kc ks fu 1 0 0 0 a1 a2 a3 a4 a5 := by
  refine pk_loop (σ := Nat × (Nat → Int32)) (fun k i s => wL_lawOf_31 post mc ms (nI n) (nI B) kc ks k 1 (nI i) (nI s.1) 0 s.2 a2 a3 a4 a5)
    (fun i s => s.1 = min i n ∧ ht_R B s.1 s.2) 8 0 (0, a1) (by omega) ⟨(Nat.zero_min n).symm, fun r hr => absurd hr (by omega)⟩ ?_ ?_
  · intro k s h
    obtain ⟨m, a⟩ := s
    obtain ⟨q1, q2⟩ := h
    have e : m = min 8 n := q1
    have e' : m = n := by omega
    subst e'
    exact ht_31e hp hn h2 hB q2
  · intro k i s hi h hw
    obtain ⟨m, a⟩ := s
    obtain ⟨q1, q2⟩ := h
    have e : m = min i n := q1
    refine pk_le 8 i (fun z => absurd z (by omega)) (fun _ => br_f (by decide) (pk_le n i (fun z => nm_r (nI_1 i) (hw (m, a) ⟨?_, q2⟩)) (fun z => ?_)))
    · show m = min (i + 1) n
      omega
    · have e' : m = i := by omega
      subst e'
      rw [ht_rwA hB hi]
      have l := ht_rw_lt hB hi
      refine ht_add hi (by omega) (br_t rfl (nm_r (nI_1 m) (hw (m + 1, upd a m (nI (ht_rw B m))) ⟨?_, fun r hr => ?_⟩)))
      · show m + 1 = min (m + 1) n
        omega
      · show upd a m (nI (ht_rw B m)) r = _
        have hr' : r < m + 1 := hr
        by_cases w : r = m
        · subst w; exact pk_us
        · rw [pk_un w]; exact q2 r (by show r < m; omega)
end
section
theorem ht_n : ∀ j, j < 8 → (2 : Int32) + (nI j - nI j / 7 * 7) = nI (2 + j % 7) := by decide +kernel
theorem ht_law {post : Int32 → St0 → Prop} {x y : Int32} (hp : post 1 ()) : wpL_lawOf post 6 239 () x y := by
  obtain ⟨j, hj, ej⟩ := pk_andE x (m := 7) 3 (by decide)
  obtain ⟨B, hB, eB⟩ := pk_andE y (m := 4095) 12 (by decide)
  refine And.intro (by omega) (And.intro (by omega) ⟨5, 232, by omega, by omega, ?_⟩)
  refine And.intro (by omega) (And.intro (by omega) (And.intro (by omega) (And.intro (by omega) (And.intro (by omega) (And.intro (by omega) (And.intro (by omega) (And.intro (by omega) (And.intro (by omega) (And.intro (by omega) (And.intro (by decide) ?_))))))))))
  rw [ej, eB]
  exact nm_r (ht_n j (by omega)) (nm_e (ht_31 hp (by omega) (by omega) (by omega)))
theorem ht_cell {post : Int32 → Prop} {L k : Nat} {xs : Nat → Int32} {u : St0} (hL : L ≤ 2) (hk : k < 2) (H : ∀ v, post v) : wpL_cellAt post L xs u (nI k) :=
  pk_le L k (fun _ => H 0) (fun z => ⟨pk_in k L z rfl (by omega), H _⟩)
theorem i_vc (xs : Nat → Int32) (L : Nat) (hL : L ≤ 2) : wpL_law (fun r => r = 1) L xs :=
  ht_cell (k := 0) hL (by omega) (fun x => ht_cell (k := 1) hL (by omega) (fun y => ⟨6, 239, by omega, by omega, ht_law rfl⟩))
end
