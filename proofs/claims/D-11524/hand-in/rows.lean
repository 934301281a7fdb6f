section
section
variable {d sz ps lw hg : Int32} {a1 a2 a3 a4 a5 a6 a7 : Nat → Int32}
/-- how many texts the lengths hold -/
def ei_T (a3 : Nat → Int32) (T : Nat) : Prop := ∃ F : Nat → Nat, F 0 = 0 ∧ F 6 = T ∧ (∀ k, k < 6 → a3 k ≤ 0 → F (k + 1) = F k) ∧ (∀ k, k < 6 → ¬ a3 k ≤ 0 → F (k + 1) = F k + 1)
theorem ei_tx {post : Int32 → Prop} {T : Nat} (hT : ei_T a3 T) (H : post (nI T)) : wpX_texts post (d, sz, ps, lw, hg, a1, a2, a3, a4, a5, a6, a7) := by
  obtain ⟨F, h0, h6, hn, hp⟩ := hT
  exact pk_loop (fun n i x => wX_texts_4 post d sz ps lw hg a1 a2 a3 a4 a5 a6 a7 n x (nI i)) (fun i x => x = nI (F i)) 6 0 0 (by omega) (by rw [h0]; rfl)
    (fun n x h => pk_le 6 6 (fun _ => by rw [h, h6]; exact H) (fun z => absurd z (by omega)))
    (fun n i x hi h hw => pk_le 6 i (fun z => absurd z (by omega)) (fun _ => ⟨pk_in i 6 (by omega), by
      rw [nI_clamp (show i < 2 ^ 31 by omega)]
      exact br_c (fun g => nm_r (nI_1 i) (hw x (by rw [h, hn i hi g]))) (fun g => nm_e (nm_r (nI_1 i) (hw (x + 1) (by rw [h, nI_1, hp i hi g]))))⟩))
theorem ei_sb {post : Int32 → Prop} {s : Nat} (F : Nat → Nat) (hs : s ≤ 6) (h0 : F 0 = 0) (hn : ∀ k, k < s → a3 k ≤ 0 → F (k + 1) = F k) (hp : ∀ k, k < s → ¬ a3 k ≤ 0 → F (k + 1) = F k + 1) (H : post (nI (F s))) :
    wpX_slotsBelow post (d, sz, ps, lw, hg, a1, a2, a3, a4, a5, a6, a7) (nI s) :=
  pk_loop (fun n i x => wX_slotsBelow_4 post (nI s) d sz ps lw hg a1 a2 a3 a4 a5 a6 a7 n x (nI i)) (fun i x => x = nI (F i)) s 0 0 (by omega) (by rw [h0]; rfl)
    (fun n x h => pk_le s s (fun _ => by rw [h]; exact H) (fun z => absurd z (by omega)))
    (fun n i x hi h hw => pk_le s i (fun z => absurd z (by omega)) (fun _ => ⟨pk_in i 6 (by omega), by
      rw [nI_clamp (show i < 2 ^ 31 by omega)]
      exact br_c (fun g => nm_r (nI_1 i) (hw x (by rw [h, hn i hi g]))) (fun g => nm_e (nm_r (nI_1 i) (hw (x + 1) (by rw [h, nI_1, hp i hi g]))))⟩))
theorem ei_up {post : Int32 → Prop} {l : Int32} {e : Nat} (F : Nat → Nat) (he : e ≤ 60) (h0 : F 0 = 0) (hp : ∀ r, r < e → a2 r = l → F (r + 1) = F r + 1) (hn : ∀ r, r < e → ¬ a2 r = l → F (r + 1) = F r) (H : post (nI (F e))) :
    wpX_upTo post (d, sz, ps, lw, hg, a1, a2, a3, a4, a5, a6, a7) l (nI e) :=
  pk_loop (fun n i x => wX_upTo_5 post l (nI e) d sz ps lw hg a1 a2 a3 a4 a5 a6 a7 n x (nI i)) (fun i x => x = nI (F i)) e 0 0 (by omega) (by rw [h0]; rfl)
    (fun n x h => pk_le e e (fun _ => by rw [h]; exact H) (fun z => absurd z (by omega)))
    (fun n i x hi h hw => pk_le e i (fun z => absurd z (by omega)) (fun _ => ⟨pk_in i 60 (by omega), by
      rw [nI_clamp (show i < 2 ^ 31 by omega)]
      exact br_c (fun g => nm_e (nm_r (nI_1 i) (hw (x + 1) (by rw [h, nI_1, hp i hi g])))) (fun g => nm_r (nI_1 i) (hw x (by rw [h, hn i hi g])))⟩))
theorem ei_ls {post : Int32 → Prop} {l : Int32} {N : Nat} (T : Nat) (F : Nat → Nat) (hT : ei_T a3 T) (hN : N ≤ 60) (h0 : F 0 = T) (hn : ∀ r, r < N → l ≤ a2 r → F (r + 1) = F r) (hp : ∀ r, r < N → ¬ l ≤ a2 r → F (r + 1) = F r + 1) (H : post (nI (F N))) :
    wpX_lesser post (d, nI N, ps, lw, hg, a1, a2, a3, a4, a5, a6, a7) l := by
  unfold wpX_lesser
  refine ei_tx hT ?_
  exact pk_loop (fun n i x => wX_lesser_7 post l d (nI N) ps lw hg a1 a2 a3 a4 a5 a6 a7 n x (nI i)) (fun i x => x = nI (F i)) N 0 (nI T) (by omega) (by rw [h0])
    (fun n x h => pk_le N N (fun _ => by rw [h]; exact H) (fun z => absurd z (by omega)))
    (fun n i x hi h hw => pk_le N i (fun z => absurd z (by omega)) (fun _ => ⟨pk_in i 60 (by omega), by
      rw [nI_clamp (show i < 2 ^ 31 by omega)]
      exact br_c (fun g => nm_r (nI_1 i) (hw x (by rw [h, hn i hi g]))) (fun g => nm_e (nm_r (nI_1 i) (hw (x + 1) (by rw [h, nI_1, hp i hi g]))))⟩))
theorem ei_st {post : Int32 → Prop} {a N r : Nat} (T : Nat) (U : Nat → Nat) (hT : ei_T a3 T) (hN : N ≤ 60) (hr : r ≤ 60) (hl : ∀ q, q < N → nI a ≤ a2 q) (h0 : U 0 = 0) (hp : ∀ q, q < r → a2 q = nI a → U (q + 1) = U q + 1) (hn : ∀ q, q < r → ¬ a2 q = nI a → U (q + 1) = U q) (H : post (nI (T + U r))) :
    wpX_step post (d, nI N, ps, lw, hg, a1, a2, a3, a4, a5, a6, a7) (nI a) (nI r) := by
  unfold wpX_step
  refine ei_ls T (fun _ => T) hT hN rfl (fun _ _ _ => rfl) (fun q hq g => absurd (hl q hq) g) ?_
  refine ei_up U hr h0 hp hn ?_
  rw [nI_add]
  exact H
theorem ei_ins {post : St2 → Prop} {N r : Nat} {v : Int32} (hr : r ≤ N) (hN : N < 60) (H : ∀ b : Nat → Int32, (∀ q, q < r → b q = a2 q) → b r = v → (∀ q, r < q → q ≤ N → b q = a2 (q - 1)) → post (d, nI (N + 1), ps, lw, hg, a1, b, a3, a4, a5, a6, a7)) :
    wpX_insert post (d, nI N, ps, lw, hg, a1, a2, a3, a4, a5, a6, a7) (nI r) v := by
  obtain ⟨c, rfl⟩ : ∃ c, N = r + c := ⟨N - r, by omega⟩
  refine ⟨c + 1, pk_loopD (fun n i s => i ≤ c → wX_insert_5 post (nI r) v d (nI (r + c)) ps lw hg n (nI (r + i)) a1 s a3 a4 a5 a6 a7) (fun i s => (∀ q, q ≤ r + i → s q = a2 q) ∧ (∀ q, r + i < q → q ≤ r + c → s q = a2 (q - 1))) ?_ ?_ c a2 ⟨fun _ _ => rfl, fun q h1 h2 => absurd h2 (by omega)⟩ (Nat.le_refl c)⟩
  · intro n s h hc
    refine pk_le (r + 0) r (fun _ => ⟨pk_in r 60 (by omega), nm_e (nm_r (nI_1 (r + c)) ?_)⟩) (fun z => absurd z (by omega))
    rw [nI_clamp (show r < 2 ^ 31 by omega)]
    exact H _ (fun q hq => by rw [pk_un (by omega)]; exact h.1 q (by omega)) pk_us (fun q h1 h2 => by rw [pk_un (by omega)]; exact h.2 q (by omega) h2)
  · intro n i s h hw hc
    refine pk_le (r + (i + 1)) r (fun z => absurd z (by omega)) (fun _ => ⟨pk_in (r + i) 60 (by omega) (nI_pred (r + i)), pk_in (r + (i + 1)) 60 (by omega), ?_⟩)
    rw [nI_clamp (show r + (i + 1) < 2 ^ 31 by omega), show nI (r + (i + 1)) - 1 = nI (r + i) from nI_pred (r + i), nI_clamp (show r + i < 2 ^ 31 by omega)]
    refine nm_e (nm_r (pk_m1 (r + i)) (hw _ ⟨fun q hq => ?_, fun q h1 h2 => ?_⟩ (by omega)))
    · rw [pk_un (by omega)]
      exact h.1 q (by omega)
    · by_cases e : q = r + (i + 1)
      · rw [e, pk_us]
        exact h.1 _ (by omega)
      · rw [pk_un e]
        exact h.2 q (by omega) h2
theorem ei_del {post : St2 → Prop} {N r : Nat} (hr : r ≤ N) (hN : N < 60) (H : ∀ b : Nat → Int32, post (d, nI N, ps, lw, hg, a1, b, a3, a4, a5, a6, a7)) :
    wpX_delete post (d, nI (N + 1), ps, lw, hg, a1, a2, a3, a4, a5, a6, a7) (nI r) :=
  nm_r (nI_pred N) (pk_loop (fun n i s => wX_delete_12 post d (nI N) ps lw hg n (nI i) a1 s a3 a4 a5 a6 a7) (fun _ _ => True) N r a2 hr trivial
    (fun n s _ => pk_le N N (fun _ => H s) (fun z => absurd z (by omega)))
    (fun n i s hi _ hw => pk_le N i (fun z => absurd z (by omega)) (fun _ => ⟨pk_in (i + 1) 60 (by omega) (nI_1 i), pk_in i 60 (by omega), nm_e (nm_r (nI_1 i) (hw _ trivial))⟩)))
theorem ei_bs {post : Int32 → Prop} {s : Nat} (hs : s < 6) (H : post 0) : wpX_badSlot post (d, sz, ps, lw, hg, a1, a2, a3, a4, a5, a6, a7) (nI s) :=
  pk_lt s 0 (fun z => absurd z (by omega)) (fun _ => pk_lt s 6 (fun _ => H) (fun z => absurd z (by omega)))
theorem ei_dr {post : Int32 → St2 → Prop} {k l : Nat} (hk : k < 9) (hl : l < 4) (H : ∀ b : Nat → Int32, (∀ j, j < k → b j = a1 j) → b k = nI l → post (nI (k + 1)) (nI (k + 1), sz, ps, lw, hg, b, a2, a3, a4, a5, a6, a7)) :
    wpX_draft post (nI k, sz, ps, lw, hg, a1, a2, a3, a4, a5, a6, a7) (nI l) := by
  refine pk_lt l 0 (fun z => absurd z (by omega)) (fun _ => pk_lt l 4 (fun _ => pk_eq k 9 (fun z => absurd z (by omega)) (fun _ => ⟨pk_in k 9 hk, nm_e (nm_r (nI_1 k) ?_)⟩)) (fun z => absurd z (by omega)))
  rw [nI_clamp (show k < 2 ^ 31 by omega)]
  exact H _ (fun j hj => pk_un (by omega)) pk_us
theorem ei_drF {post : Int32 → St2 → Prop} {l : Nat} (hl : l < 4) (H : post (-2) (nI 9, sz, ps, lw, hg, a1, a2, a3, a4, a5, a6, a7)) :
    wpX_draft post (nI 9, sz, ps, lw, hg, a1, a2, a3, a4, a5, a6, a7) (nI l) :=
  pk_lt l 0 (fun z => absurd z (by omega)) (fun _ => pk_lt l 4 (fun _ => pk_eq 9 9 (fun _ => H) (fun z => absurd rfl z)) (fun z => absurd z (by omega)))
theorem ei_dr4 {post : Int32 → St2 → Prop} (H : post (-1) (d, sz, ps, lw, hg, a1, a2, a3, a4, a5, a6, a7)) :
    wpX_draft post (d, sz, ps, lw, hg, a1, a2, a3, a4, a5, a6, a7) 4 :=
  pk_lt 4 0 (fun z => absurd z (by omega)) (fun _ => pk_lt 4 4 (fun z => absurd z (by omega)) (fun _ => H))
end
end
section
/-- the rank of the ending of L letters of a text: the other one has m letters; o: 1 if the other's slot is lower -/
def ei_S (m o L : Nat) : Nat := L + min (m + 1) (L + o)
def ei_P (n m a s t o : Nat) : Prop := 1 ≤ n ∧ n ≤ 8 ∧ 1 ≤ m ∧ m ≤ 8 ∧ a < 4 ∧ s < 6 ∧ t < 6 ∧ ((t < s ∧ o = 1) ∨ (s < t ∧ o = 0))
/-- how many letters stand below r in the row -/
def ei_U (n m o r : Nat) : Nat := r - (if ei_S m o n < r then 1 else 0) - (if ei_S n (1 - o) m < r then 1 else 0)
/-- the rank of the first ending of k or more letters -/
def ei_W (n m k : Nat) : Nat := min k (n + 1) + min k (m + 1)
/-- the letters of the ending of rank r -/
def ei_L (n m r : Nat) : Nat := if r < 2 * (min n m + 1) then r / 2 else r - (min n m + 1)
theorem ei_Ps {n m a s t o : Nat} (h : ei_P n m a s t o) : ei_P m n a t s (1 - o) := by
  obtain ⟨h1, h2, h3, h4, h5, h6, h7, h8⟩ := h
  exact ⟨h3, h4, h1, h2, h5, h7, h6, by omega⟩
theorem ei_oo {n m a s t o : Nat} (h : ei_P n m a s t o) : 1 - (1 - o) = o := by
  obtain ⟨h1, h2, h3, h4, h5, h6, h7, h8⟩ := h
  omega
theorem ei_dj {n m a s t o L M : Nat} (h : ei_P n m a s t o) (hL : L ≤ n) (hM : M ≤ m) : ei_S m o L ≠ ei_S n (1 - o) M := by
  obtain ⟨h1, h2, h3, h4, h5, h6, h7, h8⟩ := h
  unfold ei_S
  omega
theorem ei_Slt {n m a s t o L : Nat} (h : ei_P n m a s t o) (hL : L ≤ n) : ei_S m o L < n + m + 2 := by
  obtain ⟨h1, h2, h3, h4, h5, h6, h7, h8⟩ := h
  unfold ei_S
  omega
theorem ei_Smo {m o L M : Nat} (hL : L < M) : ei_S m o L < ei_S m o M := by
  unfold ei_S
  omega
theorem ei_U0 {n m o : Nat} : ei_U n m o 0 = 0 := by
  unfold ei_U
  omega
theorem ei_Un {n m a s t o r : Nat} (h : ei_P n m a s t o) (h1 : r ≠ ei_S m o n) (h2 : r ≠ ei_S n (1 - o) m) : ei_U n m o (r + 1) = ei_U n m o r + 1 := by
  have h3 := ei_dj h (Nat.le_refl n) (Nat.le_refl m)
  unfold ei_U
  generalize ei_S m o n = A at *
  generalize ei_S n (1 - o) m = B at *
  split <;> split <;> split <;> split <;> omega
theorem ei_Ue {n m a s t o r : Nat} (h : ei_P n m a s t o) (h1 : r = ei_S m o n ∨ r = ei_S n (1 - o) m) : ei_U n m o (r + 1) = ei_U n m o r := by
  have h3 := ei_dj h (Nat.le_refl n) (Nat.le_refl m)
  unfold ei_U
  generalize ei_S m o n = A at *
  generalize ei_S n (1 - o) m = B at *
  split <;> split <;> split <;> split <;> omega
theorem ei_LF {n m a s t o L : Nat} (h : ei_P n m a s t o) (hL : L < n) : 2 + ei_U n m o (ei_S m o L) = ei_S m o (L + 1) := by
  obtain ⟨h1, h2, h3, h4, h5, h6, h7, h8⟩ := h
  unfold ei_U ei_S
  split <;> split <;> omega
theorem ei_UW {n m a s t o k : Nat} (h : ei_P n m a s t o) (hk : ei_W n m k < n + m + 2) : 2 + ei_U n m o (ei_W n m k) = ei_W n m (k + 1) := by
  obtain ⟨h1, h2, h3, h4, h5, h6, h7, h8⟩ := h
  unfold ei_W at hk
  unfold ei_U ei_S ei_W
  split <;> split <;> omega
theorem ei_UN {n m a s t o : Nat} (h : ei_P n m a s t o) : ei_U n m o (n + m + 2) = n + m := by
  obtain ⟨h1, h2, h3, h4, h5, h6, h7, h8⟩ := h
  unfold ei_U ei_S
  split <;> split <;> omega
theorem ei_Wle {n m k : Nat} : ei_W n m k ≤ n + m + 2 := by
  unfold ei_W
  omega
theorem ei_LS {n m a s t o L : Nat} (h : ei_P n m a s t o) (hL : L ≤ n) : ei_L n m (ei_S m o L) = L := by
  obtain ⟨h1, h2, h3, h4, h5, h6, h7, h8⟩ := h
  unfold ei_L ei_S
  split <;> omega
theorem ei_Lc (n m r : Nat) : ei_L n m r = ei_L m n r := by
  unfold ei_L
  rw [Nat.min_comm]
theorem ei_Lmo {n m r : Nat} : ei_L n m r ≤ ei_L n m (r + 1) := by
  unfold ei_L
  split <;> split <;> omega
/-- every rank is the rank of an ending -/
theorem ei_cov {n m a s t o r : Nat} (h : ei_P n m a s t o) (hr : r < n + m + 2) : (ei_L n m r ≤ n ∧ r = ei_S m o (ei_L n m r)) ∨ (ei_L n m r ≤ m ∧ r = ei_S n (1 - o) (ei_L n m r)) := by
  obtain ⟨h1, h2, h3, h4, h5, h6, h7, h8⟩ := h
  unfold ei_L ei_S
  split <;> omega
/-- the state holds the two texts -/
def ei_K (n m a s t o : Nat) (a2 a3 : Nat → Int32) : Prop := ei_P n m a s t o ∧ (∀ r, r < n + m + 2 → r ≠ ei_S m o n → r ≠ ei_S n (1 - o) m → a2 r = nI a) ∧ a2 (ei_S m o n) = nI (4 + s) ∧ a2 (ei_S n (1 - o) m) = nI (4 + t) ∧ a3 s = nI n ∧ a3 t = nI m ∧ (∀ k, k < 6 → k ≠ s → k ≠ t → a3 k = 0)
section
variable {d sz ps lw hg : Int32} {a1 a2 a3 a4 a5 a6 a7 : Nat → Int32} {n m a s t o : Nat}
theorem ei_Ks (k : ei_K n m a s t o a2 a3) : ei_K m n a t s (1 - o) a2 a3 := by
  obtain ⟨p, k1, k2, k3, k4, k5, k6⟩ := k
  have e := ei_oo p
  refine ⟨ei_Ps p, ?_, k3, ?_, k5, k4, fun j hj h1 h2 => k6 j hj h2 h1⟩
  · intro r hr h1 h2
    rw [e] at h2
    exact k1 r (by omega) h2 h1
  · rw [e]
    exact k2
theorem ei_KT (k : ei_K n m a s t o a2 a3) : ei_T a3 2 := by
  obtain ⟨p, k1, k2, k3, k4, k5, k6⟩ := k
  obtain ⟨h1, h2, h3, h4, h5, h6, h7, h8⟩ := p
  refine ⟨fun x => (if s < x then 1 else 0) + (if t < x then 1 else 0), ?_, ?_, ?_, ?_⟩
  · show (if s < 0 then 1 else 0) + (if t < 0 then 1 else 0) = 0
    split <;> split <;> omega
  · show (if s < 6 then 1 else 0) + (if t < 6 then 1 else 0) = 2
    rw [if_pos h6, if_pos h7]
  · intro x hx g
    show (if s < x + 1 then 1 else 0) + (if t < x + 1 then 1 else 0) = (if s < x then 1 else 0) + (if t < x then 1 else 0)
    have q1 : x ≠ s := fun e => absurd g (by rw [e, k4]; exact nI_nle (by omega) (by omega))
    have q2 : x ≠ t := fun e => absurd g (by rw [e, k5]; exact nI_nle (by omega) (by omega))
    split <;> split <;> split <;> split <;> omega
  · intro x hx g
    show (if s < x + 1 then 1 else 0) + (if t < x + 1 then 1 else 0) = (if s < x then 1 else 0) + (if t < x then 1 else 0) + 1
    have q1 : x = s ∨ x = t := by
      by_cases e1 : x = s
      · exact Or.inl e1
      · by_cases e2 : x = t
        · exact Or.inr e2
        · exact absurd (show a3 x ≤ 0 from by rw [k6 x hx e1 e2]; exact Int32.le_refl 0) g
    split <;> split <;> split <;> split <;> omega
/-- what stands at a place of the row -/
theorem ei_Kr (k : ei_K n m a s t o a2 a3) {r : Nat} (hr : r < n + m + 2) : (a2 r = nI a ∧ r ≠ ei_S m o n ∧ r ≠ ei_S n (1 - o) m) ∨ (a2 r = nI (4 + s) ∧ r = ei_S m o n) ∨ (a2 r = nI (4 + t) ∧ r = ei_S n (1 - o) m) := by
  obtain ⟨p, k1, k2, k3, k4, k5, k6⟩ := k
  by_cases e1 : r = ei_S m o n
  · exact Or.inr (Or.inl ⟨by rw [e1, k2], e1⟩)
  · by_cases e2 : r = ei_S n (1 - o) m
    · exact Or.inr (Or.inr ⟨by rw [e2, k3], e2⟩)
    · exact Or.inl ⟨k1 r hr e1 e2, e1, e2⟩
theorem ei_Kge (k : ei_K n m a s t o a2 a3) {r : Nat} (hr : r < n + m + 2) : nI a ≤ a2 r := by
  have p := k.1
  obtain ⟨h1, h2, h3, h4, h5, h6, h7, h8⟩ := p
  rcases ei_Kr k hr with e | e | e <;> rw [e.1] <;> exact nI_le (by omega) (by omega)
theorem ei_KUp (k : ei_K n m a s t o a2 a3) {r : Nat} (hr : r < n + m + 2) (g : a2 r = nI a) : ei_U n m o (r + 1) = ei_U n m o r + 1 := by
  have p := k.1
  obtain ⟨h1, h2, h3, h4, h5, h6, h7, h8⟩ := k.1
  rcases ei_Kr k hr with e | e | e
  · exact ei_Un p e.2.1 e.2.2
  · exact absurd ((nI_eq (by omega) (by omega)).mp (g.symm.trans e.1)) (by omega)
  · exact absurd ((nI_eq (by omega) (by omega)).mp (g.symm.trans e.1)) (by omega)
theorem ei_KUn (k : ei_K n m a s t o a2 a3) {r : Nat} (hr : r < n + m + 2) (g : ¬ a2 r = nI a) : ei_U n m o (r + 1) = ei_U n m o r := by
  have p := k.1
  rcases ei_Kr k hr with e | e | e
  · exact absurd e.1 g
  · exact ei_Ue p (Or.inl e.2)
  · exact ei_Ue p (Or.inr e.2)
theorem ei_KN (k : ei_K n m a s t o a2 a3) : n + m + 2 ≤ 18 := by
  obtain ⟨h1, h2, h3, h4, h5, h6, h7, h8⟩ := k.1
  omega
/-- a text's step -/
theorem ei_stS {post : Int32 → Prop} {N : Nat} (k : ei_K n m a s t o a2 a3) (hN : N = n + m + 2) {L : Nat} (hL : L < n) (H : post (nI (ei_S m o (L + 1)))) :
    wpX_step post (d, nI N, ps, lw, hg, a1, a2, a3, a4, a5, a6, a7) (nI a) (nI (ei_S m o L)) := by
  have q := ei_Slt k.1 (Nat.le_of_lt hL)
  have q2 := ei_KN k
  refine ei_st 2 (ei_U n m o) (ei_KT k) (by omega) (by omega) (fun r hr => ei_Kge k (by omega)) ei_U0 (fun r hr => ei_KUp k (by omega)) (fun r hr => ei_KUn k (by omega)) ?_
  rw [ei_LF k.1 hL]
  exact H
/-- the letter before an ending that isn't the whole text -/
theorem ei_KL (k : ei_K n m a s t o a2 a3) {L : Nat} (hL : L < n) : a2 (ei_S m o L) = nI a := by
  have h1 := ei_dj k.1 (Nat.le_of_lt hL) (Nat.le_refl m)
  have h2 : ei_S m o L < ei_S m o n := ei_Smo hL
  exact k.2.1 _ (ei_Slt k.1 (Nat.le_of_lt hL)) (by omega) h1
theorem ei_Ksb {post : Int32 → Prop} (k : ei_K n m a s t o a2 a3) (H : post (nI (ei_S m o 0))) :
    wpX_slotsBelow post (d, sz, ps, lw, hg, a1, a2, a3, a4, a5, a6, a7) (nI s) := by
  obtain ⟨p, k1, k2, k3, k4, k5, k6⟩ := k
  obtain ⟨h1, h2, h3, h4, h5, h6, h7, h8⟩ := p
  refine ei_sb (fun x => if t < x then 1 else 0) (by omega) (if_neg (by omega)) ?_ ?_ ?_
  · intro x hx g
    show (if t < x + 1 then 1 else 0) = (if t < x then 1 else 0)
    have q2 : x ≠ t := fun e => absurd g (by rw [e, k5]; exact nI_nle (by omega) (by omega))
    split <;> split <;> omega
  · intro x hx g
    show (if t < x + 1 then 1 else 0) = (if t < x then 1 else 0) + 1
    have q1 : x = t := by
      by_cases e2 : x = t
      · exact e2
      · exact absurd (show a3 x ≤ 0 from by rw [k6 x (by omega) (by omega) e2]; exact Int32.le_refl 0) g
    split <;> split <;> omega
  · show post (nI (if t < s then 1 else 0))
    have e : (if t < s then 1 else 0) = ei_S m o 0 := by
      unfold ei_S
      split <;> omega
    rw [e]
    exact H
end
end
section
theorem ei_fill {f b : Nat → Int32} {i k : Nat} {x : Int32} (hk : k = i) (h : ∀ j, j < i → b j = f j) (hx : x = f i) : ∀ j, j < i + 1 → upd b k x j = f j := by
  intro j hj
  rw [hk]
  by_cases e : j = i
  · rw [e, pk_us, hx]
  · rw [pk_un e]
    exact h j (by omega)
theorem ei_16 (s k : Nat) : (16 : Int32) * nI s + nI k = nI (16 * s + k) := by
  rw [show (16 : Int32) = nI 16 from rfl, pk_mul, nI_add]
theorem ei_sh4 {s k : Nat} (hs : s < 6) (hk : k < 16) : nI (16 * s + k) >>> ((4 : Int32) &&& 31) = nI s := by
  rw [pk_shrN (by omega) ((4 : Int32) &&& 31) 4 (by decide)]
  exact congrArg nI (by omega)
theorem ei_an15 {s k : Nat} (hs : s < 6) (hk : k < 16) : nI (16 * s + k) &&& 15 = nI k := by
  rw [pk_andN (by omega) (m := 15) 4 (by decide)]
  exact congrArg nI (by omega)
/-- the number of the pattern of i letters a -/
def ei_pp (a : Nat) : Nat → Nat
  | 0 => 1
  | j + 1 => 4 * ei_pp a j + a
theorem ei_ppb : ∀ a, a < 4 → ∀ j, j < 7 → 1 ≤ ei_pp a j ∧ ei_pp a j < 8192 := by decide
theorem ei_ppc : ∀ a, a < 4 → ∀ j, j < 6 → ei_pp a j < 2048 := by decide
section
variable {d sz ps lw hg : Int32} {a1 a2 a3 a4 a5 a6 a7 : Nat → Int32} {n m a s t o N : Nat}
theorem ei_spr {post : Int32 → St2 → Prop} {i : Nat} (v l : Nat → Nat) (hi : i ≤ 6) (hv : ∀ k, k < i → v k = 4 * v (k + 1) + l k ∧ l k < 4 ∧ 1 ≤ v (k + 1)) (he : v i = 1) (hb : ∀ k, k ≤ i → v k < 8192)
    (H : ∀ b : Nat → Int32, (∀ k, k < i → b k = nI (l k)) → post 1 (d, sz, nI i, lw, hg, a1, a2, a3, b, a5, a6, a7)) :
    wpX_spread post (d, sz, ps, lw, hg, a1, a2, a3, a4, a5, a6, a7) (nI (v 0)) := by
  have hb0 := hb 0 (Nat.zero_le i)
  have h0 : 1 ≤ v 0 := by
    rcases Nat.eq_zero_or_pos i with e | e
    · rw [e] at he
      omega
    · have := hv 0 e
      omega
  refine pk_lt (v 0) 1 (fun z => absurd z (by omega)) (fun _ => pk_lt (v 0) 8192 (fun _ => ?_) (fun z => absurd z (by omega)))
  refine pk_loop (fun q k b => wX_spread_23 post d sz lw hg q (nI (v k)) (nI k) (nI k) a1 a2 a3 b a5 a6 a7) (fun k b => ∀ j, j < k → b j = nI (l j)) i 0 a4 (by omega) (fun j hj => absurd hj (by omega)) ?_ ?_
  · intro q b h
    exact pk_le 7 i (fun z => absurd z (by omega)) (fun _ => pk_le (v i) 1 (fun _ => pk_eq (v i) 1 (fun _ => H b h) (fun z => absurd he z)) (fun z => absurd z (by omega)))
  · intro q k b hk h hw
    have e := hv k hk
    have b1 := hb k (by omega)
    refine pk_le 7 k (fun z => absurd z (by omega)) (fun _ => pk_le (v k) 1 (fun z => absurd z (by omega)) (fun _ => ⟨pk_in k 8 (by omega), ?_⟩))
    rw [nI_clamp (show k < 2 ^ 31 by omega), pk_andN (show v k < 2 ^ 32 by omega) (m := 3) 2 (by decide), pk_shrN (show v k < 2 ^ 31 by omega) ((2 : Int32) &&& 31) 2 (by decide), show v k % 2 ^ 2 = l k by omega, show v k / 2 ^ 2 = v (k + 1) by omega]
    exact nm_e (nm_r (nI_1 k) (nm_e (nm_r (nI_1 k) (hw _ (ei_fill (f := fun j => nI (l j)) rfl h rfl)))))
theorem ei_sprA {post : Int32 → St2 → Prop} {i : Nat} (ha : a < 4) (hi : i ≤ 6) (H : ∀ b : Nat → Int32, (∀ k, k < i → b k = nI a) → post 1 (d, sz, nI i, lw, hg, a1, a2, a3, b, a5, a6, a7)) :
    wpX_spread post (d, sz, ps, lw, hg, a1, a2, a3, a4, a5, a6, a7) (nI (ei_pp a i)) := by
  refine ei_spr (fun k => ei_pp a (i - k)) (fun _ => a) hi (fun k hk => ?_) ?_ (fun k hk => (ei_ppb a ha (i - k) (by omega)).2) H
  · refine ⟨?_, ha, (ei_ppb a ha (i - (k + 1)) (by omega)).1⟩
    show ei_pp a (i - k) = 4 * ei_pp a (i - (k + 1)) + a
    rw [show i - k = (i - (k + 1)) + 1 by omega]
    rfl
  · show ei_pp a (i - i) = 1
    rw [Nat.sub_self]
    rfl
theorem ei_sprO {post : Int32 → St2 → Prop} {i b : Nat} (ha : a < 4) (hb : b < 4) (hi : i ≤ 5) (H : ∀ x : Nat → Int32, x 0 = nI b → post 1 (d, sz, nI (i + 1), lw, hg, a1, a2, a3, x, a5, a6, a7)) :
    wpX_spread post (d, sz, ps, lw, hg, a1, a2, a3, a4, a5, a6, a7) (nI (4 * ei_pp a i + b)) := by
  refine ei_spr (i := i + 1) (fun k => match k with | 0 => 4 * ei_pp a i + b | k + 1 => ei_pp a (i - k)) (fun k => match k with | 0 => b | _ + 1 => a) (by omega) (fun k hk => ?_) ?_ (fun k hk => ?_) (fun x hx => H x (hx 0 (by omega)))
  · match k with
    | 0 => exact ⟨rfl, hb, (ei_ppb a ha i (by omega)).1⟩
    | k + 1 =>
      refine ⟨?_, ha, (ei_ppb a ha (i - (k + 1)) (by omega)).1⟩
      show ei_pp a (i - k) = 4 * ei_pp a (i - (k + 1)) + a
      rw [show i - k = (i - (k + 1)) + 1 by omega]
      rfl
  · show ei_pp a (i - i) = 1
    rw [Nat.sub_self]
    rfl
  · match k with
    | 0 =>
      show 4 * ei_pp a i + b < 8192
      have := ei_ppc a ha i (by omega)
      omega
    | k + 1 => exact (ei_ppb a ha (i - k) (by omega)).2
theorem ei_ext {post : St2 → Prop} {i : Nat} (k : ei_K n m a s t o a2 a3) (hN : N = n + m + 2) (hi : ei_W n m i < N) (H : post (d, nI N, ps, nI (ei_W n m (i + 1)), nI N, a1, a2, a3, a4, a5, a6, a7)) :
    wpX_extend post (d, nI N, ps, nI (ei_W n m i), nI N, a1, a2, a3, a4, a5, a6, a7) (nI a) := by
  have q2 := ei_KN k
  unfold wpX_extend
  refine ei_ls 2 (fun _ => 2) (ei_KT k) (by omega) rfl (fun _ _ _ => rfl) (fun q hq g => absurd (ei_Kge k (by omega)) g) ?_
  refine ei_up (ei_U n m o) (by omega) ei_U0 (fun r hr => ei_KUp k (by omega)) (fun r hr => ei_KUn k (by omega)) ?_
  refine ei_up (ei_U n m o) (by omega) ei_U0 (fun r hr => ei_KUp k (by omega)) (fun r hr => ei_KUn k (by omega)) ?_
  refine nm_r (e' := nI (ei_W n m (i + 1))) ?_ (nm_r (e' := nI N) ?_ H)
  · rw [nI_add, ei_UW k.1 (by omega)]
  · rw [nI_add, hN, ei_UN k.1, Nat.add_comm]
theorem ei_extO {post : St2 → Prop} {b : Nat} (k : ei_K n m a s t o a2 a3) (hN : N = n + m + 2) (hb : b < 4) (hne : b ≠ a) (H : ∀ c : Nat, c ≤ 18 → post (d, nI N, ps, nI c, nI c, a1, a2, a3, a4, a5, a6, a7)) :
    wpX_extend post (d, nI N, ps, 0, nI N, a1, a2, a3, a4, a5, a6, a7) (nI b) := by
  have q2 := ei_KN k
  obtain ⟨h1, h2, h3, h4, h5, h6, h7, h8⟩ := k.1
  have hx : ∀ q, q < N → ¬ a2 q = nI b := by
    intro q hq e
    rcases ei_Kr k (r := q) (by omega) with g | g | g
    · exact absurd ((nI_eq (by omega) (by omega)).mp (e.symm.trans g.1)) (by omega)
    · exact absurd ((nI_eq (by omega) (by omega)).mp (e.symm.trans g.1)) (by omega)
    · exact absurd ((nI_eq (by omega) (by omega)).mp (e.symm.trans g.1)) (by omega)
  have key : ∃ (c : Nat) (F : Nat → Nat), c ≤ 18 ∧ F 0 = 2 ∧ F N = c ∧ (∀ r, r < N → nI b ≤ a2 r → F (r + 1) = F r) ∧ (∀ r, r < N → ¬ nI b ≤ a2 r → F (r + 1) = F r + 1) := by
    by_cases hba : b < a
    · exact ⟨2, fun _ => 2, by omega, rfl, rfl, fun _ _ _ => rfl, fun r hr g => absurd (Int32.le_trans (nI_le (show b ≤ a by omega) (by omega)) (ei_Kge k (r := r) (by omega))) g⟩
    · refine ⟨2 + ei_U n m o N, fun r => 2 + ei_U n m o r, ?_, ?_, rfl, ?_, ?_⟩
      · rw [hN, ei_UN k.1]
        omega
      · show 2 + ei_U n m o 0 = 2
        rw [ei_U0]
      · intro r hr g
        show 2 + ei_U n m o (r + 1) = 2 + ei_U n m o r
        rw [ei_KUn k (by omega) (fun e => absurd g (by rw [e]; exact nI_ge (by omega) (by omega)))]
      · intro r hr g
        show 2 + ei_U n m o (r + 1) = 2 + ei_U n m o r + 1
        rcases ei_Kr k (r := r) (by omega) with e | e | e
        · rw [ei_KUp k (by omega) e.1]
          rfl
        · exact absurd (show nI b ≤ a2 r from by rw [e.1]; exact nI_le (by omega) (by omega)) g
        · exact absurd (show nI b ≤ a2 r from by rw [e.1]; exact nI_le (by omega) (by omega)) g
  obtain ⟨c, F, hc, f0, fN, fn, fp⟩ := key
  unfold wpX_extend
  refine ei_ls 2 F (ei_KT k) (by omega) f0 fn fp ?_
  refine ei_up (e := 0) (fun _ => 0) (by omega) rfl (fun r hr => absurd hr (by omega)) (fun _ _ _ => rfl) ?_
  refine ei_up (fun _ => 0) (by omega) rfl (fun r hr g => absurd g (hx r hr)) (fun _ _ _ => rfl) ?_
  rw [fN]
  exact nm_r (e' := nI c) (nI_add c 0) (nm_r (e' := nI c) (nI_add c 0) (H c hc))
theorem ei_nar {post : St2 → Prop} {i : Nat} (k : ei_K n m a s t o a2 a3) (hN : N = n + m + 2) (hi : i ≤ 8) (hp : ∀ j, j < i → a4 j = nI a) (H : post (d, nI N, nI i, nI (ei_W n m i), nI N, a1, a2, a3, a4, a5, a6, a7)) :
    wpX_narrow post (d, nI N, nI i, lw, hg, a1, a2, a3, a4, a5, a6, a7) := by
  have q2 := ei_KN k
  have q3 : ∀ j, ei_W n m j ≤ n + m + 2 := fun j => ei_Wle
  refine pk_loop (fun q j x => wX_narrow_15 post q (nI j) d (nI N) (nI i) x (nI N) a1 a2 a3 a4 a5 a6 a7) (fun j x => x = nI (ei_W n m j)) (min i (max n m + 1)) 0 0 (by omega) (by rw [show ei_W n m 0 = 0 by unfold ei_W; omega]; rfl) ?_ ?_
  · intro q x h
    have e1 : ei_W n m (min i (max n m + 1)) = ei_W n m i := by
      unfold ei_W
      omega
    rw [e1] at h
    subst h
    have q4 := q3 i
    refine pk_le i (min i (max n m + 1)) (fun _ => H) (fun z => pk_le N (ei_W n m i) (fun _ => H) (fun z2 => absurd z2 ?_))
    unfold ei_W
    omega
  · intro q j x hj h hw
    subst h
    have q4 := q3 j
    have z2 : ei_W n m j < N := by
      unfold ei_W
      omega
    refine pk_le i j (fun z => absurd z (by omega)) (fun _ => pk_le N (ei_W n m j) (fun z => absurd z (by omega)) (fun z => ⟨pk_in j 8 (by omega), ?_⟩))
    rw [nI_clamp (show j < 2 ^ 31 by omega), hp j (by omega)]
    refine ei_ext k hN z2 ?_
    exact nm_r (nI_1 j) (hw _ rfl)
theorem ei_narE {post : St2 → Prop} {i b : Nat} (k : ei_K n m a s t o a2 a3) (hN : N = n + m + 2) (hi0 : 1 ≤ i) (hi : i ≤ 8) (hb : b < 4) (hne : b ≠ a) (hp : a4 0 = nI b) (H : ∀ c : Nat, c ≤ 18 → post (d, nI N, nI i, nI c, nI c, a1, a2, a3, a4, a5, a6, a7)) :
    wpX_narrow post (d, nI N, nI i, lw, hg, a1, a2, a3, a4, a5, a6, a7) := by
  have q2 := ei_KN k
  refine ⟨2, pk_le i 0 (fun z => absurd z (by omega)) (fun _ => pk_le N 0 (fun z => absurd z (by omega)) (fun _ => ⟨pk_in 0 8 (by omega), ?_⟩))⟩
  rw [sb_cl0, hp]
  refine ei_extO k hN hb hne (fun c hc => ?_)
  exact nm_e (br_c (fun _ => H c hc) (fun _ => br_t (Int32.le_refl _) (H c hc)))
end
end
section
section
variable {d sz ps lw hg : Int32} {a1 a2 a3 a4 a5 a6 a7 : Nat → Int32} {n m a s t o N : Nat}
theorem ei_cnt {post : Int32 → St2 → Prop} {i : Nat} (k : ei_K n m a s t o a2 a3) (hN : N = n + m + 2) (hi : i ≤ 6) (H : ∀ (q1 q2 q3 : Int32) (b : Nat → Int32), post (nI ((n + 1 - i) + (m + 1 - i))) (d, nI N, q1, q2, q3, a1, a2, a3, b, a5, a6, a7)) :
    wpX_count post (d, nI N, ps, lw, hg, a1, a2, a3, a4, a5, a6, a7) (nI (ei_pp a i)) := by
  have q2 := ei_KN k
  obtain ⟨h1, h2, h3, h4, h5, h6, h7, h8⟩ := k.1
  have q3 : ei_W n m i ≤ N := by
    rw [hN]
    exact ei_Wle
  have e : N - ei_W n m i = (n + 1 - i) + (m + 1 - i) := by
    unfold ei_W
    omega
  unfold wpX_count
  refine ei_sprA h5 hi (fun b hb => br_f (by decide) ?_)
  refine ei_nar k hN (by omega) hb ?_
  refine pk_le N (ei_W n m i) (fun z => ?_) (fun z => ?_)
  · have e0 : (0 : Int32) = nI ((n + 1 - i) + (m + 1 - i)) := by
      rw [← e, show N - ei_W n m i = 0 by omega]
      rfl
    rw [e0]
    exact H _ _ _ _
  · rw [pk_sub q3, e]
    exact H _ _ _ _
theorem ei_cntO {post : Int32 → St2 → Prop} {i b : Nat} (k : ei_K n m a s t o a2 a3) (hN : N = n + m + 2) (hi : i ≤ 5) (hb : b < 4) (hne : b ≠ a) (H : ∀ (q1 q2 q3 : Int32) (b : Nat → Int32), post 0 (d, nI N, q1, q2, q3, a1, a2, a3, b, a5, a6, a7)) :
    wpX_count post (d, nI N, ps, lw, hg, a1, a2, a3, a4, a5, a6, a7) (nI (4 * ei_pp a i + b)) := by
  obtain ⟨h1, h2, h3, h4, h5, h6, h7, h8⟩ := k.1
  unfold wpX_count
  refine ei_sprO h5 hb hi (fun x hx => br_f (by decide) ?_)
  refine ei_narE k hN (by omega) (by omega) hb hne hx (fun c hc => ?_)
  exact br_t (Int32.le_refl _) (H _ _ _ _)
theorem ei_plc {post : Int32 → St2 → Prop} {i b : Nat} (k : ei_K n m a s t o a2 a3) (hN : N = n + m + 2) (hi : i ≤ 5) (hb : b < 4) (hne : b ≠ a) (H : ∀ (q1 q2 q3 : Int32) (b : Nat → Int32), post (-4) (d, nI N, q1, q2, q3, a1, a2, a3, b, a5, a6, a7)) :
    wpX_place post (d, nI N, ps, lw, hg, a1, a2, a3, a4, a5, a6, a7) (nI (4 * ei_pp a i + b)) 0 := by
  obtain ⟨h1, h2, h3, h4, h5, h6, h7, h8⟩ := k.1
  unfold wpX_place
  refine ei_sprO h5 hb hi (fun x hx => br_f (by decide) ?_)
  refine ei_narE k hN (by omega) (by omega) hb hne hx (fun c hc => ?_)
  refine br_f (by decide) (br_f ?_ (H _ _ _ _))
  rw [pk_sub (Nat.le_refl c), Nat.sub_self]
  decide
/-- the set that holds a letter, or nothing -/
def ei_b1 (c : Prop) [Decidable c] (a : Nat) : Int32 := if c then (1 : Int32) <<< (nI a &&& 31) else 0
theorem ei_b1t {c : Prop} [Decidable c] (h : c) : ei_b1 c a = (1 : Int32) <<< (nI a &&& 31) := if_pos h
theorem ei_b1f {c : Prop} [Decidable c] (h : ¬ c) : ei_b1 c a = 0 := if_neg h
theorem ei_b1o {c : Prop} [Decidable c] : ei_b1 c a ||| (1 : Int32) <<< (nI a &&& 31) = (1 : Int32) <<< (nI a &&& 31) := by
  unfold ei_b1
  split
  · exact Int32.or_self
  · exact Int32.zero_or
theorem ei_b1e {c c' : Prop} [Decidable c] [Decidable c'] (h : c ↔ c') : ei_b1 c a = ei_b1 c' a := by
  by_cases z : c
  · rw [ei_b1t z, ei_b1t (h.mp z)]
  · rw [ei_b1f z, ei_b1f (fun q => z (h.mpr q))]
theorem ei_af60 {post : Int32 → St2 → Prop} {i : Nat} (k : ei_K n m a s t o a2 a3) (hN : N = n + m + 2) (hi : i ≤ 5) (hx : ∀ j, 1 ≤ j → j ≤ i → a4 j = nI a) (H : ∀ (q1 q2 q3 : Int32) (b : Nat → Int32), post (ei_b1 (i < max n m) a) (d, nI N, q1, q2, q3, a1, a2, a3, b, a5, a6, a7)) :
    ∃ q, wX_after_60 post q 0 0 d (nI N) (nI (i + 1)) lw hg a1 a2 a3 a4 a5 a6 a7 := by
  obtain ⟨h1, h2, h3, h4, h5, h6, h7, h8⟩ := k.1
  have q2 := ei_KN k
  refine pk_loop (fun q l (z : Int32 × Int32 × Int32 × (Nat → Int32)) => wX_after_60 post q z.1 (nI l) d (nI N) (nI (i + 1)) z.2.1 z.2.2.1 a1 a2 a3 z.2.2.2 a5 a6 a7) (fun l z => z.1 = ei_b1 (a < l ∧ i < max n m) a ∧ ∀ j, 1 ≤ j → j ≤ i → z.2.2.2 j = nI a) 4 0 (0, lw, hg, a4) (by omega) ⟨(ei_b1f (by omega)).symm, hx⟩ ?_ ?_
  · intro q z h
    obtain ⟨z1, z2, z3, z4⟩ := z
    have e : z1 = ei_b1 (i < max n m) a := h.1.trans (ei_b1e (by omega))
    subst e
    exact pk_le 4 4 (fun _ => H _ _ _ _) (fun z => absurd z (by omega))
  · intro q l z hl h hw
    obtain ⟨z1, z2, z3, z4⟩ := z
    have e1 : z1 = ei_b1 (a < l ∧ i < max n m) a := h.1
    have e2 : ∀ j, 1 ≤ j → j ≤ i → z4 j = nI a := h.2
    have e3 : ∀ j, 1 ≤ j → j ≤ i → upd z4 0 (nI l) j = nI a := fun j g1 g2 => by
      rw [pk_un (by omega)]
      exact e2 j g1 g2
    refine pk_le 4 l (fun z => absurd z (by omega)) (fun _ => nm_e ?_)
    by_cases g : l = a
    · have q3 : ei_W n m (i + 1) ≤ N := by
        rw [hN]
        exact ei_Wle
      refine ei_nar k hN (by omega) (fun j hj => ?_) ?_
      · by_cases hj0 : j = 0
        · rw [hj0, pk_us, g]
        · exact e3 j (by omega) (by omega)
      · refine pk_le N (ei_W n m (i + 1)) (fun z => nm_r (nI_1 l) (hw (_, _, _, _) ⟨?_, e3⟩)) (fun z => nm_e (nm_r (nI_1 l) (hw (_, _, _, _) ⟨?_, e3⟩)))
        · have g2 : ¬ i < max n m := by
            unfold ei_W at z
            omega
          show z1 = _
          rw [e1]
          exact ei_b1e (by omega)
        · have g2 : i < max n m := by
            unfold ei_W at z
            omega
          show z1 ||| (1 : Int32) <<< (nI l &&& 31) = _
          rw [e1, g, ei_b1o, ei_b1t (by omega)]
    · refine ei_narE k hN (by omega) (by omega) hl g pk_us (fun c hc => ?_)
      refine br_t (Int32.le_refl _) (nm_r (nI_1 l) (hw (_, _, _, _) ⟨?_, e3⟩))
      show z1 = _
      rw [e1]
      exact ei_b1e (by omega)
theorem ei_aft {post : Int32 → St2 → Prop} {i : Nat} (k : ei_K n m a s t o a2 a3) (hN : N = n + m + 2) (hi : i ≤ 5) (H : ∀ (q1 q2 q3 : Int32) (b : Nat → Int32), post (ei_b1 (i < max n m) a) (d, nI N, q1, q2, q3, a1, a2, a3, b, a5, a6, a7)) :
    wpX_after post (d, nI N, ps, lw, hg, a1, a2, a3, a4, a5, a6, a7) (nI (ei_pp a i)) := by
  obtain ⟨h1, h2, h3, h4, h5, h6, h7, h8⟩ := k.1
  unfold wpX_after
  refine ei_sprA h5 (by omega) (fun b hb => br_f (by decide) ?_)
  refine ⟨i + 1, pk_loopD (fun q c x => c ≤ i → wX_after_20 post (nI i) d (nI N) (nI i) lw hg q (nI c) a1 a2 a3 x a5 a6 a7) (fun c x => (∀ j, j < i → x j = nI a) ∧ (c < i → x i = nI a)) ?_ ?_ i b ⟨hb, fun z => absurd z (by omega)⟩ (Nat.le_refl i)⟩
  · intro q x h _
    refine pk_le 0 0 (fun _ => nm_r (nI_1 i) (ei_af60 k hN hi (fun j g1 g2 => ?_) H)) (fun z => absurd z (by omega))
    by_cases e : j = i
    · rw [e]
      exact h.2 (by omega)
    · exact h.1 j (by omega)
  · intro q c x h hw hc
    refine pk_le (c + 1) 0 (fun z => absurd z (by omega)) (fun _ => ⟨pk_in c 8 (by omega) (nI_pred c), pk_in (c + 1) 8 (by omega), ?_⟩)
    rw [nI_pred c, nI_clamp (show c < 2 ^ 31 by omega), nI_clamp (show c + 1 < 2 ^ 31 by omega), h.1 c (by omega)]
    refine nm_e (nm_r (pk_m1 c) (hw _ ⟨fun j hj => ?_, fun hj => ?_⟩ (by omega)))
    · by_cases e : j = c + 1
      · rw [e, pk_us]
      · rw [pk_un e]
        exact h.1 j hj
    · by_cases e : i = c + 1
      · rw [e, pk_us]
      · rw [pk_un e]
        exact h.2 (by omega)
theorem ei_bef {post : Int32 → St2 → Prop} {i : Nat} (k : ei_K n m a s t o a2 a3) (hN : N = n + m + 2) (hi : i ≤ 5) (H : ∀ (q1 q2 q3 : Int32) (b : Nat → Int32), post (ei_b1 (i < max n m) a) (d, nI N, q1, q2, q3, a1, a2, a3, b, a5, a6, a7)) :
    wpX_before post (d, nI N, ps, lw, hg, a1, a2, a3, a4, a5, a6, a7) (nI (ei_pp a i)) := by
  have q2 := ei_KN k
  obtain ⟨h1, h2, h3, h4, h5, h6, h7, h8⟩ := k.1
  have q3 : ei_W n m i ≤ N := by
    rw [hN]
    exact ei_Wle
  unfold wpX_before
  refine ei_sprA h5 (by omega) (fun b hb => br_f (by decide) ?_)
  refine ei_nar k hN (by omega) hb ?_
  refine pk_loop (fun q r x => wX_before_24 post d (nI N) (nI i) (nI (ei_W n m i)) (nI N) a1 a2 a3 b a5 a6 a7 q x (nI r)) (fun r x => ei_U n m o (ei_W n m i) ≤ ei_U n m o r ∧ x = ei_b1 (ei_U n m o (ei_W n m i) < ei_U n m o r) a) N (ei_W n m i) 0 q3 ⟨Nat.le_refl _, (ei_b1f (by omega)).symm⟩ ?_ ?_
  · intro q x h
    have e : x = ei_b1 (i < max n m) a := by
      refine h.2.trans (ei_b1e ?_)
      rw [hN, ei_UN k.1]
      by_cases z : ei_W n m i < n + m + 2
      · have e := ei_UW k.1 z
        have e2 : ei_W n m (i + 1) = min (i + 1) (n + 1) + min (i + 1) (m + 1) := rfl
        omega
      · have e : ei_W n m i = n + m + 2 := by omega
        have e2 : ei_W n m i = min i (n + 1) + min i (m + 1) := rfl
        rw [e, ei_UN k.1]
        omega
    subst e
    exact pk_le N N (fun _ => H _ _ _ _) (fun z => absurd z (by omega))
  · intro q r x hr h hw
    refine pk_le N r (fun z => absurd z (by omega)) (fun _ => ⟨pk_in r 60 (by omega), ?_⟩)
    rw [nI_clamp (show r < 2 ^ 31 by omega)]
    rcases ei_Kr k (r := r) (by omega) with e | e | e
    · have u := ei_KUp k (by omega) e.1
      rw [e.1]
      refine pk_le 4 a (fun z => absurd z (by omega)) (fun _ => ⟨pk_in r 60 (by omega), nm_e (nm_r (nI_1 r) (hw _ ⟨by omega, ?_⟩))⟩)
      rw [h.2, ei_b1o, ei_b1t (by omega)]
    · have u := ei_Ue k.1 (Or.inl e.2)
      rw [e.1]
      refine pk_le 4 (4 + s) (fun _ => nm_r (nI_1 r) (hw _ ⟨by omega, ?_⟩)) (fun z => absurd z (by omega))
      rw [u]
      exact h.2
    · have u := ei_Ue k.1 (Or.inr e.2)
      rw [e.1]
      refine pk_le 4 (4 + t) (fun _ => nm_r (nI_1 r) (hw _ ⟨by omega, ?_⟩)) (fun z => absurd z (by omega))
      rw [u]
      exact h.2
theorem ei_num {post : Int32 → Prop} {L : Nat} (k : ei_K n m a s t o a2 a3) (hN : N = n + m + 2) (hL : L ≤ n) (H : post (nI (16 * s + (n - L)))) :
    wpX_numberOf post (d, nI N, ps, lw, hg, a1, a2, a3, a4, a5, a6, a7) (nI (ei_S m o L)) := by
  have q2 := ei_KN k
  obtain ⟨h1, h2, h3, h4, h5, h6, h7, h8⟩ := k.1
  have q3 : ei_S m o n < n + m + 2 := ei_Slt k.1 (Nat.le_refl n)
  refine pk_loop (fun q j x => wX_numberOf_7 post d (nI N) ps lw hg a1 a2 a3 a4 a5 a6 a7 q x (nI j) (nI j)) (fun j x => x = nI (ei_S m o (L + j))) (n - L) 0 (nI (ei_S m o L)) (by omega) rfl ?_ ?_
  · intro q x h
    rw [show L + (n - L) = n by omega] at h
    subst h
    have e : (16 : Int32) * (nI (4 + s) - 4) + nI (n - L) = nI (16 * s + (n - L)) := by
      rw [show nI (4 + s) - 4 = nI s from (pk_sub (a := 4 + s) (b := 4) (by omega)).trans (congrArg nI (by omega)), ei_16]
    refine pk_le 9 (n - L) (fun z => absurd z (by omega)) (fun _ => ⟨pk_in (ei_S m o n) 60 (by omega), ?_⟩)
    rw [nI_clamp (show ei_S m o n < 2 ^ 31 by omega), k.2.2.1]
    refine pk_le 4 (4 + s) (fun _ => ⟨pk_in (ei_S m o n) 60 (by omega), ?_⟩) (fun z => absurd z (by omega))
    rw [nI_clamp (show ei_S m o n < 2 ^ 31 by omega), k.2.2.1, e]
    exact H
  · intro q j x hj h hw
    subst h
    have q4 : ei_S m o (L + j) < n + m + 2 := ei_Slt k.1 (by omega)
    refine pk_le 9 j (fun z => absurd z (by omega)) (fun _ => ⟨pk_in (ei_S m o (L + j)) 60 (by omega), ?_⟩)
    rw [nI_clamp (show ei_S m o (L + j) < 2 ^ 31 by omega), ei_KL k (by omega)]
    refine pk_le 4 a (fun z => absurd z (by omega)) (fun _ => ⟨pk_in (ei_S m o (L + j)) 60 (by omega), ?_⟩)
    refine ei_stS k hN (by omega) ?_
    exact nm_r (nI_1 j) (nm_r (nI_1 j) (hw _ rfl))
theorem ei_slt {post : Int32 → St2 → Prop} {i : Nat} (k : ei_K n m a s t o a2 a3) (hN : N = n + m + 2) (hi : i ≤ 5) (H : ∀ (q1 q2 q3 : Int32) (b : Nat → Int32), post (ei_b1 (i ≤ n) s ||| ei_b1 (i ≤ m) t) (d, nI N, q1, q2, q3, a1, a2, a3, b, a5, a6, a7)) :
    wpX_slots post (d, nI N, ps, lw, hg, a1, a2, a3, a4, a5, a6, a7) (nI (ei_pp a i)) := by
  have q2 := ei_KN k
  have p := k.1
  obtain ⟨h1, h2, h3, h4, h5, h6, h7, h8⟩ := k.1
  have q3 : ei_W n m i ≤ N := by
    rw [hN]
    exact ei_Wle
  unfold wpX_slots
  refine ei_sprA h5 (by omega) (fun b hb => br_f (by decide) ?_)
  refine ei_nar k hN (by omega) hb ?_
  refine pk_loop (fun q r x => wX_slots_24 post d (nI N) (nI i) (nI (ei_W n m i)) (nI N) a1 a2 a3 b a5 a6 a7 q x (nI r)) (fun r x => ei_W n m i ≤ r ∧ x = ei_b1 (i ≤ n ∧ ei_S m o i < r) s ||| ei_b1 (i ≤ m ∧ ei_S n (1 - o) i < r) t) N (ei_W n m i) 0 q3 ⟨Nat.le_refl _, ?_⟩ ?_ ?_
  · rw [ei_b1f, ei_b1f, Int32.or_self]
    · unfold ei_S ei_W
      omega
    · unfold ei_S ei_W
      omega
  · intro q x h
    have e : x = ei_b1 (i ≤ n) s ||| ei_b1 (i ≤ m) t := by
      rw [h.2, ei_b1e (c := i ≤ n ∧ ei_S m o i < N) (c' := i ≤ n), ei_b1e (c := i ≤ m ∧ ei_S n (1 - o) i < N) (c' := i ≤ m)]
      · unfold ei_S
        omega
      · unfold ei_S
        omega
    subst e
    exact pk_le N N (fun _ => H _ _ _ _) (fun z => absurd z (by omega))
  · intro q r x hr h hw
    refine pk_le N r (fun z => absurd z (by omega)) (fun _ => ?_)
    have hc := ei_cov p (r := r) (by omega)
    generalize ei_L n m r = L at hc
    obtain ⟨hr1, hx⟩ := h
    rcases hc with ⟨c1, c2⟩ | ⟨c1, c2⟩
    · subst c2
      refine ei_num k hN c1 ?_
      rw [ei_sh4 h6 (by omega)]
      refine nm_e (nm_r (nI_1 _) (hw _ ⟨by omega, ?_⟩))
      have g1 : i ≤ L := by
        unfold ei_W ei_S at hr1
        omega
      have g2 : ei_S m o i < ei_S m o L + 1 := by
        unfold ei_S
        omega
      rw [ei_b1t (c := i ≤ n ∧ ei_S m o i < ei_S m o L + 1) (by omega), hx, ei_b1e (c := i ≤ m ∧ ei_S n (1 - o) i < ei_S m o L + 1) (c' := i ≤ m ∧ ei_S n (1 - o) i < ei_S m o L), Int32.or_assoc, Int32.or_comm (ei_b1 _ t), ← Int32.or_assoc, ei_b1o]
      by_cases z : i ≤ m
      · have := ei_dj p c1 z
        omega
      · omega
    · subst c2
      refine ei_num (ei_Ks k) (by omega) c1 ?_
      rw [ei_sh4 h7 (by omega)]
      refine nm_e (nm_r (nI_1 _) (hw _ ⟨by omega, ?_⟩))
      have g1 : i ≤ L := by
        unfold ei_W ei_S at hr1
        omega
      have g2 : ei_S n (1 - o) i < ei_S n (1 - o) L + 1 := by
        unfold ei_S
        omega
      rw [ei_b1t (c := i ≤ m ∧ ei_S n (1 - o) i < ei_S n (1 - o) L + 1) (by omega), hx, ei_b1e (c := i ≤ n ∧ ei_S m o i < ei_S n (1 - o) L + 1) (c' := i ≤ n ∧ ei_S m o i < ei_S n (1 - o) L), Int32.or_assoc, ei_b1o]
      by_cases z : i ≤ n
      · have := ei_dj p z c1
        omega
      · omega
end
end
section
/-- what unpack has written of a text: its endings of fewer than L letters -/
def ei_D (n m a s o L : Nat) (a6 a7 : Nat → Int32) : Prop := (∀ M, M < L → a7 (ei_S m o M) = nI (16 * s + (n - M))) ∧ (∀ M, M < L → M < n → a6 (9 * s + (n - 1 - M)) = nI a)
/-- an ending, as it is found in the tables -/
def ei_E (a x p L r : Nat) (a3 a6 a7 : Nat → Int32) : Prop := x < 6 ∧ p ≤ 8 ∧ L ≤ p ∧ a3 x = nI p ∧ a7 r = nI (16 * x + (p - L)) ∧ ∀ i, i < p → a6 (9 * x + i) = nI a
section
variable {d sz ps lw hg : Int32} {a1 a2 a3 a4 a5 a6 a7 : Nat → Int32} {n m a s t o N : Nat}
theorem ei_sbX {post : Int32 → Prop} {x : Nat} (hs : x ≤ 6) (H : ∀ r, post r) : wpX_slotsBelow post (d, sz, ps, lw, hg, a1, a2, a3, a4, a5, a6, a7) (nI x) :=
  pk_loop (fun n i y => wX_slotsBelow_4 post (nI x) d sz ps lw hg a1 a2 a3 a4 a5 a6 a7 n y (nI i)) (fun _ _ => True) x 0 0 (by omega) trivial
    (fun n y _ => pk_le x x (fun _ => H y) (fun z => absurd z (by omega)))
    (fun n i y hi _ hw => pk_le x i (fun z => absurd z (by omega)) (fun _ => ⟨pk_in i 6 (by omega), br_c (fun g => nm_r (nI_1 i) (hw y trivial)) (fun g => nm_e (nm_r (nI_1 i) (hw (y + 1) trivial)))⟩))
theorem ei_unS {post : St2 → Prop} {J : Int32 → (Nat → Int32) → (Nat → Int32) → (Nat → Int32) → (Nat → Int32) → (Nat → Int32) → (Nat → Int32) → (Nat → Int32) → Prop} {c : Prop} {o' : Nat} (k : ei_K n m a s t o a2 a3) (hN : N = n + m + 2) (ho : o' = 1 - o) (ht : c → ei_D m n a t o' (m + 1) a6 a7)
    (H : ∀ b6 b7, ei_D n m a s o (n + 1) b6 b7 → (c → ei_D m n a t o' (m + 1) b6 b7) → J (nI (s + 1)) a1 a2 a3 a4 a5 b6 b7) :
    ∃ q, wX_unpack_21 post J (nI s) d (nI N) ps lw hg q (nI (ei_S m o 0)) (nI n) a1 a2 a3 a4 a5 a6 a7 := by
  have q2 := ei_KN k
  have p := k.1
  obtain ⟨h1, h2, h3, h4, h5, h6, h7, h8⟩ := k.1
  refine pk_loop (fun q L (z : Int32 × Int32 × (Nat → Int32) × (Nat → Int32)) => wX_unpack_21 post J (nI s) d (nI N) ps lw hg q z.1 z.2.1 a1 a2 a3 a4 a5 z.2.2.1 z.2.2.2)
    (fun L z => (L ≤ n → z.1 = nI (ei_S m o L) ∧ z.2.1 = nI (n - L)) ∧ (n < L → z.2.1 = -1) ∧ ei_D n m a s o L z.2.2.1 z.2.2.2 ∧ (c → ei_D m n a t o' (m + 1) z.2.2.1 z.2.2.2)) (n + 1) 0 (nI (ei_S m o 0), nI n, a6, a7) (by omega)
    ⟨fun _ => ⟨rfl, rfl⟩, fun z => absurd z (by omega), ⟨fun M hM => absurd hM (by omega), fun M hM => absurd hM (by omega)⟩, ht⟩ ?_ ?_
  · intro q z h
    obtain ⟨x2, x3, b6, b7⟩ := z
    obtain ⟨_, g2, g3, g4⟩ := h
    have e : x3 = -1 := g2 (by omega)
    subst e
    exact br_t (show (-1 : Int32) < 0 by decide) (nm_r (nI_1 s) (H _ _ g3 g4))
  · intro q L z hL h hw
    obtain ⟨x2, x3, b6, b7⟩ := z
    obtain ⟨g1, _, g3, g4⟩ := h
    have e1 : x2 = nI (ei_S m o L) := (g1 (by omega)).1
    have e2 : x3 = nI (n - L) := (g1 (by omega)).2
    subst e1
    subst e2
    have g3a : ∀ M, M < L → b7 (ei_S m o M) = nI (16 * s + (n - M)) := g3.1
    have g3b : ∀ M, M < L → M < n → b6 (9 * s + (n - 1 - M)) = nI a := g3.2
    have q4 : ei_S m o L < n + m + 2 := ei_Slt p (by omega)
    have f7 : ∀ M, M < L + 1 → upd b7 (ei_S m o L) (nI (16 * s + (n - L))) (ei_S m o M) = nI (16 * s + (n - M)) := by
      intro M hM
      by_cases e : M = L
      · rw [e, pk_us]
      · have : ei_S m o M < ei_S m o L := ei_Smo (by omega)
        rw [pk_un (by omega)]
        exact g3a M (by omega)
    have t7 : c → ∀ M, M < m + 1 → upd b7 (ei_S m o L) (nI (16 * s + (n - L))) (ei_S n o' M) = nI (16 * t + (m - M)) := by
      intro hc M hM
      have := ei_dj p (show L ≤ n by omega) (show M ≤ m by omega)
      rw [pk_un (by rw [ho]; omega)]
      exact (g4 hc).1 M hM
    refine br_f (nI_pos (by omega)) ⟨pk_in s 6 h6, ?_⟩
    rw [nI_clamp (show s < 2 ^ 31 by omega), k.2.2.2.2.1]
    refine br_f (nI_nle (by omega) (by omega)) ⟨pk_in (ei_S m o L) 60 (by omega), ?_⟩
    rw [nI_clamp (show ei_S m o L < 2 ^ 31 by omega), ei_16]
    refine nm_e (pk_le (n - L) 0 (fun z => ?_) (fun z => ?_))
    · refine nm_r (e' := -1) (show nI (n - L) + (-1) = -1 by rw [show n - L = 0 by omega]; decide) (hw (nI (ei_S m o L), -1, b6, upd b7 (ei_S m o L) (nI (16 * s + (n - L)))) ⟨fun g => absurd g (by omega), fun _ => rfl, ⟨f7, fun M hM hM2 => g3b M (by omega) hM2⟩, fun hc => ⟨t7 hc, (g4 hc).2⟩⟩)
    · have ix : nI s * 9 + nI (n - L) - 1 = nI (9 * s + (n - 1 - L)) := by
        rw [show nI s * 9 = nI (s * 9) from pk_mul s 9, nI_add]
        exact (pk_sub (a := s * 9 + (n - L)) (b := 1) (by omega)).trans (congrArg nI (by omega))
      rw [ix, nI_clamp (show 9 * s + (n - 1 - L) < 2 ^ 31 by omega), ei_KL k (by omega)]
      refine ⟨pk_in (ei_S m o L) 60 (by omega), pk_in (9 * s + (n - 1 - L)) 54 (by omega), nm_e ⟨pk_in (ei_S m o L) 60 (by omega), ?_⟩⟩
      refine ei_stS k hN (by omega) ?_
      refine nm_r (sb_m1 (by omega)) (hw (nI (ei_S m o (L + 1)), nI (n - L - 1), _, _) ⟨fun g => ⟨rfl, congrArg nI (by omega)⟩, fun g => absurd g (by omega), ⟨f7, fun M hM hM2 => ?_⟩, fun hc => ⟨t7 hc, fun M hM hM2 => ?_⟩⟩)
      · show upd b6 (9 * s + (n - 1 - L)) (nI a) (9 * s + (n - 1 - M)) = nI a
        by_cases e : M = L
        · rw [e, pk_us]
        · rw [pk_un (by omega)]
          exact g3b M (by omega) hM2
      · show upd b6 (9 * s + (n - 1 - L)) (nI a) (9 * t + (m - 1 - M)) = nI a
        rw [pk_un (by omega)]
        exact (g4 hc).2 M hM hM2
theorem ei_unp {post : St2 → Prop} (k : ei_K n m a s t o a2 a3) (hN : N = n + m + 2) (H : ∀ b6 b7, ei_D n m a s o (n + 1) b6 b7 → ei_D m n a t (1 - o) (m + 1) b6 b7 → post (d, nI N, ps, lw, hg, a1, a2, a3, a4, a5, b6, b7)) :
    wpX_unpack post (d, nI N, ps, lw, hg, a1, a2, a3, a4, a5, a6, a7) := by
  have p := k.1
  obtain ⟨h1, h2, h3, h4, h5, h6, h7, h8⟩ := k.1
  refine pk_loop (fun q x (z : (Nat → Int32) × (Nat → Int32)) => wX_unpack_2 post d (nI N) ps lw hg q (nI x) a1 a2 a3 a4 a5 z.1 z.2) (fun x z => (s < x → ei_D n m a s o (n + 1) z.1 z.2) ∧ (t < x → ei_D m n a t (1 - o) (m + 1) z.1 z.2)) 6 0 (a6, a7) (by omega) ⟨fun z => absurd z (by omega), fun z => absurd z (by omega)⟩ ?_ ?_
  · intro q z h
    exact pk_le 6 6 (fun _ => H z.1 z.2 (h.1 h6) (h.2 h7)) (fun z => absurd z (by omega))
  · intro q x z hx h hw
    refine pk_le 6 x (fun z => absurd z (by omega)) (fun _ => ?_)
    by_cases e1 : x = s
    · subst e1
      refine ei_Ksb k ⟨pk_in x 6 hx, ?_⟩
      rw [nI_clamp (show x < 2 ^ 31 by omega), k.2.2.2.2.1]
      exact nm_e (ei_unS k hN rfl (c := t < x) h.2 (fun b6 b7 g1 g2 => hw (b6, b7) ⟨fun _ => g1, fun z => g2 (by omega)⟩))
    · by_cases e2 : x = t
      · subst e2
        refine ei_Ksb (ei_Ks k) ⟨pk_in x 6 hx, ?_⟩
        rw [nI_clamp (show x < 2 ^ 31 by omega), k.2.2.2.2.2.1]
        exact nm_e (ei_unS (ei_Ks k) (by omega) (ei_oo p).symm (c := s < x) h.1 (fun b6 b7 g1 g2 => hw (b6, b7) ⟨fun z => g2 (by omega), fun _ => g1⟩))
      · refine ei_sbX (by omega) (fun r => ⟨pk_in x 6 hx, ?_⟩)
        rw [nI_clamp (show x < 2 ^ 31 by omega), k.2.2.2.2.2.2 x hx e1 e2]
        refine nm_e ⟨1, br_f (by decide) ⟨pk_in x 6 hx, ?_⟩⟩
        rw [nI_clamp (show x < 2 ^ 31 by omega), k.2.2.2.2.2.2 x hx e1 e2]
        exact br_t (Int32.le_refl 0) (nm_r (nI_1 x) (hw z ⟨fun g => h.1 (by omega), fun g => h.2 (by omega)⟩))
theorem ei_cA {post : Int32 → Prop} {r x p L y v M : Nat} (h1 : ei_E a x p L r a3 a6 a7) (h2 : ei_E a y v M (r + 1) a3 a6 a7) (hr : r + 1 < 60) (H : post (nI (min L M))) :
    wpX_commonAt post (d, sz, ps, lw, hg, a1, a2, a3, a4, a5, a6, a7) (nI r) := by
  obtain ⟨x1, x2, x3, x4, x5, x6⟩ := h1
  obtain ⟨y1, y2, y3, y4, y5, y6⟩ := h2
  have e1 : a7 (nI r).toNatClampNeg >>> ((4 : Int32) &&& 31) = nI x := by rw [nI_clamp (by omega), x5, ei_sh4 x1 (by omega)]
  have e2 : a7 (nI r + 1).toNatClampNeg >>> ((4 : Int32) &&& 31) = nI y := by rw [nI_1, nI_clamp (by omega), y5, ei_sh4 y1 (by omega)]
  have e3 : a7 (nI r).toNatClampNeg &&& 15 = nI (p - L) := by rw [nI_clamp (by omega), x5, ei_an15 x1 (by omega)]
  have e4 : a7 (nI r + 1).toNatClampNeg &&& 15 = nI (v - M) := by rw [nI_1, nI_clamp (by omega), y5, ei_an15 y1 (by omega)]
  refine ⟨pk_in r 60 (by omega), nm_r e1 ⟨pk_in (r + 1) 60 (by omega) (nI_1 r), nm_r e2 ⟨pk_in r 60 (by omega), nm_r e3 ⟨pk_in (r + 1) 60 (by omega) (nI_1 r), nm_r e4 ?_⟩⟩⟩⟩
  refine pk_loop (σ := Unit) (fun f k _ => wX_commonAt_50 post (nI x) (nI y) d sz ps lw hg a1 a2 a3 a4 a5 a6 a7 f (nI (p - L + k)) (nI (v - M + k)) (nI k) (nI k)) (fun _ _ => True) (min L M) 0 () (by omega) trivial ?_ ?_
  · intro f _ _
    refine pk_le 9 (min L M) (fun z => absurd z (by omega)) (fun _ => ⟨pk_in x 6 x1, ?_⟩)
    rw [nI_clamp (show x < 2 ^ 31 by omega), x4]
    refine pk_le p (p - L + min L M) (fun _ => H) (fun z => ⟨pk_in y 6 y1, ?_⟩)
    rw [nI_clamp (show y < 2 ^ 31 by omega), y4]
    exact pk_le v (v - M + min L M) (fun _ => H) (fun z => absurd z (by omega))
  · intro f k _ hk _ hw
    have i1 : nI x * 9 + nI (p - L + k) = nI (9 * x + (p - L + k)) := by
      rw [show nI x * 9 = nI (x * 9) from pk_mul x 9, nI_add]
      exact congrArg nI (by omega)
    have i2 : nI y * 9 + nI (v - M + k) = nI (9 * y + (v - M + k)) := by
      rw [show nI y * 9 = nI (y * 9) from pk_mul y 9, nI_add]
      exact congrArg nI (by omega)
    refine pk_le 9 k (fun z => absurd z (by omega)) (fun _ => ⟨pk_in x 6 x1, ?_⟩)
    rw [nI_clamp (show x < 2 ^ 31 by omega), x4]
    refine pk_le p (p - L + k) (fun z => absurd z (by omega)) (fun z => ⟨pk_in y 6 y1, ?_⟩)
    rw [nI_clamp (show y < 2 ^ 31 by omega), y4]
    refine pk_le v (v - M + k) (fun z => absurd z (by omega)) (fun z => pk_eq k k (fun _ => ?_) (fun z => absurd rfl z))
    rw [i1, i2, nI_clamp (show 9 * x + (p - L + k) < 2 ^ 31 by omega), nI_clamp (show 9 * y + (v - M + k) < 2 ^ 31 by omega), x6 _ (by omega), y6 _ (by omega)]
    exact ⟨pk_in (9 * x + (p - L + k)) 54 (by omega), pk_in (9 * y + (v - M + k)) 54 (by omega), br_t rfl (nm_r (nI_1 k) (nm_r (nI_1 _) (nm_r (nI_1 _) (nm_r (nI_1 k) (hw () trivial)))))⟩
theorem ei_DE {L : Nat} (k : ei_K n m a s t o a2 a3) (h : ei_D n m a s o (n + 1) a6 a7) (hL : L ≤ n) : ei_E a s n L (ei_S m o L) a3 a6 a7 := by
  obtain ⟨h1, h2, h3, h4, h5, h6, h7, h8⟩ := k.1
  refine ⟨h6, h2, hL, k.2.2.2.2.1, h.1 L (by omega), fun i hi => ?_⟩
  have := h.2 (n - 1 - i) (by omega) (by omega)
  rw [show n - 1 - (n - 1 - i) = i by omega] at this
  exact this
theorem ei_KE {r : Nat} (k : ei_K n m a s t o a2 a3) (h : ei_D n m a s o (n + 1) a6 a7) (h' : ei_D m n a t (1 - o) (m + 1) a6 a7) (hr : r < n + m + 2) : ∃ x p, ei_E a x p (ei_L n m r) r a3 a6 a7 := by
  rcases ei_cov k.1 hr with ⟨c1, c2⟩ | ⟨c1, c2⟩
  · have e := ei_DE k h c1
    rw [← c2] at e
    exact ⟨s, n, e⟩
  · have e := ei_DE (ei_Ks k) h' c1
    rw [← c2] at e
    exact ⟨t, m, e⟩
theorem ei_cAr {post : Int32 → Prop} {r : Nat} (k : ei_K n m a s t o a2 a3) (h : ei_D n m a s o (n + 1) a6 a7) (h' : ei_D m n a t (1 - o) (m + 1) a6 a7) (hr : r + 1 < n + m + 2) (H : post (nI (ei_L n m r))) :
    wpX_commonAt post (d, sz, ps, lw, hg, a1, a2, a3, a4, a5, a6, a7) (nI r) := by
  have q2 := ei_KN k
  obtain ⟨x, p, e⟩ := ei_KE k h h' (r := r) (by omega)
  obtain ⟨y, v, e'⟩ := ei_KE k h h' hr
  refine ei_cA e e' (by omega) ?_
  rw [Nat.min_eq_left ei_Lmo]
  exact H
/-- the sum of the letters of the endings below r -/
def ei_sum (n m : Nat) : Nat → Nat
  | 0 => 0
  | r + 1 => ei_sum n m r + ei_L n m r
theorem ei_sumN : ∀ n, n < 9 → ∀ m, m < 9 → ei_sum n m (n + m + 1) + max n m = n * (n + 1) / 2 + m * (m + 1) / 2 := by decide +kernel
theorem ei_dst {post : Int32 → St2 → Prop} (k : ei_K n m a s t o a2 a3) (hN : N = n + m + 2) (H : ∀ b6 b7, post (nI (max n m)) (d, nI N, ps, lw, hg, a1, a2, a3, a4, a5, b6, b7)) :
    wpX_distinct post (d, nI N, ps, lw, hg, a1, a2, a3, a4, a5, a6, a7) := by
  have q2 := ei_KN k
  have p := k.1
  obtain ⟨h1, h2, h3, h4, h5, h6, h7, h8⟩ := k.1
  have hs := ei_sumN n (by omega) m (by omega)
  unfold wpX_distinct
  refine ei_unp k hN (fun b6 b7 g1 g2 => ?_)
  have key : ∀ x, x = nI (n * (n + 1) / 2 + m * (m + 1) / 2) → ∃ q, wX_distinct_42 post d (nI N) ps lw hg a1 a2 a3 a4 a5 b6 b7 q x 0 := by
    intro x hx
    refine pk_loop (fun q r x => wX_distinct_42 post d (nI N) ps lw hg a1 a2 a3 a4 a5 b6 b7 q x (nI r)) (fun r x => x + nI (ei_sum n m r) = nI (n * (n + 1) / 2 + m * (m + 1) / 2)) (n + m + 1) 0 x (by omega) (by rw [hx]; exact Int32.add_zero _) ?_ ?_
    · intro q x h
      have e : x = nI (max n m) := by
        rw [← hs, ← nI_add, Int32.add_comm (nI (ei_sum n m (n + m + 1)))] at h
        rw [← Int32.add_sub_cancel x (nI (ei_sum n m (n + m + 1))), h, Int32.add_sub_cancel]
      subst e
      exact pk_le N (n + m + 1 + 1) (fun _ => H _ _) (fun z => absurd z (by omega)) rfl (nI_1 _)
    · intro q r x hr h hw
      refine pk_le N (r + 1) (fun z => absurd z (by omega)) (fun _ => ?_) rfl (nI_1 r)
      refine ei_cAr k g1 g2 (by omega) ?_
      refine nm_e (nm_r (nI_1 r) (hw _ ?_))
      show x - nI (ei_L n m r) + nI (ei_sum n m r + ei_L n m r) = _
      rw [← h, ← nI_add]
      grind
  refine pk_loop (fun q y x => wX_distinct_8 post d (nI N) ps lw hg a1 a2 a3 a4 a5 b6 b7 q x (nI y)) (fun y x => x = nI ((if s < y then n * (n + 1) / 2 else 0) + (if t < y then m * (m + 1) / 2 else 0))) 6 0 0 (by omega) (by rw [if_neg (by omega), if_neg (by omega)]; rfl) ?_ ?_
  · intro q x h
    rw [if_pos h6, if_pos h7] at h
    exact pk_le 6 6 (fun _ => key x h) (fun z => absurd z (by omega))
  · intro q y x hy h hw
    refine pk_le 6 y (fun z => absurd z (by omega)) (fun _ => ⟨pk_in y 6 hy, pk_in y 6 hy, by decide, ?_⟩)
    rw [nI_clamp (show y < 2 ^ 31 by omega)]
    have dv : ∀ z, z ≤ 8 → nI z * (nI z + 1) / 2 = nI (z * (z + 1) / 2) := by decide
    refine nm_e (nm_r (nI_1 y) (hw _ ?_))
    by_cases e1 : y = s
    · subst e1
      rw [k.2.2.2.2.1, dv n h2, h, nI_add]
      refine congrArg nI ?_
      rw [if_neg (show ¬ y < y by omega), if_pos (show y < y + 1 by omega)]
      split <;> split <;> omega
    · by_cases e2 : y = t
      · subst e2
        rw [k.2.2.2.2.2.1, dv m h4, h, nI_add]
        refine congrArg nI ?_
        rw [if_neg (show ¬ y < y by omega), if_pos (show y < y + 1 by omega)]
        split <;> split <;> omega
      · rw [k.2.2.2.2.2.2 y hy e1 e2, h, show (0 : Int32) * (0 + 1) / 2 = nI 0 from by decide, nI_add]
        refine congrArg nI ?_
        split <;> split <;> split <;> split <;> omega
theorem ei_rpt {post : Int32 → St2 → Prop} (k : ei_K n m a s t o a2 a3) (hN : N = n + m + 2) (H : ∀ b6 b7, post (nI (ei_L n m (n + m))) (d, nI N, ps, lw, hg, a1, a2, a3, a4, a5, b6, b7)) :
    wpX_repeated post (d, nI N, ps, lw, hg, a1, a2, a3, a4, a5, a6, a7) := by
  have q2 := ei_KN k
  have lb : ∀ r, r < 18 → ei_L n m r < 18 := fun r hr => by
    unfold ei_L
    split <;> omega
  unfold wpX_repeated
  refine ei_unp k hN (fun b6 b7 g1 g2 => ?_)
  refine pk_loop (fun q r x => wX_repeated_8 post d (nI N) ps lw hg a1 a2 a3 a4 a5 b6 b7 q x (nI r)) (fun r x => x = nI (ei_L n m (r - 1))) (n + m + 1) 0 0 (by omega) ?_ ?_ ?_
  · show (0 : Int32) = nI (ei_L n m 0)
    rw [show ei_L n m 0 = 0 from by unfold ei_L; split <;> omega]
    rfl
  · intro q x h
    rw [show n + m + 1 - 1 = n + m by omega] at h
    subst h
    exact pk_le N (n + m + 1 + 1) (fun _ => H _ _) (fun z => absurd z (by omega)) rfl (nI_1 _)
  · intro q r x hr h hw
    subst h
    refine pk_le N (r + 1) (fun z => absurd z (by omega)) (fun _ => ?_) rfl (nI_1 r)
    refine ei_cAr k g1 g2 (by omega) ?_
    have b1 := lb r (by omega)
    have b2 := lb (r - 1) (by omega)
    have mo : ei_L n m (r - 1) ≤ ei_L n m r := by
      rcases Nat.eq_zero_or_pos r with e | e
      · rw [e]
        exact Nat.le_refl _
      · have := ei_Lmo (n := n) (m := m) (r := r - 1)
        rw [show r - 1 + 1 = r by omega] at this
        exact this
    refine pk_le (ei_L n m r) (ei_L n m (r - 1)) (fun z => nm_r (nI_1 r) (hw _ ?_)) (fun z => nm_r (nI_1 r) (hw _ rfl))
    exact congrArg nI (by rw [Nat.add_sub_cancel]; omega)
theorem ei_cmn {post : Int32 → St2 → Prop} (k : ei_K n m a s t o a2 a3) (hN : N = n + m + 2) (H : ∀ b6 b7, post 0 (d, nI N, ps, lw, hg, a1, a2, a3, a4, a5, b6, b7)) :
    wpX_common post (d, nI N, ps, lw, hg, a1, a2, a3, a4, a5, a6, a7) 0 := by
  have q2 := ei_KN k
  refine pk_lt 0 0 (fun z => absurd z (by omega)) (fun _ => pk_lt 0 (N - 1) (fun _ => ?_) (fun z => absurd z (by omega)) rfl (pk_sub (a := N) (b := 1) (by omega)))
  refine ei_unp k hN (fun b6 b7 g1 g2 => ?_)
  refine ei_cAr (r := 0) k g1 g2 (by omega) ?_
  rw [show ei_L n m 0 = 0 from by unfold ei_L; split <;> omega]
  exact H _ _
theorem ei_cmF {post : Int32 → St2 → Prop} {r : Nat} (hN : N = r + 1) (hr : r < 1000) (H : post (-4) (d, nI N, ps, lw, hg, a1, a2, a3, a4, a5, a6, a7)) :
    wpX_common post (d, nI N, ps, lw, hg, a1, a2, a3, a4, a5, a6, a7) (nI r) :=
  pk_lt r 0 (fun z => absurd z (by omega)) (fun _ => pk_lt r (N - 1) (fun z => absurd z (by omega)) (fun _ => H) rfl (pk_sub (a := N) (b := 1) (by omega)))
theorem ei_rkO {post : Int32 → Prop} {j : Nat} (k : ei_K n m a s t o a2 a3) (hN : N = n + m + 2) (hj : j ≤ n) (H : post (nI (ei_S m o (n - j)))) :
    wpX_rankOf post (d, nI N, ps, lw, hg, a1, a2, a3, a4, a5, a6, a7) (nI s) (nI j) := by
  have q2 := ei_KN k
  obtain ⟨h1, h2, h3, h4, h5, h6, h7, h8⟩ := k.1
  unfold wpX_rankOf
  refine ei_Ksb k ⟨pk_in s 6 h6, ?_⟩
  rw [nI_clamp (show s < 2 ^ 31 by omega), k.2.2.2.2.1]
  refine nm_e (pk_loop (fun q L (z : Int32 × Int32) => wX_rankOf_14 post (nI j) d (nI N) ps lw hg a1 a2 a3 a4 a5 a6 a7 q z.1 z.2) (fun L z => z.1 = nI (ei_S m o L) ∧ z.2 = nI (n - L)) (n - j) 0 (nI (ei_S m o 0), nI n) (by omega) ⟨rfl, rfl⟩ ?_ ?_)
  · intro q z h
    obtain ⟨z1, z2⟩ := z
    have e1 : z1 = nI (ei_S m o (n - j)) := h.1
    have e2 : z2 = nI j := h.2.trans (congrArg nI (by omega))
    subst e1
    subst e2
    exact pk_le j j (fun _ => H) (fun z => absurd z (by omega))
  · intro q L z hL h hw
    obtain ⟨z1, z2⟩ := z
    have e1 : z1 = nI (ei_S m o L) := h.1
    have e2 : z2 = nI (n - L) := h.2
    subst e1
    subst e2
    have q4 : ei_S m o L < n + m + 2 := ei_Slt k.1 (by omega)
    refine pk_le (n - L) j (fun z => absurd z (by omega)) (fun _ => ⟨pk_in (ei_S m o L) 60 (by omega), ?_⟩)
    rw [nI_clamp (show ei_S m o L < 2 ^ 31 by omega), ei_KL k (by omega)]
    refine ei_stS k hN (by omega) ?_
    exact nm_r (sb_m1 (by omega)) (hw (nI (ei_S m o (L + 1)), nI (n - L - 1)) ⟨rfl, congrArg nI (by omega)⟩)
theorem ei_rnk {post : Int32 → Prop} {j : Nat} (k : ei_K n m a s t o a2 a3) (hN : N = n + m + 2) (hj : j ≤ n) (H : post (nI (ei_S m o (n - j)))) :
    wpX_rank post (d, nI N, ps, lw, hg, a1, a2, a3, a4, a5, a6, a7) (nI (16 * s + j)) := by
  obtain ⟨h1, h2, h3, h4, h5, h6, h7, h8⟩ := k.1
  refine nm_r (ei_sh4 h6 (by omega)) (nm_r (ei_an15 h6 (by omega)) ?_)
  refine pk_lt (16 * s + j) 0 (fun z => absurd z (by omega)) (fun _ => pk_le 6 s (fun z => absurd z (by omega)) (fun _ => ⟨pk_in s 6 h6, ?_⟩))
  rw [nI_clamp (show s < 2 ^ 31 by omega), k.2.2.2.2.1]
  refine pk_eq n 0 (fun z => absurd z (by omega)) (fun _ => ⟨pk_in s 6 h6, pk_le j n (fun _ => ?_) (fun z => absurd z (by omega))⟩)
  exact ei_rkO k hN hj H
theorem ei_rnF {post : Int32 → Prop} {j : Nat} (k : ei_K n m a s t o a2 a3) (hj : n < j) (hj2 : j < 16) (H : post (-4)) :
    wpX_rank post (d, sz, ps, lw, hg, a1, a2, a3, a4, a5, a6, a7) (nI (16 * s + j)) := by
  obtain ⟨h1, h2, h3, h4, h5, h6, h7, h8⟩ := k.1
  refine nm_r (ei_sh4 h6 (by omega)) (nm_r (ei_an15 h6 (by omega)) ?_)
  refine pk_lt (16 * s + j) 0 (fun z => absurd z (by omega)) (fun _ => pk_le 6 s (fun z => absurd z (by omega)) (fun _ => ⟨pk_in s 6 h6, ?_⟩))
  rw [nI_clamp (show s < 2 ^ 31 by omega), k.2.2.2.2.1]
  exact pk_eq n 0 (fun z => absurd z (by omega)) (fun _ => ⟨pk_in s 6 h6, pk_le j n (fun z => absurd z (by omega)) (fun _ => H)⟩)
theorem ei_end {post : Int32 → Prop} (k : ei_K n m a s t o a2 a3) (hN : N = n + m + 2) (H : post (if s < t then nI (16 * s + n) else nI (16 * t + m))) :
    wpX_ending post (d, nI N, ps, lw, hg, a1, a2, a3, a4, a5, a6, a7) 0 := by
  have q2 := ei_KN k
  have p := k.1
  obtain ⟨h1, h2, h3, h4, h5, h6, h7, h8⟩ := k.1
  refine pk_lt 0 0 (fun z => absurd z (by omega)) (fun _ => pk_lt 0 N (fun _ => ?_) (fun z => absurd z (by omega)))
  by_cases g : s < t
  · rw [if_pos g] at H
    have e : ei_S m o 0 = 0 := by
      unfold ei_S
      omega
    have := ei_num (d := d) (ps := ps) (lw := lw) (hg := hg) (a1 := a1) (a4 := a4) (a5 := a5) (a6 := a6) (a7 := a7) (post := post) (L := 0) k hN (by omega) H
    rw [e] at this
    exact this
  · rw [if_neg g] at H
    have e : ei_S n (1 - o) 0 = 0 := by
      unfold ei_S
      omega
    have := ei_num (d := d) (ps := ps) (lw := lw) (hg := hg) (a1 := a1) (a4 := a4) (a5 := a5) (a6 := a6) (a7 := a7) (post := post) (L := 0) (N := N) (ei_Ks k) (by omega) (by omega) H
    rw [e] at this
    exact this
end
end
section
/-- b' is b with v put in at r; N: the size before -/
def ei_I (r N : Nat) (v : Int32) (b b' : Nat → Int32) : Prop := (∀ q, q < r → b' q = b q) ∧ b' r = v ∧ (∀ q, r < q → q ≤ N → b' q = b (q - 1))
section
variable {d sz ps lw hg : Int32} {a1 a2 a3 a4 a5 a6 a7 : Nat → Int32} {n m a s t o N : Nat}
theorem ei_addL {post : Int32 → St2 → Prop} (N0 T : Nat) (at_ : Nat → Nat) (R : Nat → (Nat → Int32) → Prop) (hn : n ≤ 8) (hN : N0 ≤ 20) (hd : ∀ j, j < n → a1 j = nI a) (hT : ei_T a3 T) (hb : ∀ c, c ≤ n → at_ c ≤ N0 + c) (h0 : R 0 a2)
    (hs : ∀ c b b', c < n → R c b → ei_I (at_ c) (N0 + c) (nI a) b b' → R (c + 1) b' ∧ (∀ q, q < N0 + c + 1 → nI a ≤ b' q) ∧ ∃ U : Nat → Nat, U 0 = 0 ∧ (∀ q, q < at_ c → b' q = nI a → U (q + 1) = U q + 1) ∧ (∀ q, q < at_ c → ¬ b' q = nI a → U (q + 1) = U q) ∧ T + U (at_ c) = at_ (c + 1))
    (H : ∀ b b', R n b → ei_I (at_ n) (N0 + n) (nI (4 + s)) b b' → post (nI (N0 + n + 1)) (0, nI (N0 + n + 1), ps, lw, hg, a1, b', a3, a4, a5, a6, a7)) {x4 : Int32} (hx : x4 = nI n - 1) :
    ∃ q, wX_add_55 post (nI s) q (nI (at_ 0)) x4 d (nI N0) ps lw hg a1 a2 a3 a4 a5 a6 a7 := by
  refine pk_loop (fun q c (z : Int32 × Int32 × Int32 × (Nat → Int32)) => wX_add_55 post (nI s) q z.1 z.2.1 d z.2.2.1 ps lw hg a1 z.2.2.2 a3 a4 a5 a6 a7) (fun c z => z.1 = nI (at_ c) ∧ z.2.1 = nI (n - c) - 1 ∧ z.2.2.1 = nI (N0 + c) ∧ R c z.2.2.2) n 0 (nI (at_ 0), x4, nI N0, a2) (by omega) ⟨rfl, hx, rfl, h0⟩ ?_ ?_
  · intro q z h
    obtain ⟨z1, z2, z3, z4⟩ := z
    obtain ⟨g1, g2, g3, g4⟩ := h
    have e1 : z1 = nI (at_ n) := g1
    have e2 : z2 = -1 := g2.trans (by rw [Nat.sub_self]; decide)
    have e3 : z3 = nI (N0 + n) := g3
    subst e1
    subst e2
    subst e3
    have q1 := hb n (Nat.le_refl n)
    refine br_t (show (-1 : Int32) < 0 by decide) ?_
    rw [show (4 : Int32) + nI s = nI (4 + s) from nI_add 4 s]
    exact ei_ins q1 (by omega) (fun b i1 i2 i3 => H z4 b g4 ⟨i1, i2, i3⟩)
  · intro q c z hc h hw
    obtain ⟨z1, z2, z3, z4⟩ := z
    obtain ⟨g1, g2, g3, g4⟩ := h
    have e1 : z1 = nI (at_ c) := g1
    have e2 : z2 = nI (n - c - 1) := g2.trans (pk_sub (a := n - c) (b := 1) (by omega))
    have e3 : z3 = nI (N0 + c) := g3
    subst e1
    subst e2
    subst e3
    have q1 := hb c (by omega)
    refine br_f (nI_pos (by omega)) ⟨pk_in (n - c - 1) 9 (by omega), ?_⟩
    rw [nI_clamp (show n - c - 1 < 2 ^ 31 by omega), hd _ (by omega)]
    refine ei_ins q1 (by omega) (fun b i1 i2 i3 => ⟨pk_in (n - c - 1) 9 (by omega), ?_⟩)
    rw [hd _ (by omega)]
    obtain ⟨r1, r2, U, u0, u1, u2, u3⟩ := hs c z4 b hc g4 ⟨i1, i2, i3⟩
    refine ei_st T U hT (by omega) (by omega) r2 u0 u1 u2 ?_
    rw [u3]
    refine nm_e (hw (nI (at_ (c + 1)), nI (n - c - 1) + -1, nI (N0 + c + 1), b) ⟨rfl, ?_, rfl, r1⟩)
    show nI (n - c - 1) + -1 = nI (n - (c + 1)) - 1
    rw [show n - (c + 1) = n - c - 1 by omega, Int32.sub_eq_add_neg]
theorem ei_add1 {post : Int32 → St2 → Prop} (hn0 : 1 ≤ n) (hn : n ≤ 8) (ha : a < 4) (hs : s < 6) (hd : ∀ j, j < n → a1 j = nI a) (h3 : ∀ j, j < 6 → a3 j = 0) (H : ∀ b : Nat → Int32, (∀ q, q < n → b q = nI a) → b n = nI (4 + s) → post (nI (n + 1)) (0, nI (n + 1), ps, lw, hg, a1, b, upd a3 s (nI n), a4, a5, a6, a7)) :
    wpX_add post (nI n, 0, ps, lw, hg, a1, a2, a3, a4, a5, a6, a7) (nI s) := by
  unfold wpX_add
  refine ei_bs hs (br_t rfl ⟨pk_in s 6 hs, ?_⟩)
  rw [nI_clamp (show s < 2 ^ 31 by omega), h3 s hs]
  refine br_t (Int32.le_refl 0) (br_f (nI_ne0 (by omega) (by omega)) ⟨pk_in s 6 hs, nm_e ?_⟩)
  refine ei_sb (fun _ => 0) (by omega) rfl (fun _ _ _ => rfl) (fun j hj g => absurd (show upd a3 s (nI n) j ≤ 0 by rw [pk_un (by omega), h3 j (by omega)]; exact Int32.le_refl 0) g) ?_
  refine nm_e (ei_addL 0 1 (fun c => c) (fun c b => ∀ q, q < c → b q = nI a) hn (by omega) hd ?_ (fun c hc => by show c ≤ 0 + c; omega) (fun q hq => absurd hq (by omega)) ?_ ?_ rfl)
  · refine ⟨fun x => if s < x then 1 else 0, if_neg (by omega), if_pos (by omega), ?_, ?_⟩
    · intro j hj g
      show (if s < j + 1 then 1 else 0) = (if s < j then 1 else 0)
      have e : j ≠ s := fun e => absurd g (by rw [e, pk_us]; exact nI_nle (by omega) (by omega))
      split <;> split <;> omega
    · intro j hj g
      show (if s < j + 1 then 1 else 0) = (if s < j then 1 else 0) + 1
      have e : j = s := by
        by_cases e2 : j = s
        · exact e2
        · exact absurd (show upd a3 s (nI n) j ≤ 0 by rw [pk_un e2, h3 j hj]; exact Int32.le_refl 0) g
      split <;> split <;> omega
  · intro c b b' hc hr hI
    have f : ∀ q, q < c + 1 → b' q = nI a := by
      intro q hq
      by_cases e : q = c
      · rw [e]
        exact hI.2.1
      · rw [hI.1 q (by show q < c; omega)]
        exact hr q (by omega)
    exact ⟨f, fun q hq => by rw [f q (by omega)]; exact Int32.le_refl _, fun q => q, rfl, fun _ _ _ => rfl, fun q hq g => absurd (f q (Nat.lt_succ_of_lt hq)) g, Nat.add_comm 1 c⟩
  · intro b b' hr hI
    rw [Nat.zero_add] at hI ⊢
    exact H b' (fun q hq => by rw [hI.1 q hq]; exact hr q hq) hI.2.1
theorem ei_LT (h : ei_P n m a s t o) (k4 : a3 s = nI n) (k5 : a3 t = nI m) (k6 : ∀ k, k < 6 → k ≠ s → k ≠ t → a3 k = 0) : ei_T a3 2 := by
  refine ei_KT (a2 := fun r => if r = ei_S m o n then nI (4 + s) else if r = ei_S n (1 - o) m then nI (4 + t) else nI a) (n := n) (m := m) (a := a) (s := s) (t := t) (o := o) ⟨h, fun r hr g1 g2 => ?_, if_pos rfl, ?_, k4, k5, k6⟩
  · show (if r = ei_S m o n then nI (4 + s) else if r = ei_S n (1 - o) m then nI (4 + t) else nI a) = nI a
    rw [if_neg g1, if_neg g2]
  · show (if ei_S n (1 - o) m = ei_S m o n then nI (4 + s) else if ei_S n (1 - o) m = ei_S n (1 - o) m then nI (4 + t) else nI a) = nI (4 + t)
    rw [if_neg (ei_dj h (Nat.le_refl n) (Nat.le_refl m)).symm, if_pos rfl]
theorem ei_Lsb {post : Int32 → Prop} (h : ei_P n m a s t o) (k5 : a3 t = nI m) (k6 : ∀ k, k < 6 → k ≠ s → k ≠ t → a3 k = 0) (H : post (nI (ei_S m o 0))) :
    wpX_slotsBelow post (d, sz, ps, lw, hg, a1, a2, a3, a4, a5, a6, a7) (nI s) := by
  obtain ⟨h1, h2, h3, h4, h5, h6, h7, h8⟩ := h
  refine ei_sb (fun x => if t < x then 1 else 0) (by omega) (if_neg (by omega)) ?_ ?_ ?_
  · intro x hx g
    show (if t < x + 1 then 1 else 0) = (if t < x then 1 else 0)
    have q2 : x ≠ t := fun e => absurd g (by rw [e, k5]; exact nI_nle (by omega) (by omega))
    split <;> split <;> omega
  · intro x hx g
    show (if t < x + 1 then 1 else 0) = (if t < x then 1 else 0) + 1
    have q1 : x = t := by
      by_cases e2 : x = t
      · exact e2
      · exact absurd (show a3 x ≤ 0 from by rw [k6 x (by omega) (by omega) e2]; exact Int32.le_refl 0) g
    split <;> split <;> omega
  · show post (nI (if t < s then 1 else 0))
    have e : (if t < s then 1 else 0) = ei_S m o 0 := by
      unfold ei_S
      split <;> omega
    rw [e]
    exact H
/-- where the end of the first text stands when c letters of the second are in -/
def ei_Q (n o c : Nat) : Nat := n + min c (n + o)
theorem ei_Q1 {c : Nat} (h : ei_P n m a s t o) (hc : c ≤ m) : (ei_S n (1 - o) c ≤ ei_Q n o c ∧ ei_Q n o (c + 1) = ei_Q n o c + 1) ∨ (ei_Q n o c < ei_S n (1 - o) c ∧ ei_Q n o (c + 1) = ei_Q n o c) := by
  obtain ⟨h1, h2, h3, h4, h5, h6, h7, h8⟩ := h
  unfold ei_Q ei_S
  omega
theorem ei_Q2 {c : Nat} (h : ei_P n m a s t o) (hc : c < m) : 2 + (ei_S n (1 - o) c - (if ei_Q n o (c + 1) < ei_S n (1 - o) c then 1 else 0)) = ei_S n (1 - o) (c + 1) := by
  obtain ⟨h1, h2, h3, h4, h5, h6, h7, h8⟩ := h
  unfold ei_Q ei_S
  split <;> omega
/-- the row after an insertion into one that holds the first text's end at p -/
theorem ei_Iq {r p p' M v : Nat} {b b' : Nat → Int32} (hI : ei_I r M (nI v) b b') (hr : r ≤ M) (hp : p < M) (hb : ∀ q, q < M → (q ≠ p → b q = nI a) ∧ (q = p → b q = nI (4 + s))) (hq : (r ≤ p ∧ p' = p + 1) ∨ (p < r ∧ p' = p)) :
    ∀ q, q < M + 1 → (q ≠ p' → q ≠ r → b' q = nI a) ∧ (q = p' → b' q = nI (4 + s)) := by
  obtain ⟨i1, i2, i3⟩ := hI
  intro q hqM
  rcases Nat.lt_trichotomy q r with g | g | g
  · have e := hb q (by omega)
    rw [i1 q g]
    exact ⟨fun z1 z2 => e.1 (by omega), fun z1 => e.2 (by omega)⟩
  · exact ⟨fun z1 z2 => absurd g z2, fun z1 => absurd z1 (by omega)⟩
  · have e := hb (q - 1) (by omega)
    rw [i3 q g (by omega)]
    exact ⟨fun z1 z2 => e.1 (by omega), fun z1 => e.2 (by omega)⟩
theorem ei_add2 {post : Int32 → St2 → Prop} (h : ei_P n m a s t o) (hd : ∀ j, j < m → a1 j = nI a) (r1 : ∀ q, q < n → a2 q = nI a) (r2 : a2 n = nI (4 + s)) (k4 : a3 s = nI n) (k6 : ∀ k, k < 6 → k ≠ s → a3 k = 0)
    (H : ∀ b2 b3 : Nat → Int32, ei_K n m a s t o b2 b3 → post (nI (n + m + 2)) (0, nI (n + m + 2), ps, lw, hg, a1, b2, b3, a4, a5, a6, a7)) :
    wpX_add post (nI m, nI (n + 1), ps, lw, hg, a1, a2, a3, a4, a5, a6, a7) (nI t) := by
  obtain ⟨h1, h2, h3, h4, h5, h6, h7, h8⟩ := id h
  have hts : t ≠ s := by omega
  have l4 : upd a3 t (nI m) s = nI n := by rw [pk_un hts.symm, k4]
  have l5 : upd a3 t (nI m) t = nI m := pk_us
  have l6 : ∀ k, k < 6 → k ≠ s → k ≠ t → upd a3 t (nI m) k = 0 := fun k g1 g2 g3 => by rw [pk_un g3, k6 k g1 g2]
  unfold wpX_add
  refine ei_bs h7 (br_t rfl ⟨pk_in t 6 h7, ?_⟩)
  rw [nI_clamp (show t < 2 ^ 31 by omega), k6 t h7 hts]
  refine br_t (Int32.le_refl 0) (br_f (nI_ne0 (by omega) (by omega)) ⟨pk_in t 6 h7, nm_e ?_⟩)
  refine ei_Lsb (ei_Ps h) l4 (fun k g1 g2 g3 => l6 k g1 g3 g2) ?_
  refine nm_e (ei_addL (n + 1) 2 (fun c => ei_S n (1 - o) c) (fun c b => ∀ q, q < n + 1 + c → (q ≠ ei_Q n o c → b q = nI a) ∧ (q = ei_Q n o c → b q = nI (4 + s))) h4 (by omega) hd (ei_LT h l4 l5 l6) (fun c hc => by show ei_S n (1 - o) c ≤ n + 1 + c; unfold ei_S; omega) ?_ ?_ ?_ rfl)
  · intro q hq
    rw [show ei_Q n o 0 = n from by unfold ei_Q; omega]
    exact ⟨fun g => r1 q (by omega), fun g => by rw [g, r2]⟩
  · intro c b b' hc hb hI
    have hQ : ei_Q n o c < n + 1 + c := by
      unfold ei_Q
      omega
    have hQ1 := ei_Q1 h (Nat.le_of_lt hc)
    have hS : ei_S n (1 - o) c ≤ n + 1 + c := by
      unfold ei_S
      omega
    have f := ei_Iq hI hS hQ hb hQ1
    have f1 : ∀ q, q < n + 1 + (c + 1) → (q ≠ ei_Q n o (c + 1) → b' q = nI a) ∧ (q = ei_Q n o (c + 1) → b' q = nI (4 + s)) := by
      intro q hq
      refine ⟨fun g => ?_, (f q hq).2⟩
      by_cases e : q = ei_S n (1 - o) c
      · rw [e]
        exact hI.2.1
      · exact (f q hq).1 g e
    refine ⟨f1, ?_, fun q => q - (if ei_Q n o (c + 1) < q then 1 else 0), ?_, ?_, ?_, ei_Q2 h hc⟩
    · intro q hq
      by_cases e : q = ei_Q n o (c + 1)
      · rw [(f1 q hq).2 e]
        exact nI_le (by omega) (by omega)
      · rw [(f1 q hq).1 e]
        exact Int32.le_refl _
    · exact Nat.zero_sub _
    · intro q hq g
      have hq2 : q < ei_S n (1 - o) c := hq
      have e : q ≠ ei_Q n o (c + 1) := fun e => absurd ((nI_eq (by omega) (by omega)).mp (((f1 q (by omega)).2 e).symm.trans g)) (by omega)
      show q + 1 - (if ei_Q n o (c + 1) < q + 1 then 1 else 0) = q - (if ei_Q n o (c + 1) < q then 1 else 0) + 1
      split <;> split <;> omega
    · intro q hq g
      have hq2 : q < ei_S n (1 - o) c := hq
      have e : q = ei_Q n o (c + 1) := by
        by_cases e : q = ei_Q n o (c + 1)
        · exact e
        · exact absurd ((f1 q (by omega)).1 e) g
      show q + 1 - (if ei_Q n o (c + 1) < q + 1 then 1 else 0) = q - (if ei_Q n o (c + 1) < q then 1 else 0)
      split <;> split <;> omega
  · intro b b' hb hI
    have hQ : ei_Q n o m < n + 1 + m := by
      unfold ei_Q
      omega
    have hS : ei_S n (1 - o) m ≤ n + 1 + m := by
      unfold ei_S
      omega
    have f := ei_Iq hI hS hQ hb (ei_Q1 h (Nat.le_refl m))
    have eA : ei_Q n o (m + 1) = ei_S m o n := rfl
    rw [eA] at f
    rw [show n + 1 + m + 1 = n + m + 2 by omega]
    have hA := ei_Slt h (Nat.le_refl n)
    exact H _ _ ⟨h, fun r hr g1 g2 => (f r (by omega)).1 g1 g2, (f _ (by omega)).2 rfl, hI.2.1, l4, l5, l6⟩
theorem ei_addN {post : Int32 → St2 → Prop} (ht : t < 6) (h3 : a3 t = 0) (H : post (-4) (0, sz, ps, lw, hg, a1, a2, a3, a4, a5, a6, a7)) :
    wpX_add post (0, sz, ps, lw, hg, a1, a2, a3, a4, a5, a6, a7) (nI t) := by
  unfold wpX_add
  refine ei_bs ht (br_t rfl ⟨pk_in t 6 ht, ?_⟩)
  rw [nI_clamp (show t < 2 ^ 31 by omega), h3]
  exact br_t (Int32.le_refl 0) (br_t rfl H)
theorem ei_addF {post : Int32 → St2 → Prop} (hs : s < 6) (hn0 : 1 ≤ n) (hn : n ≤ 8) (h3 : a3 s = nI n) (H : post (-2) (d, sz, ps, lw, hg, a1, a2, a3, a4, a5, a6, a7)) :
    wpX_add post (d, sz, ps, lw, hg, a1, a2, a3, a4, a5, a6, a7) (nI s) := by
  unfold wpX_add
  refine ei_bs hs (br_t rfl ⟨pk_in s 6 hs, ?_⟩)
  rw [nI_clamp (show s < 2 ^ 31 by omega), h3]
  exact br_f (nI_nle (by omega) (by omega)) H
end
end
section
section
variable {d sz ps lw hg : Int32} {a1 a2 a3 a4 a5 a6 a7 : Nat → Int32} {n m a s t o N : Nat}
/-- the places, when the i last ones are taken out -/
def ei_pl (n m o i : Nat) (b : Nat → Int32) : Prop := (∀ j, j + i ≤ n → b j = nI (ei_S m o j)) ∧ (∀ j, n < j + i → j ≤ n → b j = -1)
theorem ei_r95 {post : Int32 → St2 → Prop} {J : Int32 → Int32 → Int32 → Int32 → Int32 → Int32 → (Nat → Int32) → (Nat → Int32) → (Nat → Int32) → (Nat → Int32) → (Nat → Int32) → (Nat → Int32) → (Nat → Int32) → Prop} {i : Nat} (h : ei_P n m a s t o) (hi : i ≤ n) (hp : ei_pl n m o i a5)
    (H : ∀ b2 b5, ei_pl n m o (i + 1) b5 → J (nI (i + 1)) d (nI (n + m + 1 - i)) ps lw hg a1 b2 a3 a4 b5 a6 a7) :
    ∃ q, wX_remove_95 post J (nI s) (nI n) (nI i) d (nI (n + m + 1 - i + 1)) ps lw hg a1 a2 a3 a4 a5 a6 a7 q 0 0 := by
  obtain ⟨h1, h2, h3, h4, h5, h6, h7, h8⟩ := id h
  have sb : ∀ j, j ≤ n → ei_S m o j < n + m + 2 := fun j hj => ei_Slt h hj
  refine pk_loop (fun q k x => wX_remove_95 post J (nI s) (nI n) (nI i) d (nI (n + m + 1 - i + 1)) ps lw hg a1 a2 a3 a4 a5 a6 a7 q x (nI k)) (fun k x => x = nI (min (k - 1) (n - i))) (n + 1) 0 0 (by omega) (by rw [Nat.zero_sub, Nat.zero_min]; rfl) ?_ ?_
  · intro q x e
    rw [show min (n + 1 - 1) (n - i) = n - i by omega] at e
    subst e
    refine pk_lt n (n + 1) (fun _ => ⟨pk_in (n - i) 10 (by omega), ?_⟩) (fun z => absurd z (by omega))
    rw [nI_clamp (show n - i < 2 ^ 31 by omega), hp.1 (n - i) (by omega)]
    have q1 : ei_S m o (n - i) ≤ n + m + 1 - i := by
      unfold ei_S
      omega
    refine ei_del q1 (by omega) (fun b => ⟨pk_in (n - i) 10 (by omega), nm_e (nm_r (nI_1 i) (H b _ ⟨fun j hj => ?_, fun j hj hj2 => ?_⟩))⟩)
    · rw [pk_un (by omega)]
      exact hp.1 j (by omega)
    · by_cases e : j = n - i
      · rw [e, pk_us]
      · rw [pk_un e]
        exact hp.2 j (by omega) hj2
  · intro q k x hk e hw
    subst e
    have b1 := sb k (by omega)
    have b2 := sb (min (k - 1) (n - i)) (by omega)
    refine pk_lt n k (fun z => absurd z (by omega)) (fun _ => ⟨pk_in k 10 (by omega), pk_in (min (k - 1) (n - i)) 10 (by omega), ?_⟩)
    rw [nI_clamp (show k < 2 ^ 31 by omega), nI_clamp (show min (k - 1) (n - i) < 2 ^ 31 by omega), hp.1 (min (k - 1) (n - i)) (by omega)]
    by_cases g : k + i ≤ n
    · rw [hp.1 k g]
      by_cases g0 : k = 0
      · subst g0
        rw [show min (0 - 1) (n - i) = 0 by omega]
        exact br_t (Int32.le_refl _) (nm_r (nI_1 0) (hw _ (congrArg nI (by omega))))
      · have mo : ei_S m o (min (k - 1) (n - i)) < ei_S m o k := ei_Smo (by omega)
        exact br_f (nI_ge mo (by omega)) (nm_r (nI_1 k) (hw _ (congrArg nI (by omega))))
    · rw [hp.2 k (by omega) (by omega)]
      have le : (-1 : Int32) ≤ nI (ei_S m o (min (k - 1) (n - i))) := Int32.le_trans (by decide) (nI_pos' (by omega))
      exact br_t le (nm_r (nI_1 k) (hw _ (congrArg nI (by omega))))
theorem ei_rem {post : Int32 → St2 → Prop} (k : ei_K n m a s t o a2 a3) (hN : N = n + m + 2) (H : ∀ b2 b5 : Nat → Int32, post (nI (m + 1)) (d, nI (m + 1), ps, lw, hg, a1, b2, upd a3 s 0, a4, b5, a6, a7)) :
    wpX_remove post (d, nI N, ps, lw, hg, a1, a2, a3, a4, a5, a6, a7) (nI s) := by
  have q2 := ei_KN k
  have p := k.1
  obtain ⟨h1, h2, h3, h4, h5, h6, h7, h8⟩ := k.1
  unfold wpX_remove
  refine ei_bs h6 (br_t rfl ⟨pk_in s 6 h6, ?_⟩)
  rw [nI_clamp (show s < 2 ^ 31 by omega), k.2.2.2.2.1]
  refine br_f (nI_ne0 (by omega) (by omega)) ⟨pk_in s 6 h6, nm_e ?_⟩
  refine ei_Ksb k ?_
  refine pk_loop (fun q i (z : Int32 × (Nat → Int32)) => wX_remove_38 post (nI s) (nI n) d (nI N) ps lw hg q z.1 (nI i) a1 a2 a3 a4 z.2 a6 a7) (fun i z => (i ≤ n → z.1 = nI (ei_S m o i)) ∧ ∀ j, j < i → z.2 j = nI (ei_S m o j)) (n + 1) 0 (nI (ei_S m o 0), a5) (by omega) ⟨fun _ => rfl, fun j hj => absurd hj (by omega)⟩ ?_ ?_
  · intro q z h
    obtain ⟨z1, z2⟩ := z
    have g : ∀ j, j < n + 1 → z2 j = nI (ei_S m o j) := h.2
    refine pk_lt n (n + 1) (fun _ => ?_) (fun z => absurd z (by omega))
    refine pk_loop (fun q i (z : Int32 × (Nat → Int32) × (Nat → Int32)) => wX_remove_83 post (nI s) (nI n) q (nI i) d z.1 ps lw hg a1 z.2.1 a3 a4 z.2.2 a6 a7) (fun i z => z.1 = nI (n + m + 2 - i) ∧ ei_pl n m o i z.2.2) (n + 1) 0 (nI N, a2, z2) (by omega) ⟨congrArg nI (by omega), fun j hj => g j (by omega), fun j hj hj2 => absurd hj (by omega)⟩ ?_ ?_
    · intro q z h
      obtain ⟨y1, y2, y3⟩ := z
      have e : y1 = nI (m + 1) := h.1.trans (congrArg nI (by omega))
      subst e
      refine pk_lt n (n + 1) (fun _ => ⟨pk_in s 6 h6, ?_⟩) (fun z => absurd z (by omega))
      rw [nI_clamp (show s < 2 ^ 31 by omega)]
      exact nm_e (H _ _)
    · intro q i z hi h hw
      obtain ⟨y1, y2, y3⟩ := z
      have e : y1 = nI (n + m + 1 - i + 1) := h.1.trans (congrArg nI (by omega))
      subst e
      refine pk_lt n i (fun z => absurd z (by omega)) (fun _ => ?_)
      exact ei_r95 p (by omega) h.2 (fun b2 b5 g5 => hw (nI (n + m + 1 - i), b2, b5) ⟨congrArg nI (by omega), g5⟩)
  · intro q i z hi h hw
    obtain ⟨z1, z2⟩ := z
    have e1 : z1 = nI (ei_S m o i) := h.1 (by omega)
    have g : ∀ j, j < i → z2 j = nI (ei_S m o j) := h.2
    subst e1
    have b1 := ei_Slt p (L := i) (by omega)
    have f : ∀ j, j < i + 1 → upd z2 i (nI (ei_S m o i)) j = nI (ei_S m o j) := ei_fill (f := fun j => nI (ei_S m o j)) rfl g rfl
    refine pk_lt n i (fun z => absurd z (by omega)) (fun _ => ⟨pk_in i 10 (by omega), ?_⟩)
    rw [nI_clamp (show i < 2 ^ 31 by omega), nI_clamp (show ei_S m o i < 2 ^ 31 by omega)]
    refine nm_e ⟨pk_in (ei_S m o i) 60 (by omega), ?_⟩
    by_cases e : i = n
    · subst e
      rw [k.2.2.1]
      exact pk_le 4 (4 + s) (fun _ => nm_r (nI_1 i) (hw (nI (ei_S m o i), _) ⟨fun z => absurd z (by omega), f⟩)) (fun z => absurd z (by omega))
    · rw [ei_KL k (by omega)]
      refine pk_le 4 a (fun z => absurd z (by omega)) (fun _ => ⟨pk_in (ei_S m o i) 60 (by omega), ?_⟩)
      refine ei_stS k hN (by omega) ?_
      exact nm_r (nI_1 i) (hw (nI (ei_S m o (i + 1)), _) ⟨fun _ => rfl, f⟩)
theorem ei_rmN {post : Int32 → St2 → Prop} (hs : s < 6) (h3 : a3 s = 0) (H : post (-4) (d, sz, ps, lw, hg, a1, a2, a3, a4, a5, a6, a7)) :
    wpX_remove post (d, sz, ps, lw, hg, a1, a2, a3, a4, a5, a6, a7) (nI s) := by
  unfold wpX_remove
  refine ei_bs hs (br_t rfl ⟨pk_in s 6 hs, ?_⟩)
  rw [nI_clamp (show s < 2 ^ 31 by omega), h3]
  exact br_t rfl H
theorem ei_cn1 {post : Int32 → St2 → Prop} (hm : N ≤ 60) (hm0 : 1 ≤ N) (H : ∀ (q1 q2 q3 : Int32) (b : Nat → Int32), post (nI N) (d, nI N, q1, q2, q3, a1, a2, a3, b, a5, a6, a7)) :
    wpX_count post (d, nI N, ps, lw, hg, a1, a2, a3, a4, a5, a6, a7) 1 := by
  unfold wpX_count
  refine ei_spr (i := 0) (fun _ => 1) (fun _ => 0) (by omega) (fun k hk => absurd hk (by omega)) rfl (fun k hk => by show 1 < 8192; omega) (fun b hb => br_f (by decide) ?_)
  refine ⟨1, pk_le 0 0 (fun _ => ?_) (fun z => absurd z (by omega))⟩
  refine pk_le N 0 (fun z => absurd z (by omega)) (fun z => ?_)
  rw [show nI N - 0 = nI N from Int32.sub_zero _]
  exact H _ _ _ _
theorem ei_len {post : Int32 → Prop} (hs : s < 6) (H : post (a3 s)) : wpX_length post (d, sz, ps, lw, hg, a1, a2, a3, a4, a5, a6, a7) (nI s) := by
  unfold wpX_length
  refine ei_bs hs (br_t rfl ⟨pk_in s 6 hs, ?_⟩)
  rw [nI_clamp (show s < 2 ^ 31 by omega)]
  exact H
theorem ei_let {post : Int32 → Prop} (ht : t < 6) (hm : m ≤ 8) (h3 : a3 t = nI m) (H : post (-4)) : wpX_letter post (d, sz, ps, lw, hg, a1, a2, a3, a4, a5, a6, a7) (nI t) (nI m) := by
  unfold wpX_letter
  refine ei_bs ht (br_t rfl (br_f (nI_pos (by omega)) ⟨pk_in t 6 ht, ?_⟩))
  rw [nI_clamp (show t < 2 ^ 31 by omega), h3]
  exact pk_lt m m (fun z => absurd z (by omega)) (fun _ => H)
end
end
section
section
variable {d sz ps lw hg : Int32} {a1 a2 a3 a4 a5 a6 a7 : Nat → Int32} {n m a s t o N : Nat} {post : Int32 → St0 → Prop} {mc ms kc ks : Nat}
theorem ei_858 (k : ei_K n m a s t o a2 a3) (H : post 1 ()) : wL_lawOf_858 post mc ms (nI m) (nI s) (nI t) 1 kc ks d (nI (n + m + 2)) ps lw hg a1 a2 a3 a4 a5 a6 a7 := by
  obtain ⟨h1, h2, h3, h4, h5, h6, h7, h8⟩ := k.1
  have e : upd a3 s 0 t = nI m := by rw [pk_un (by omega), k.2.2.2.2.2.1]
  unfold wL_lawOf_858
  refine br_f (by decide) ?_
  refine ei_dr (k := 0) (l := 0) (by omega) (by omega) (fun b _ _ => br_t rfl ?_)
  refine ei_rem k rfl (fun b2 b5 => br_t (nI_1 m).symm ?_)
  refine ei_rmN h6 pk_us (br_t rfl ?_)
  refine ei_cn1 (N := m + 1) (by omega) (by omega) (fun q1 q2 q3 b => br_t (nI_1 m).symm ?_)
  refine ei_len h6 (br_t pk_us ?_)
  refine ei_len h7 (br_t e ?_)
  exact ei_let h7 h4 e (br_t rfl H)
theorem ei_755 (k : ei_K n m a s t o a2 a3) (H : post 1 ()) : ∃ q, wL_lawOf_755 post mc ms (nI n) (nI m) (nI a) (nI s) (nI t) kc ks q 1 0 0 (nI (n + m + 2)) ps lw hg a1 a2 a3 a4 a5 a6 a7 := by
  obtain ⟨h1, h2, h3, h4, h5, h6, h7, h8⟩ := k.1
  refine pk_loop (fun q i z => wL_lawOf_755 post mc ms (nI n) (nI m) (nI a) (nI s) (nI t) kc ks q 1 (nI i) (nI i) (nI (n + m + 2)) ps lw hg z a2 a3 a4 a5 a6 a7) (fun _ _ => True) 8 0 a1 (by omega) trivial ?_ ?_
  · intro q z _
    refine pk_le 8 8 (fun _ => br_f (by decide) ?_) (fun z => absurd z (by omega))
    refine ei_dr (k := 8) (by omega) h5 (fun b _ _ => br_t rfl ?_)
    refine ei_drF h5 (br_t rfl ?_)
    refine ei_dr4 (br_t rfl ?_)
    refine br_t ?_ (ei_858 k H)
    rw [nI_add]
    exact (nI_add (n + m) 2).symm
  · intro q i z hi _ hw
    have e : (nI a + nI i) &&& 3 = nI ((a + i) % 2 ^ 2) := by rw [nI_add, pk_andN (by omega) (m := 3) 2 (by decide)]
    refine pk_le 8 i (fun z => absurd z (by omega)) (fun _ => br_f (by decide) ?_)
    rw [e]
    exact ei_dr (by omega) (by omega) (fun b _ _ => br_t (nI_1 i).symm (nm_r (nI_1 i) (hw b trivial)))
theorem ei_696 {z0 z1 : Int32} (k : ei_K n m a s t o a2 a3) (hz : z1 = z0) (H : post 1 ()) : wL_lawOf_696 post mc ms (nI n) (nI m) (nI a) (nI s) (nI t) z0 z1 kc ks 0 (nI (n + m + 2)) ps lw hg a1 a2 a3 a4 a5 a6 a7 := by
  obtain ⟨h1, h2, h3, h4, h5, h6, h7, h8⟩ := k.1
  have e1 : nI n + nI m + 1 = nI (n + m + 1) := by rw [nI_add, nI_1]
  have e2 : (16 : Int32) * nI s + nI n + 1 = nI (16 * s + (n + 1)) := by rw [ei_16, nI_1, Nat.add_assoc]
  unfold wL_lawOf_696
  refine br_t hz ?_
  refine ei_cmn k rfl (fun b6 b7 => br_t rfl ?_)
  rw [e1, e2]
  refine ei_cmF (r := n + m + 1) rfl (by omega) (br_t rfl ?_)
  exact ei_rnF k (by omega) (by omega) (br_t rfl (ei_755 k H))
theorem ei_664 (k : ei_K n m a s t o a2 a3) (H : post 1 ()) : wL_lawOf_664 post mc ms (nI n) (nI m) (nI a) (nI s) (nI t) kc ks 0 (nI (n + m + 2)) ps lw hg a1 a2 a3 a4 a5 a6 a7 := by
  obtain ⟨h1, h2, h3, h4, h5, h6, h7, h8⟩ := k.1
  unfold wL_lawOf_664
  refine ei_end k rfl ?_
  refine pk_le t s (fun z => ei_696 k ?_ H) (fun z => ei_696 k ?_ H)
  · rw [if_neg (by omega), ei_16]
  · rw [if_pos (by omega), ei_16]
theorem ei_633 {x16 x17 z0 z1 : Int32} {j : Nat} (k : ei_K n m a s t o a2 a3) (hj : j < 8) (hx : j ≤ n → nI (ei_S m o (n - j)) = x16 + x17) (hz : z1 = z0) (H : post 1 ()) : wL_lawOf_633 post mc ms (nI n) (nI m) (nI a) (nI s) (nI t) (nI j) x16 x17 z0 z1 kc ks 0 (nI (n + m + 2)) ps lw hg a1 a2 a3 a4 a5 a6 a7 := by
  obtain ⟨h1, h2, h3, h4, h5, h6, h7, h8⟩ := k.1
  unfold wL_lawOf_633
  refine br_t hz (pk_lt n j (fun _ => ei_664 k H) (fun z => ?_))
  rw [ei_16]
  exact ei_rnk k rfl z (br_t (hx z) (ei_664 k H))
theorem ei_514 {x11 x12 : Int32} {j : Nat} (k : ei_K n m a s t o a2 a3) (hj : j < 8) (h11 : x11 = nI (max n m)) (h12 : x12 = nI (min n m)) (H : post 1 ()) : ∃ q, wL_lawOf_514 post mc ms (nI n) (nI m) (nI a) (nI s) (nI t) 1 x11 x12 (nI j) (nI n - nI j) kc ks 0 (nI (n + m + 2)) ps lw hg a1 a2 a3 a4 a5 a6 a7 q 0 0 := by
  obtain ⟨h1, h2, h3, h4, h5, h6, h7, h8⟩ := k.1
  subst h11
  subst h12
  refine pk_loop (fun q i x => wL_lawOf_514 post mc ms (nI n) (nI m) (nI a) (nI s) (nI t) 1 (nI (max n m)) (nI (min n m)) (nI j) (nI n - nI j) kc ks 0 (nI (n + m + 2)) ps lw hg a1 a2 a3 a4 a5 a6 a7 q x (nI i)) (fun i x => j ≤ n → x = nI (min i (m + 1) - (m + 1 - (n - j + o)))) 9 0 0 (by omega) (fun _ => by rw [Nat.zero_min, Nat.zero_sub]; rfl) ?_ ?_
  · intro q x h
    have hx : j ≤ n → nI (ei_S m o (n - j)) = nI n - nI j + x := by
      intro g
      rw [h g, pk_sub g, nI_add]
      refine congrArg nI ?_
      unfold ei_S
      omega
    refine pk_le 9 9 (fun _ => br_f (by decide) ?_) (fun z => absurd z (by omega))
    refine ei_dst k rfl (fun b6 b7 => br_t rfl ?_)
    refine ei_rpt k rfl (fun c6 c7 => ?_)
    have eL : ei_L n m (n + m) = if min n m = max n m then max n m else (if max n m - 1 ≤ min n m then min n m else max n m - 1) := by
      unfold ei_L
      split <;> split <;> first | omega | (split <;> omega)
    refine pk_eq (min n m) (max n m) (fun z => ei_633 k hj hx ?_ H) (fun z => pk_le (max n m - 1) (min n m) (fun z2 => ei_633 k hj hx ?_ H) (fun z2 => ei_633 k hj hx ?_ H) (pk_sub (a := max n m) (b := 1) (by omega)))
    · rw [eL, if_pos z]
    · rw [eL, if_neg z, if_pos z2]
    · rw [eL, if_neg z, if_neg (by omega)]
      exact (pk_sub (a := max n m) (b := 1) (by omega)).symm
  · intro q i x hi h hw
    refine pk_le 9 i (fun z => absurd z (by omega)) (fun _ => ?_)
    by_cases g : m < i
    · refine nm_e (br_t (pk_sneg (by omega) g) (br_t rfl (nm_r (nI_1 i) (hw x (fun gj => ?_)))))
      rw [h gj]
      exact congrArg nI (by omega)
    · refine nm_r (pk_sub (show i ≤ m by omega)) (br_f (nI_pos (by omega)) ?_)
      refine br_c (fun g1 => br_f (by decide) (nm_e (nm_r (nI_1 i) (hw _ (fun gj => ?_))))) (fun g1 => br_c (fun g2 => pk_le s t (fun z => br_t rfl (nm_r (nI_1 i) (hw x (fun gj => ?_)))) (fun z => br_f (by decide) (nm_e (nm_r (nI_1 i) (hw _ (fun gj => ?_)))))) (fun g2 => br_t rfl (nm_r (nI_1 i) (hw x (fun gj => ?_)))))
      · rw [pk_sub gj, nI_ltI (by omega) (by omega)] at g1
        rw [h gj, nI_1]
        exact congrArg nI (by omega)
      · rw [pk_sub gj, nI_ltI (by omega) (by omega)] at g1
        rw [pk_sub gj, nI_eq (by omega) (by omega)] at g2
        rw [h gj]
        exact congrArg nI (by omega)
      · rw [pk_sub gj, nI_ltI (by omega) (by omega)] at g1
        rw [pk_sub gj, nI_eq (by omega) (by omega)] at g2
        rw [h gj, nI_1]
        exact congrArg nI (by omega)
      · rw [pk_sub gj, nI_ltI (by omega) (by omega)] at g1
        rw [pk_sub gj, nI_eq (by omega) (by omega)] at g2
        rw [h gj]
        exact congrArg nI (by omega)
end
section
variable {d sz ps lw hg : Int32} {a1 a2 a3 a4 a5 a6 a7 : Nat → Int32} {n m a s t o N i : Nat} {post : Int32 → St0 → Prop} {mc ms kc ks : Nat} {x3 x11 x12 : Int32}
variable {J : Int32 → Int32 → Int32 → Int32 → Int32 → Int32 → Int32 → Int32 → (Nat → Int32) → (Nat → Int32) → (Nat → Int32) → (Nat → Int32) → (Nat → Int32) → (Nat → Int32) → (Nat → Int32) → Prop}
theorem ei_430 (k : ei_K n m a s t o a2 a3) (hi : i < 6) (H : ∀ (q1 q2 q3 : Int32) (b : Nat → Int32), J 1 (nI (ei_pp a (i + 1))) (nI (i + 1)) d (nI (n + m + 2)) q1 q2 q3 a1 a2 a3 b a5 a6 a7) :
    wL_lawOf_430 post mc ms J x3 (nI n) (nI m) (nI a) (nI s) (nI t) x11 x12 (nI (ei_pp a i)) (nI i) 1 kc ks d (nI (n + m + 2)) ps lw hg a1 a2 a3 a4 a5 a6 a7 := by
  obtain ⟨h1, h2, h3, h4, h5, h6, h7, h8⟩ := k.1
  have e : (4 : Int32) * nI (ei_pp a i) + ((nI a + 1) &&& 3) = nI (4 * ei_pp a i + (a + 1) % 2 ^ 2) := by
    rw [nI_1, pk_andN (by omega) (m := 3) 2 (by decide), show (4 : Int32) * nI (ei_pp a i) = nI (4 * ei_pp a i) from pk_mul 4 _, nI_add]
  have e2 : (4 : Int32) * nI (ei_pp a i) + nI a = nI (ei_pp a (i + 1)) := by
    rw [show (4 : Int32) * nI (ei_pp a i) = nI (4 * ei_pp a i) from pk_mul 4 _, nI_add]
    rfl
  unfold wL_lawOf_430
  refine nm_r e (br_f (by decide) ?_)
  refine ei_cntO k rfl (by omega) (by omega) (by omega) (fun q1 q2 q3 b => br_t rfl ?_)
  refine ei_plc k rfl (by omega) (by omega) (by omega) (fun q1 q2 q3 b => br_t rfl ?_)
  exact nm_r e2 (nm_r (nI_1 i) (H _ _ _ _))
theorem ei_341 {x16 z0 : Int32} (k : ei_K n m a s t o a2 a3) (hi : i < 6) (h16 : x16 = nI ((n + 1 - i) + (m + 1 - i))) (hz : z0 = ei_b1 (i < max n m) a) (H : ∀ (q1 q2 q3 : Int32) (b : Nat → Int32), J 1 (nI (ei_pp a (i + 1))) (nI (i + 1)) d (nI (n + m + 2)) q1 q2 q3 a1 a2 a3 b a5 a6 a7) :
    wL_lawOf_341 post mc ms J x3 (nI n) (nI m) (nI a) (nI s) (nI t) 1 x11 x12 (nI (ei_pp a i)) (nI i) x16 z0 kc ks d (nI (n + m + 2)) ps lw hg a1 a2 a3 a4 a5 a6 a7 := by
  obtain ⟨h1, h2, h3, h4, h5, h6, h7, h8⟩ := k.1
  unfold wL_lawOf_341
  refine br_f (by decide) ?_
  refine ei_cnt k rfl (by omega) (fun q1 q2 q3 b => br_t h16.symm ?_)
  refine ei_aft k rfl (by omega) (fun q1 q2 q3 b => br_t hz.symm ?_)
  refine ei_bef k rfl (by omega) (fun q1 q2 q3 b => br_t hz.symm ?_)
  refine ei_slt k rfl (by omega) (fun q1 q2 q3 b => ?_)
  refine pk_lt n i (fun z => pk_lt m i (fun z2 => br_t ?_ (ei_430 k hi H)) (fun z2 => br_t ?_ (ei_430 k hi H))) (fun z => pk_lt m i (fun z2 => br_t ?_ (ei_430 k hi H)) (fun z2 => br_t ?_ (ei_430 k hi H)))
  · rw [ei_b1f (c := i ≤ n) (by omega), ei_b1f (c := i ≤ m) (by omega)]
  · rw [ei_b1f (c := i ≤ n) (by omega), ei_b1t (c := i ≤ m) (by omega)]
  · rw [ei_b1t (c := i ≤ n) (by omega), ei_b1f (c := i ≤ m) (by omega)]
  · rw [ei_b1t (c := i ≤ n) (by omega), ei_b1t (c := i ≤ m) (by omega)]
theorem ei_305 {z0 : Int32} (k : ei_K n m a s t o a2 a3) (hi : i < 6) (h11 : x11 = nI (max n m)) (hz : z0 = nI (n + 1 - i)) (H : ∀ (q1 q2 q3 : Int32) (b : Nat → Int32), J 1 (nI (ei_pp a (i + 1))) (nI (i + 1)) d (nI (n + m + 2)) q1 q2 q3 a1 a2 a3 b a5 a6 a7) :
    wL_lawOf_305 post mc ms J x3 (nI n) (nI m) (nI a) (nI s) (nI t) 1 x11 x12 (nI (ei_pp a i)) (nI i) z0 kc ks d (nI (n + m + 2)) ps lw hg a1 a2 a3 a4 a5 a6 a7 := by
  obtain ⟨h1, h2, h3, h4, h5, h6, h7, h8⟩ := k.1
  have key : ∀ z1, z1 = nI (m + 1 - i) → wL_lawOf_323 post mc ms J x3 (nI n) (nI m) (nI a) (nI s) (nI t) 1 x11 x12 (nI (ei_pp a i)) (nI i) z1 z0 kc ks d (nI (n + m + 2)) ps lw hg a1 a2 a3 a4 a5 a6 a7 := by
    intro z1 hz1
    unfold wL_lawOf_323
    refine nm_e (pk_le (max n m) i (fun z => ei_341 k hi ?_ ?_ H) (fun z => ei_341 k hi ?_ ?_ H) h11)
    · rw [hz, hz1, nI_add]
    · exact (ei_b1f (by omega)).symm
    · rw [hz, hz1, nI_add]
    · exact (ei_b1t z).symm
  unfold wL_lawOf_305
  refine pk_lt m i (fun z => key _ ?_) (fun z => key _ ?_)
  · rw [show m + 1 - i = 0 by omega]
    rfl
  · rw [pk_sub z, nI_1]
    exact congrArg nI (by omega)
theorem ei_280 (k : ei_K n m a s t o a2 a3) (h11 : x11 = nI (max n m)) (h12 : x12 = nI (min n m)) (H : post 1 ()) :
    ∃ q, wL_lawOf_280 post mc ms x3 (nI n) (nI m) (nI a) (nI s) (nI t) x11 x12 kc ks q 1 1 0 0 (nI (n + m + 2)) ps lw hg a1 a2 a3 a4 a5 a6 a7 := by
  obtain ⟨h1, h2, h3, h4, h5, h6, h7, h8⟩ := k.1
  obtain ⟨j, hj, ej⟩ := pk_andE x3 (m := 7) 3 (by decide)
  refine pk_loop (fun q i (z : Int32 × Int32 × Int32 × (Nat → Int32)) => wL_lawOf_280 post mc ms x3 (nI n) (nI m) (nI a) (nI s) (nI t) x11 x12 kc ks q 1 (nI (ei_pp a i)) (nI i) 0 (nI (n + m + 2)) z.1 z.2.1 z.2.2.1 a1 a2 a3 z.2.2.2 a5 a6 a7) (fun _ _ => True) 6 0 (ps, lw, hg, a4) (by omega) trivial ?_ ?_
  · intro q z _
    exact pk_le 6 6 (fun _ => nm_r ej (nm_e (ei_514 k hj h11 h12 H))) (fun z => absurd z (by omega))
  · intro q i z hi _ hw
    refine pk_le 6 i (fun z => absurd z (by omega)) (fun _ => pk_lt n i (fun z => ei_305 k hi h11 ?_ (fun q1 q2 q3 b => hw (q1, q2, q3, b) trivial)) (fun z => ei_305 k hi h11 ?_ (fun q1 q2 q3 b => hw (q1, q2, q3, b) trivial)))
    · rw [show n + 1 - i = 0 by omega]
      rfl
    · rw [pk_sub z, nI_1]
      exact congrArg nI (by omega)
theorem ei_237 (k : ei_K n m a s t o a2 a3) (H : post 1 ()) :
    wL_lawOf_237 post mc ms x3 (nI n) (nI m) (nI a) (nI s) (nI t) 1 kc ks 0 (nI (n + m + 2)) ps lw hg a1 a2 a3 a4 a5 a6 a7 := by
  obtain ⟨h1, h2, h3, h4, h5, h6, h7, h8⟩ := k.1
  unfold wL_lawOf_237
  refine pk_le n m (fun z => pk_le m n (fun z2 => ei_280 k ?_ ?_ H) (fun z2 => ei_280 k ?_ ?_ H)) (fun z => pk_le m n (fun z2 => ei_280 k ?_ ?_ H) (fun z2 => ei_280 k ?_ ?_ H))
  all_goals exact congrArg nI (by omega)
end
end
section
section
variable {ps lw hg : Int32} {a1 a2 a3 a4 a5 a6 a7 : Nat → Int32} {n m a s t o : Nat} {post : Int32 → St0 → Prop} {mc ms kc ks : Nat} {x3 : Int32}
theorem ei_152 (h : ei_P n m a s t o) (r1 : ∀ q, q < n → a2 q = nI a) (r2 : a2 n = nI (4 + s)) (k4 : a3 s = nI n) (k6 : ∀ k, k < 6 → k ≠ s → a3 k = 0) (H : post 1 ()) :
    ∃ q, wL_lawOf_152 post mc ms x3 (nI n) (nI m) (nI a) (nI s) (nI t) kc ks q 1 0 0 (nI (n + 1)) ps lw hg a1 a2 a3 a4 a5 a6 a7 := by
  obtain ⟨h1, h2, h3, h4, h5, h6, h7, h8⟩ := id h
  refine pk_loop (fun q i (z : Int32 × (Nat → Int32)) => wL_lawOf_152 post mc ms x3 (nI n) (nI m) (nI a) (nI s) (nI t) kc ks q 1 (nI i) z.1 (nI (n + 1)) ps lw hg z.2 a2 a3 a4 a5 a6 a7) (fun i z => z.1 = nI (min i m) ∧ ∀ j, j < min i m → z.2 j = nI a) 8 0 (0, a1) (by omega) ⟨by rw [Nat.zero_min]; rfl, fun j hj => absurd hj (by omega)⟩ ?_ ?_
  · intro q z g
    obtain ⟨z1, z2⟩ := z
    have e1 : z1 = nI m := g.1.trans (congrArg nI (by omega))
    have e2 : ∀ j, j < m → z2 j = nI a := fun j hj => g.2 j (by omega)
    subst e1
    refine pk_le 8 8 (fun _ => br_f (by decide) ?_) (fun z => absurd z (by omega))
    refine ei_addF h6 h1 h2 k4 (br_t rfl ?_)
    refine ei_add2 h e2 r1 r2 k4 k6 (fun b2 b3 k => br_t ?_ (ei_237 k H))
    rw [nI_add]
    exact (nI_add (n + m) 2).symm
  · intro q i z hi g hw
    obtain ⟨z1, z2⟩ := z
    have e1 : z1 = nI (min i m) := g.1
    have e2 : ∀ j, j < min i m → z2 j = nI a := g.2
    subst e1
    refine pk_le 8 i (fun z => absurd z (by omega)) (fun _ => br_f (by decide) (pk_le m i (fun z => nm_r (nI_1 i) (hw (nI (min i m), z2) ⟨congrArg nI (by omega), fun j hj => e2 j (by omega)⟩)) (fun z => ?_)))
    refine ei_dr (k := min i m) (by omega) h5 (fun b i1 i2 => br_t ?_ (nm_r (nI_1 i) (hw (nI (min i m + 1), b) ⟨congrArg nI (by omega), fun j hj => ?_⟩)))
    · rw [nI_1]
      exact congrArg nI (by omega)
    · show b j = nI a
      by_cases e : j = min i m
      · rw [e, i2]
      · rw [i1 j (by omega)]
        exact e2 j (by omega)
theorem ei_65 (h : ei_P n m a s t o) (k6 : ∀ k, k < 6 → a3 k = 0) (H : post 1 ()) :
    ∃ q, wL_lawOf_65 post mc ms x3 (nI n) (nI m) (nI a) (nI s) (nI t) kc ks q 1 0 0 0 ps lw hg a1 a2 a3 a4 a5 a6 a7 := by
  obtain ⟨h1, h2, h3, h4, h5, h6, h7, h8⟩ := id h
  refine pk_loop (fun q i (z : Int32 × (Nat → Int32)) => wL_lawOf_65 post mc ms x3 (nI n) (nI m) (nI a) (nI s) (nI t) kc ks q 1 (nI i) z.1 0 ps lw hg z.2 a2 a3 a4 a5 a6 a7) (fun i z => z.1 = nI (min i n) ∧ ∀ j, j < min i n → z.2 j = nI a) 8 0 (0, a1) (by omega) ⟨by rw [Nat.zero_min]; rfl, fun j hj => absurd hj (by omega)⟩ ?_ ?_
  · intro q z g
    obtain ⟨z1, z2⟩ := z
    have e1 : z1 = nI n := g.1.trans (congrArg nI (by omega))
    have e2 : ∀ j, j < n → z2 j = nI a := fun j hj => g.2 j (by omega)
    subst e1
    have k7 : ∀ k, k < 6 → k ≠ s → upd a3 s (nI n) k = 0 := fun k g1 g2 => by rw [pk_un g2, k6 k g1]
    refine pk_le 8 8 (fun _ => br_f (by decide) ?_) (fun z => absurd z (by omega))
    refine ei_add1 h1 h2 h5 h6 e2 k6 (fun b r1 r2 => br_t (nI_1 n).symm ?_)
    refine ei_addN h7 (k7 t h7 (by omega)) (br_t rfl ?_)
    exact ei_152 h r1 r2 pk_us k7 H
  · intro q i z hi g hw
    obtain ⟨z1, z2⟩ := z
    have e1 : z1 = nI (min i n) := g.1
    have e2 : ∀ j, j < min i n → z2 j = nI a := g.2
    subst e1
    refine pk_le 8 i (fun z => absurd z (by omega)) (fun _ => br_f (by decide) (pk_le n i (fun z => nm_r (nI_1 i) (hw (nI (min i n), z2) ⟨congrArg nI (by omega), fun j hj => e2 j (by omega)⟩)) (fun z => ?_)))
    refine ei_dr (k := min i n) (by omega) h5 (fun b i1 i2 => br_t ?_ (nm_r (nI_1 i) (hw (nI (min i n + 1), b) ⟨congrArg nI (by omega), fun j hj => ?_⟩)))
    · rw [nI_1]
      exact congrArg nI (by omega)
    · show b j = nI a
      by_cases e : j = min i n
      · rw [e, i2]
      · rw [i1 j (by omega)]
        exact e2 j (by omega)
theorem ei_lawOf (p0 p1 p2 p3 : Int32) (H : post 1 ()) : wpL_lawOf post 8 219 () p0 p1 p2 p3 := by
  obtain ⟨u0, hu0, eu0⟩ := pk_andE p0 (m := 7) 3 (by decide)
  obtain ⟨u1, hu1, eu1⟩ := pk_andE (p0 >>> ((3 : Int32) &&& 31)) (m := 7) 3 (by decide)
  obtain ⟨a, ha, ea⟩ := pk_andE p1 (m := 3) 2 (by decide)
  obtain ⟨u2, hu2, eu2⟩ := pk_andE p2 (m := 7) 3 (by decide)
  obtain ⟨u3, hu3, eu3⟩ := pk_andE (p2 >>> ((3 : Int32) &&& 31)) (m := 7) 3 (by decide)
  have f1 : (1 : Int32) + (p0 &&& 7) = nI (1 + u0) := by
    rw [eu0]
    exact nI_add 1 u0
  have f2 : (1 : Int32) + ((p0 >>> ((3 : Int32) &&& 31)) &&& 7) = nI (1 + u1) := by
    rw [eu1]
    exact nI_add 1 u1
  have f3 : (p2 &&& 7) - (p2 &&& 7) / 6 * 6 = nI (u2 % 6) := by
    rw [eu2]
    exact pk_rem (d := 6) (by omega) (by omega) (by omega)
  have f4 : ((p2 >>> ((3 : Int32) &&& 31)) &&& 7) - ((p2 >>> ((3 : Int32) &&& 31)) &&& 7) / 5 * 5 = nI (u3 % 5) := by
    rw [eu3]
    exact pk_rem (d := 5) (by omega) (by omega) (by omega)
  have hP : ei_P (1 + u0) (1 + u1) a (u2 % 6) ((u2 % 6 + 1 + u3 % 5) % 6) (if (u2 % 6 + 1 + u3 % 5) % 6 < u2 % 6 then 1 else 0) := by
    refine ⟨by omega, by omega, by omega, by omega, ha, by omega, by omega, ?_⟩
    split <;> omega
  refine ⟨by omega, by omega, 7, 207, by omega, by omega, ?_⟩
  refine ⟨by omega, by omega, by omega, by omega, by omega, by omega, by omega, by omega, by omega, by omega, by omega, by omega, by omega, by omega, ?_⟩
  refine nm_r f1 (nm_r f2 (nm_r ea ⟨by decide, nm_r f3 ⟨by decide, by decide, ?_⟩⟩))
  rw [f4]
  have f5 : nI (u2 % 6) + 1 + nI (u3 % 5) - (nI (u2 % 6) + 1 + nI (u3 % 5)) / 6 * 6 = nI ((u2 % 6 + 1 + u3 % 5) % 6) := by
    rw [nI_1, nI_add]
    exact pk_rem (d := 6) (by omega) (by omega) (by omega)
  refine nm_r f5 ?_
  exact ei_65 hP (fun _ _ => rfl) H
theorem ei_cell {q : Int32 → Prop} {L : Nat} {xs : Nat → Int32} (c : Nat) (hc : c < 4) (hL : L ≤ 4) (H : ∀ r, q r) : wpL_cellAt q L xs () (nI c) :=
  pk_le L c (fun _ => H _) (fun z => ⟨pk_in c L z, H _⟩)
end
theorem i_vc (xs : Nat → Int32) (L : Nat) (hL : L ≤ 4) : wpL_law (fun r => r = 1) L xs := by
  unfold wpL_law
  refine ei_cell 0 (by omega) hL (fun r1 => ?_)
  refine ei_cell 1 (by omega) hL (fun r2 => ?_)
  refine ei_cell 2 (by omega) hL (fun r3 => ?_)
  refine ei_cell 3 (by omega) hL (fun r4 => ?_)
  exact ⟨8, 219, by omega, by omega, ei_lawOf r1 r2 r3 r4 rfl⟩
end
