section
/-- a list laid in an array from place 0 -/
def ps_ls (a : Nat → Int32) (L : List Nat) : Prop := ∀ (i v : Nat), L[i]? = some v → a i = nI v
/-- the word for a time: 0 is 'not yet', p + 1 is the time p -/
def ps_dc : Nat → Int32
  | 0 => -5
  | p + 1 => nI p
/-- a function changed at one place -/
def ps_u (f : Nat → Nat) (k v : Nat) : Nat → Nat := fun j => if j = k then v else f j
theorem ps_us {f : Nat → Nat} {k v : Nat} : ps_u f k v k = v := if_pos rfl
theorem ps_un {f : Nat → Nat} {k v j : Nat} (h : j ≠ k) : ps_u f k v j = f j := if_neg h
theorem ps_dcp {t : Nat} (h : 1 ≤ t) : ps_dc t = nI (t - 1) := by
  obtain ⟨p, rfl⟩ : ∃ p, t = p + 1 := ⟨t - 1, by omega⟩
  rfl
theorem ps_dc0 : ps_dc 0 = -5 := rfl
/-- h places hold each number of S once, and nothing else -/
def ps_hp (b : Nat → Int32) (h : Nat) (S : Nat → Prop) : Prop :=
  (∀ i, i < h → ∃ j, j < 24 ∧ b i = nI j ∧ S j) ∧ (∀ j, S j → j < 24 ∧ ∃ i, i < h ∧ b i = nI j) ∧ (∀ i k, i < h → k < h → b i = b k → i = k)
theorem ps_hp_sw {b b' : Nat → Int32} {h i p : Nat} {S : Nat → Prop} (hi : i < h) (hp : p < h) (e1 : b' i = b p) (e2 : b' p = b i) (e3 : ∀ k, k ≠ i → k ≠ p → b' k = b k) (H : ps_hp b h S) : ps_hp b' h S := by
  obtain ⟨H1, H2, H3⟩ := H
  have key : ∀ k, k < h → ∃ q, q < h ∧ b' k = b q ∧ b' q = b k ∧ (k = i ∧ q = p ∨ k = p ∧ q = i ∨ k ≠ i ∧ k ≠ p ∧ q = k) := by
    intro k hk
    by_cases h1 : k = i
    · subst h1
      exact ⟨p, hp, e1, e2, Or.inl ⟨rfl, rfl⟩⟩
    · by_cases h2 : k = p
      · subst h2
        exact ⟨i, hi, e2, e1, Or.inr (Or.inl ⟨rfl, rfl⟩)⟩
      · exact ⟨k, hk, e3 k h1 h2, e3 k h1 h2, Or.inr (Or.inr ⟨h1, h2, rfl⟩)⟩
  refine ⟨fun k hk => ?_, fun j hj => ?_, fun k m hk hm e => ?_⟩
  · obtain ⟨q, hq, e, _, _⟩ := key k hk
    rw [e]
    exact H1 q hq
  · obtain ⟨h24, k, hk, ek⟩ := H2 j hj
    obtain ⟨q, hq, _, e, _⟩ := key k hk
    exact ⟨h24, q, hq, by rw [e, ek]⟩
  · obtain ⟨q, hq, e', _, c⟩ := key k hk
    obtain ⟨r, hr, e'', _, d⟩ := key m hm
    have := H3 q r hq hr (by rw [← e', ← e'', e])
    omega
theorem ps_hp_ext {b : Nat → Int32} {h : Nat} {S S' : Nat → Prop} (e : ∀ j, S j ↔ S' j) (H : ps_hp b h S) : ps_hp b h S' :=
  ⟨fun i hi => (H.1 i hi).elim fun j hj => ⟨j, hj.1, hj.2.1, (e j).mp hj.2.2⟩, fun j hj => H.2.1 j ((e j).mpr hj), H.2.2⟩
theorem ps_hp_eq {b b' : Nat → Int32} {h : Nat} {S : Nat → Prop} (e : ∀ i, i < h → b' i = b i) (H : ps_hp b h S) : ps_hp b' h S := by
  refine ⟨fun i hi => ?_, fun j hj => ?_, fun i k hi hk z => H.2.2 i k hi hk ?_⟩
  · rw [e i hi]
    exact H.1 i hi
  · obtain ⟨h24, i, hi, ei⟩ := H.2.1 j hj
    exact ⟨h24, i, hi, by rw [e i hi, ei]⟩
  · rw [← e i hi, ← e k hk, z]
theorem ps_hp_push {b : Nat → Int32} {h x : Nat} {S : Nat → Prop} (hx : x < 24) (hS : ¬ S x) (H : ps_hp b h S) : ps_hp (upd b h (nI x)) (h + 1) (fun j => S j ∨ j = x) := by
  obtain ⟨H1, H2, H3⟩ := H
  have ne : ∀ i, i < h → b i ≠ nI x := by
    intro i hi e
    obtain ⟨j, hj, ej, sj⟩ := H1 i hi
    rw [ej] at e
    have := (nI_eq (by omega) (by omega)).mp e
    exact hS (this ▸ sj)
  refine ⟨fun i hi => ?_, fun j hj => ?_, fun i k hi hk e => ?_⟩
  · by_cases h1 : i = h
    · subst h1
      exact ⟨x, hx, pk_us, Or.inr rfl⟩
    · obtain ⟨j, hj, ej, sj⟩ := H1 i (by omega)
      exact ⟨j, hj, by rw [pk_un h1, ej], Or.inl sj⟩
  · rcases hj with hj | hj
    · obtain ⟨h24, i, hi, ei⟩ := H2 j hj
      exact ⟨h24, i, by omega, by rw [pk_un (by omega), ei]⟩
    · subst hj
      exact ⟨hx, h, by omega, pk_us⟩
  · by_cases h1 : i = h
    · by_cases h2 : k = h
      · omega
      · subst h1
        rw [pk_us, pk_un h2] at e
        exact absurd e.symm (ne k (by omega))
    · by_cases h2 : k = h
      · subst h2
        rw [pk_us, pk_un h1] at e
        exact absurd e (ne i (by omega))
      · rw [pk_un h1, pk_un h2] at e
        exact H3 i k (by omega) (by omega) e
theorem ps_hp_last {b : Nat → Int32} {h : Nat} {S : Nat → Prop} (H : ps_hp b (h + 1) S) : ps_hp b h (fun j => S j ∧ nI j ≠ b h) := by
  obtain ⟨H1, H2, H3⟩ := H
  refine ⟨fun i hi => ?_, fun j hj => ?_, fun i k hi hk e => H3 i k (by omega) (by omega) e⟩
  · obtain ⟨j, hj, ej, sj⟩ := H1 i (by omega)
    refine ⟨j, hj, ej, sj, fun z => ?_⟩
    have := H3 i h (by omega) (by omega) (by rw [ej, z])
    omega
  · obtain ⟨h24, i, hi, ei⟩ := H2 j hj.1
    refine ⟨h24, i, ?_, ei⟩
    by_cases h1 : i = h
    · subst h1
      exact absurd ei.symm hj.2
    · omega
theorem ps_hp_rm {b : Nat → Int32} {h p : Nat} {S : Nat → Prop} (hp : p < h) (H : ps_hp b (h + 1) S) : ps_hp (upd b p (b h)) h (fun j => S j ∧ nI j ≠ b p) := by
  have h1 : ps_hp (upd (upd b p (b h)) h (b p)) (h + 1) S :=
    ps_hp_sw (i := p) (p := h) (by omega) (by omega) (by rw [pk_un (by omega), pk_us]) pk_us (fun k h1 h2 => by rw [pk_un h2, pk_un h1]) H
  have h2 := ps_hp_last h1
  rw [pk_us] at h2
  exact ps_hp_eq (fun i hi => by rw [pk_un (k := h) (by omega)]) h2
/-- a hole moves: the number at p goes to i, the hole to p -/
theorem ps_hp_mv {a : Nat → Int32} {h i p : Nat} {x v : Int32} {S : Nat → Prop} (hi : i < h) (hp : p < h) (hn : p ≠ i) (hv : a p = v) (H : ps_hp (upd a i x) h S) : ps_hp (upd (upd a i v) p x) h S := by
  subst hv
  exact ps_hp_sw (i := i) (p := p) hi hp (by rw [pk_un (Ne.symm hn), pk_us, pk_un hn]) (by rw [pk_us, pk_us]) (fun k h1 h2 => by rw [pk_un h2, pk_un h1, pk_un h1]) H
theorem ps_hp_at {a : Nat → Int32} {h i p : Nat} {x : Int32} {S : Nat → Prop} (hp : p < h) (hn : p ≠ i) (H : ps_hp (upd a i x) h S) : ∃ j, j < 24 ∧ a p = nI j := by
  obtain ⟨j, hj, ej, _⟩ := H.1 p hp
  rw [pk_un hn] at ej
  exact ⟨j, hj, ej⟩
/-- a part of an array moved down by m -/
def ps_sh (a : Nat → Int32) (i k m : Nat) : Nat → Int32 := fun j => if i ≤ j ∧ j < k then a (j + m) else a j
theorem ps_sh_end {a : Nat → Int32} {k m : Nat} : ps_sh a k k m = a := by
  funext j
  exact if_neg (by omega)
theorem ps_sh_0 {a : Nat → Int32} {i k : Nat} : ps_sh a i k 0 = a := by
  funext j
  unfold ps_sh
  split <;> rfl
theorem ps_sh_step {a : Nat → Int32} {i k m : Nat} (h : i < k) : ps_sh (upd a i (a (i + m))) (i + 1) k m = ps_sh a i k m := by
  funext j
  unfold ps_sh
  by_cases h1 : j = i
  · subst h1
    rw [if_neg (by omega), if_pos (by omega), pk_us]
  · by_cases h2 : i < j ∧ j < k
    · rw [if_pos (by omega), if_pos (by omega), pk_un (by omega)]
    · rw [if_neg (by omega), if_neg (by omega), pk_un h1]
theorem ps_sh_ls {a : Nat → Int32} {L : List Nat} {m : Nat} (h : ps_ls a L) : ps_ls (ps_sh a 0 (L.length - m) m) (L.drop m) := by
  intro i v hi
  rw [List.getElem?_drop] at hi
  have hl : m + i < L.length := by
    rcases Nat.lt_or_ge (m + i) L.length with z | z
    · exact z
    · rw [List.getElem?_eq_none z] at hi
      exact absurd hi.symm (Option.some_ne_none v)
  unfold ps_sh
  rw [if_pos (by omega), Nat.add_comm]
  exact h (m + i) v hi
end
section
/-- one job: its state, the words of its two times -/
def ps_J (g t s a f : Nat) : Prop := s ≤ 4 ∧ (s ≤ 1 → a = 0) ∧ (s = 2 ∨ s = 3 → 1 ≤ a) ∧ (s = 3 → 1 ≤ f ∧ a ≤ f) ∧ (s ≠ 3 → f = 0) ∧ a ≤ t + g ∧ f ≤ t
/-- all others that were ever served are done before i came in -/
def ps_SA (n : Nat) (ad fi : Nat → Nat) (i : Nat) : Prop := ∀ j, j < n → j ≠ i → 1 ≤ ad j → 1 ≤ fi j ∧ fi j < ad i
/-- i meets none -/
def ps_AL (n : Nat) (ad fi : Nat → Nat) (i : Nat) : Prop := ∀ j, j < n → j ≠ i → ¬ (1 ≤ ad j ∧ ad j ≤ fi i ∧ (fi j = 0 ∨ ad i ≤ fi j))
/-- the order of coming -/
def ps_lt (ar : Nat → Nat) (i j : Nat) : Prop := ar i * 32 + i < ar j * 32 + j
def ps_PI (n : Nat) (sz ar : Nat → Nat) (e g t c : Nat) (st ad fi M : Nat → Nat) (LL CL : List Nat) : Prop :=
  (n ≤ 16 ∧ c ≤ 840 * t) ∧
  (∀ j, j < n → 1 ≤ sz j ∧ sz j ≤ 4096 ∧ ar j ≤ 15) ∧
  (∀ j, j ∈ LL ↔ j < n ∧ st j = 1) ∧
  (∀ j, j ∈ CL ↔ j < n ∧ st j = 0) ∧
  (LL ++ CL).Pairwise (ps_lt ar) ∧
  (∀ j, j < n → ps_J g t (st j) (ad j) (fi j)) ∧
  (∀ i j, i < n → j < n → 1 ≤ ad j → ps_lt ar i j → (1 ≤ ad i ∧ ad i ≤ ad j) ∨ (ad i = 0 ∧ st i = 4)) ∧
  (∀ j, j < n → M j ≤ c + 4096) ∧
  (∀ i, i < n → st i = 2 → ps_SA n ad fi i → M i + 840 * (t + 1 - ad i) = c + sz i ∧ c < M i + e) ∧
  (∀ i, i < n → st i = 3 → ps_AL n ad fi i → fi i = ad i + (sz i - 1) / 840)
section
variable {n : Nat} {sz ar : Nat → Nat} {e g t c : Nat} {st ad fi M : Nat → Nat} {LL CL : List Nat}
theorem ps_J_mono {g' t' s a f : Nat} (h : ps_J g t s a f) (h1 : t + g ≤ t' + g') (h2 : t ≤ t') : ps_J g' t' s a f := by
  unfold ps_J at h ⊢
  omega
theorem ps_pu_arr {j : Nat} (H : ps_PI n sz ar e g t c st ad fi M LL (j :: CL)) : ps_PI n sz ar e g t c (ps_u st j 1) ad fi M (LL ++ [j]) CL := by
  obtain ⟨P1, P2, P3, P4, P5, P6, P7, P8, P9, P10⟩ := H
  have hj := (P4 j).mp (List.mem_cons_self ..)
  have hL : j ∉ LL := fun z => by
    have := (P3 j).mp z
    omega
  have hC : j ∉ CL := fun z => by
    have h1 := (List.pairwise_append.mp P5).2.1
    have h2 := (List.pairwise_cons.mp h1).1 j z
    unfold ps_lt at h2
    omega
  have sn : ∀ i, i ≠ j → ps_u st j 1 i = st i := fun i hi => ps_un hi
  have s1 : ps_u st j 1 j = 1 := ps_us
  refine ⟨P1, P2, fun i => ?_, fun i => ?_, ?_, fun i hi => ?_, fun i k hi hk a1 a2 => ?_, P8, fun i hi s2 sa => ?_, fun i hi s2 sa => ?_⟩
  · rw [List.mem_append, List.mem_singleton, P3]
    by_cases h : i = j
    · subst h
      rw [s1]
      exact ⟨fun _ => ⟨hj.1, rfl⟩, fun _ => Or.inr rfl⟩
    · rw [sn i h]
      exact ⟨fun z => z.elim id (fun z => absurd z h), Or.inl⟩
  · by_cases h : i = j
    · subst h
      rw [s1]
      exact ⟨fun z => absurd z hC, fun z => absurd z.2 (by omega)⟩
    · rw [sn i h, ← P4, List.mem_cons]
      exact ⟨Or.inr, fun z => z.elim (fun z => absurd z h) id⟩
  · rw [List.append_assoc]
    exact P5
  · by_cases h : i = j
    · subst h
      have := P6 i hi
      rw [s1]
      unfold ps_J at this ⊢
      omega
    · rw [sn i h]
      exact P6 i hi
  · by_cases h : i = j
    · subst h
      have := P7 i k hi hk a1 a2
      have h6 := P6 i hi
      unfold ps_J at h6
      omega
    · rw [sn i h]
      exact P7 i k hi hk a1 a2
  · by_cases h : i = j
    · subst h
      omega
    · rw [sn i h] at s2
      exact P9 i hi s2 sa
  · by_cases h : i = j
    · subst h
      omega
    · rw [sn i h] at s2
      exact P10 i hi s2 sa
theorem ps_pu_adm {j : Nat} (H : ps_PI n sz ar 0 1 t c st ad fi M (j :: LL) CL) : ps_PI n sz ar 0 1 t c (ps_u st j 2) (ps_u ad j (t + 1)) fi (ps_u M j (c + sz j)) LL CL := by
  obtain ⟨P1, P2, P3, P4, P5, P6, P7, P8, P9, P10⟩ := H
  have hj := (P3 j).mp (List.mem_cons_self ..)
  have h5 := List.pairwise_cons.mp P5
  have hL : j ∉ LL := fun z => by
    have h2 := h5.1 j (List.mem_append.mpr (Or.inl z))
    unfold ps_lt at h2
    omega
  have sn : ∀ i, i ≠ j → ps_u st j 2 i = st i := fun i hi => ps_un hi
  have s1 : ps_u st j 2 j = 2 := ps_us
  have an : ∀ i, i ≠ j → ps_u ad j (t + 1) i = ad i := fun i hi => ps_un hi
  have a1 : ps_u ad j (t + 1) j = t + 1 := ps_us
  have mn : ∀ i, i ≠ j → ps_u M j (c + sz j) i = M i := fun i hi => ps_un hi
  have m1 : ps_u M j (c + sz j) j = c + sz j := ps_us
  have hjJ := P6 j hj.1
  unfold ps_J at hjJ
  have hjz := P2 j hj.1
  refine ⟨P1, P2, fun i => ?_, fun i => ?_, h5.2, fun i hi => ?_, fun i k hi hk b1 b2 => ?_, fun i hi => ?_, fun i hi s2 sa => ?_, fun i hi s2 sa => ?_⟩
  · by_cases h : i = j
    · subst h
      rw [s1]
      exact ⟨fun z => absurd z hL, fun z => absurd z.2 (by omega)⟩
    · rw [sn i h, ← P3, List.mem_cons]
      exact ⟨Or.inr, fun z => z.elim (fun z => absurd z h) id⟩
  · rw [P4]
    by_cases h : i = j
    · subst h
      rw [s1]
      omega
    · rw [sn i h]
  · by_cases h : i = j
    · subst h
      rw [s1, a1]
      unfold ps_J
      omega
    · rw [sn i h, an i h]
      exact P6 i hi
  · by_cases hk' : k = j
    · subst hk'
      rw [a1]
      have hik : i ≠ k := fun z => by
        subst z
        unfold ps_lt at b2
        omega
      rw [an i hik, sn i hik]
      have h6 := P6 i hi
      unfold ps_J at h6
      have n0 : st i ≠ 0 := fun z => by
        have := (P4 i).mpr ⟨hi, z⟩
        have h2 := h5.1 i (List.mem_append.mpr (Or.inr this))
        unfold ps_lt at h2 b2
        omega
      have n1 : st i ≠ 1 := fun z => by
        have := (P3 i).mpr ⟨hi, z⟩
        rcases List.mem_cons.mp this with h | h
        · exact hik h
        · have h2 := h5.1 i (List.mem_append.mpr (Or.inl h))
          unfold ps_lt at h2 b2
          omega
      omega
    · rw [an k hk'] at b1 ⊢
      by_cases h : i = j
      · subst h
        have := P7 i k hi hk b1 b2
        omega
      · rw [an i h, sn i h]
        exact P7 i k hi hk b1 b2
  · by_cases h : i = j
    · subst h
      rw [m1]
      omega
    · rw [mn i h]
      exact P8 i hi
  · by_cases h : i = j
    · subst h
      rw [m1, a1]
      omega
    · have := sa j hj.1 (Ne.symm h) (by rw [a1]; omega)
      omega
  · by_cases h : i = j
    · subst h
      omega
    · rw [sn i h] at s2
      rw [an i h]
      refine P10 i hi s2 (fun k hk hki => ?_)
      by_cases hk' : k = j
      · subst hk'
        omega
      · have := sa k hk hki
        rw [an k hk', an i h] at this
        exact this
theorem ps_pu_g (H : ps_PI n sz ar e 0 t c st ad fi M LL CL) : ps_PI n sz ar e 1 t c st ad fi M LL CL := by
  obtain ⟨P1, P2, P3, P4, P5, P6, P7, P8, P9, P10⟩ := H
  exact ⟨P1, P2, P3, P4, P5, fun j hj => ps_J_mono (P6 j hj) (by omega) (by omega), P7, P8, P9, P10⟩
theorem ps_pu_wrk {r : Nat} (hr : r ≤ 840) (hs : ∀ i, i < n → st i = 2 → ps_SA n ad fi i → r = 840) (H : ps_PI n sz ar 0 1 t c st ad fi M LL CL) : ps_PI n sz ar 840 0 (t + 1) (c + r) st ad fi M LL CL := by
  obtain ⟨P1, P2, P3, P4, P5, P6, P7, P8, P9, P10⟩ := H
  refine ⟨by omega, P2, P3, P4, P5, fun j hj => ps_J_mono (P6 j hj) (by omega) (by omega), P7, fun j hj => ?_, fun i hi s2 sa => ?_, P10⟩
  · have := P8 j hj
    omega
  · have h1 := P9 i hi s2 sa
    have h2 := hs i hi s2 sa
    have h3 := P6 i hi
    unfold ps_J at h3
    omega
theorem ps_pu_cmp {j : Nat} (hj : j < n) (hs : st j = 2) (hM : M j ≤ c) (H : ps_PI n sz ar 840 0 t c st ad fi M LL CL) : ps_PI n sz ar 840 0 t c (ps_u st j 3) ad (ps_u fi j t) M LL CL := by
  obtain ⟨P1, P2, P3, P4, P5, P6, P7, P8, P9, P10⟩ := H
  have sn : ∀ i, i ≠ j → ps_u st j 3 i = st i := fun i hi => ps_un hi
  have s1 : ps_u st j 3 j = 3 := ps_us
  have fn : ∀ i, i ≠ j → ps_u fi j t i = fi i := fun i hi => ps_un hi
  have f1 : ps_u fi j t j = t := ps_us
  have hjJ := P6 j hj
  unfold ps_J at hjJ
  refine ⟨P1, P2, fun i => ?_, fun i => ?_, P5, fun i hi => ?_, fun i k hi hk b1 b2 => ?_, P8, fun i hi s2 sa => ?_, fun i hi s2 sa => ?_⟩
  · rw [P3]
    by_cases h : i = j
    · subst h
      rw [s1]
      omega
    · rw [sn i h]
  · rw [P4]
    by_cases h : i = j
    · subst h
      rw [s1]
      omega
    · rw [sn i h]
  · by_cases h : i = j
    · subst h
      rw [s1, f1]
      unfold ps_J
      omega
    · rw [sn i h, fn i h]
      exact P6 i hi
  · by_cases h : i = j
    · subst h
      have := P7 i k hi hk b1 b2
      omega
    · rw [sn i h]
      exact P7 i k hi hk b1 b2
  · by_cases h : i = j
    · subst h
      omega
    · have h6 := P6 i hi
      unfold ps_J at h6
      have := sa j hj (Ne.symm h) (by omega)
      rw [f1] at this
      omega
  · by_cases h : i = j
    · subst h
      rw [f1]
      have h9 := P9 i hi hs (fun k hk hki ak => by
        have h6 := P6 k hk
        unfold ps_J at h6
        have := sa k hk hki
        rw [f1, fn k hki] at this
        omega)
      have := P2 i hi
      omega
    · rw [sn i h] at s2
      rw [fn i h]
      have h6 := P6 i hi
      unfold ps_J at h6
      refine P10 i hi s2 (fun k hk hki => ?_)
      have h0 := sa k hk hki
      rw [fn i h] at h0
      by_cases hk' : k = j
      · subst hk'
        rw [f1] at h0
        omega
      · rw [fn k hk'] at h0
        exact h0
theorem ps_pu_end (hs : ∀ i, i < n → st i = 2 → ps_SA n ad fi i → c < M i) (H : ps_PI n sz ar 840 0 t c st ad fi M LL CL) : ps_PI n sz ar 0 0 t c st ad fi M LL CL := by
  obtain ⟨P1, P2, P3, P4, P5, P6, P7, P8, P9, P10⟩ := H
  exact ⟨P1, P2, P3, P4, P5, P6, P7, P8, fun i hi s2 sa => ⟨(P9 i hi s2 sa).1, by have := hs i hi s2 sa; omega⟩, P10⟩
theorem ps_pu_can {j : Nat} (hj : j < n) (hs : st j ≤ 2) (H : ps_PI n sz ar e g t c st ad fi M LL CL) : ps_PI n sz ar e g t c (ps_u st j 4) ad fi M (LL.filter (· ≠ j)) (CL.filter (· ≠ j)) := by
  obtain ⟨P1, P2, P3, P4, P5, P6, P7, P8, P9, P10⟩ := H
  have sn : ∀ i, i ≠ j → ps_u st j 4 i = st i := fun i hi => ps_un hi
  have s1 : ps_u st j 4 j = 4 := ps_us
  have hjJ := P6 j hj
  unfold ps_J at hjJ
  refine ⟨P1, P2, fun i => ?_, fun i => ?_, ?_, fun i hi => ?_, fun i k hi hk b1 b2 => ?_, P8, fun i hi s2 sa => ?_, fun i hi s2 sa => ?_⟩
  · rw [List.mem_filter, P3]
    by_cases h : i = j
    · subst h
      rw [s1]
      simp
    · rw [sn i h]
      simp [h]
  · rw [List.mem_filter, P4]
    by_cases h : i = j
    · subst h
      rw [s1]
      simp
    · rw [sn i h]
      simp [h]
  · rw [← List.filter_append]
    exact P5.filter _
  · by_cases h : i = j
    · subst h
      rw [s1]
      unfold ps_J
      omega
    · rw [sn i h]
      exact P6 i hi
  · have := P7 i k hi hk b1 b2
    by_cases h : i = j
    · subst h
      rw [s1]
      omega
    · rw [sn i h]
      exact this
  · by_cases h : i = j
    · subst h
      omega
    · rw [sn i h] at s2
      exact P9 i hi s2 sa
  · by_cases h : i = j
    · subst h
      omega
    · rw [sn i h] at s2
      exact P10 i hi s2 sa
/-- the arrays hold the picture -/
def ps_MA (n : Nat) (sz ar st ad fi M : Nat → Nat) (a1 a2 a3 a4 a5 : Nat → Int32) (a7 : Nat → Int64) : Prop :=
  ∀ j, j < n → a1 j = nI (sz j) ∧ a2 j = nI (ar j) ∧ a3 j = nI (st j) ∧ a4 j = ps_dc (ad j) ∧ a5 j = ps_dc (fi j) ∧ a7 j = lN (M j)
theorem ps_ma3 {a1 a2 a3 a4 a5 : Nat → Int32} {a7 : Nat → Int64} {j v : Nat} (H : ps_MA n sz ar st ad fi M a1 a2 a3 a4 a5 a7) : ps_MA n sz ar (ps_u st j v) ad fi M a1 a2 (upd a3 j (nI v)) a4 a5 a7 := by
  intro i hi
  obtain ⟨h1, h2, h3, h4, h5, h7⟩ := H i hi
  refine ⟨h1, h2, ?_, h4, h5, h7⟩
  by_cases h : i = j
  · subst h
    rw [pk_us, ps_us]
  · rw [pk_un h, ps_un h, h3]
theorem ps_ma4 {a1 a2 a3 a4 a5 : Nat → Int32} {a7 : Nat → Int64} {j v : Nat} {w : Int32} (hw : w = ps_dc v) (H : ps_MA n sz ar st ad fi M a1 a2 a3 a4 a5 a7) : ps_MA n sz ar st (ps_u ad j v) fi M a1 a2 a3 (upd a4 j w) a5 a7 := by
  intro i hi
  obtain ⟨h1, h2, h3, h4, h5, h7⟩ := H i hi
  refine ⟨h1, h2, h3, ?_, h5, h7⟩
  by_cases h : i = j
  · subst h
    rw [pk_us, ps_us, hw]
  · rw [pk_un h, ps_un h, h4]
theorem ps_ma5 {a1 a2 a3 a4 a5 : Nat → Int32} {a7 : Nat → Int64} {j v : Nat} {w : Int32} (hw : w = ps_dc v) (H : ps_MA n sz ar st ad fi M a1 a2 a3 a4 a5 a7) : ps_MA n sz ar st ad (ps_u fi j v) M a1 a2 a3 a4 (upd a5 j w) a7 := by
  intro i hi
  obtain ⟨h1, h2, h3, h4, h5, h7⟩ := H i hi
  refine ⟨h1, h2, h3, h4, ?_, h7⟩
  by_cases h : i = j
  · subst h
    rw [pk_us, ps_us, hw]
  · rw [pk_un h, ps_un h, h5]
theorem ps_ma7 {a1 a2 a3 a4 a5 : Nat → Int32} {a7 : Nat → Int64} {j v : Nat} {w : Int64} (hw : w = lN v) (H : ps_MA n sz ar st ad fi M a1 a2 a3 a4 a5 a7) : ps_MA n sz ar st ad fi (ps_u M j v) a1 a2 a3 a4 a5 (vp_updL a7 j w) := by
  intro i hi
  obtain ⟨h1, h2, h3, h4, h5, h7⟩ := H i hi
  refine ⟨h1, h2, h3, h4, h5, ?_⟩
  by_cases h : i = j
  · subst h
    rw [pk_uLs, ps_us, hw]
  · rw [pk_uLn h, ps_un h, h7]
/-- lengths -/
theorem ps_len {L : List Nat} {b : Nat} (h : L.Pairwise (ps_lt ar)) (hb : ∀ j, j ∈ L → j < b) : L.length ≤ b := by
  have hn : L.Nodup := h.imp (fun {a b} z y => by
    subst y
    unfold ps_lt at z
    omega)
  have := List.Nodup.length_le_of_subset hn (l₂ := List.range b) (fun j hj => List.mem_range.mpr (hb j hj))
  rw [List.length_range] at this
  exact this
theorem ps_pi_len (H : ps_PI n sz ar e g t c st ad fi M LL CL) : LL.length + CL.length ≤ 16 := by
  obtain ⟨P1, P2, P3, P4, P5, P6, P7, P8, P9, P10⟩ := H
  have := ps_len (b := 16) P5 (fun j hj => by
    rcases List.mem_append.mp hj with h | h
    · have := (P3 j).mp h
      omega
    · have := (P4 j).mp h
      omega)
  rw [List.length_append] at this
  exact this
end
end
section
section
variable {T J : Int32} {C : Int64} {H K I : Int32} {a1 a2 a3 a4 a5 a6 : Nat → Int32} {a7 : Nat → Int64} {a8 a9 a10 : Nat → Int32}
theorem ps_sooner {u : St1} {x y : Nat} (hx : x < 24) (hy : y < 24) : (∀ post : Int32 → Prop, post 0 → wpX_sooner post u (nI x) (nI y)) ∨ (∀ post : Int32 → Prop, post 1 → wpX_sooner post u (nI x) (nI y)) := by
  obtain ⟨T, J, C, H, K, I, a1, a2, a3, a4, a5, a6, a7, a8, a9, a10⟩ := u
  have ix : vp_in (nI x) 24 := pk_in x 24 hx
  have iy : vp_in (nI y) 24 := pk_in y 24 hy
  by_cases h1 : a7 (nI x).toNatClampNeg < a7 (nI y).toNatClampNeg
  · exact Or.inr (fun post hp => ⟨ix, iy, br_t h1 hp⟩)
  · by_cases h2 : a7 (nI x).toNatClampNeg = a7 (nI y).toNatClampNeg
    · by_cases h3 : nI y ≤ nI x
      · exact Or.inl (fun post hp => ⟨ix, iy, br_f h1 ⟨ix, iy, br_t h2 (br_t h3 hp)⟩⟩)
      · exact Or.inr (fun post hp => ⟨ix, iy, br_f h1 ⟨ix, iy, br_t h2 (br_f h3 hp)⟩⟩)
    · exact Or.inl (fun post hp => ⟨ix, iy, br_f h1 ⟨ix, iy, br_f h2 hp⟩⟩)
theorem ps_par {i : Nat} (h0 : 1 ≤ i) (h : i < 100) : (nI i - 1) / 2 = nI ((i - 1) / 2) := by
  have e1 : nI i - 1 = nI (i - 1) := pk_sub (b := 1) (by omega)
  rw [e1]
  exact pk_div (d := 2) (by omega) (by omega) (by omega)
theorem ps_up15 {x h : Nat} {S : Nat → Prop} (hx : x < 24) (hh : h ≤ 8) : ∀ (i : Nat) (a8 : Nat → Int32), i < h → ps_hp (upd a8 i (nI x)) h S →
    ∃ b, ps_hp b h S ∧ ∀ (post : St1 → Prop), post (T, J, C, H, K, I, a1, a2, a3, a4, a5, a6, a7, b, a9, a10) → ∀ f, i < f → wX_push_15 post (nI x) T J C H K I f (nI i) a1 a2 a3 a4 a5 a6 a7 a8 a9 a10 := by
  intro i
  induction i using Nat.strongRecOn with
  | ind i ih =>
    intro a8 hi hp
    by_cases h0 : i = 0
    · refine ⟨upd a8 i (nI x), hp, fun post HP f hf => ?_⟩
      obtain ⟨f, rfl⟩ : ∃ g, f = g + 1 := ⟨f - 1, by omega⟩
      exact pk_le i 0 (fun _ => ⟨pk_in i 8 (by omega), nm_r (by rw [nI_clamp (by omega)]) HP⟩) (fun z => absurd z (by omega))
    · have hq : (i - 1) / 2 < i := by omega
      obtain ⟨j, hj, ej⟩ := ps_hp_at (p := (i - 1) / 2) (by omega) (by omega) hp
      have e3 := ps_par (i := i) (by omega) (by omega)
      have e4 : a8 (nI ((i - 1) / 2)).toNatClampNeg = nI j := by rw [nI_clamp (by omega), ej]
      rcases ps_sooner (u := (T, J, C, H, K, I, a1, a2, a3, a4, a5, a6, a7, a8, a9, a10)) (x := x) (y := j) hx hj with hs | hs
      · refine ⟨upd a8 i (nI x), hp, fun post HP f hf => ?_⟩
        obtain ⟨f, rfl⟩ : ∃ g, f = g + 1 := ⟨f - 1, by omega⟩
        refine pk_le i 0 (fun z => absurd z (by omega)) (fun _ => ⟨by decide, ?_, ?_⟩)
        · rw [e3]
          exact pk_in ((i - 1) / 2) 8 (by omega)
        · rw [e3, e4]
          exact hs _ (br_t rfl ⟨pk_in i 8 (by omega), nm_r (by rw [nI_clamp (by omega)]) HP⟩)
      · obtain ⟨b, hb, hw⟩ := ih ((i - 1) / 2) hq (upd a8 i (nI j)) (by omega) (ps_hp_mv hi (by omega) (by omega) ej hp)
        refine ⟨b, hb, fun post HP f hf => ?_⟩
        obtain ⟨f, rfl⟩ : ∃ g, f = g + 1 := ⟨f - 1, by omega⟩
        refine pk_le i 0 (fun z => absurd z (by omega)) (fun _ => ⟨by decide, ?_, ?_⟩)
        · rw [e3]
          exact pk_in ((i - 1) / 2) 8 (by omega)
        · rw [e3, e4]
          refine hs _ (br_f (by decide) ⟨by decide, pk_in ((i - 1) / 2) 8 (by omega), pk_in i 8 (by omega), nm_r (by rw [nI_clamp (by omega)]) ⟨by decide, nm_e (hw post HP f (by omega))⟩⟩)
theorem ps_push {x h : Nat} {S : Nat → Prop} (hx : x < 24) (hh : h < 8) (hS : ¬ S x) (hp : ps_hp a8 h S) :
    ∃ b, ps_hp b (h + 1) (fun j => S j ∨ j = x) ∧ ∀ (post : St1 → Prop), post (T, J, C, nI (h + 1), K, I, a1, a2, a3, a4, a5, a6, a7, b, a9, a10) → wpX_push post (T, J, C, nI h, K, I, a1, a2, a3, a4, a5, a6, a7, a8, a9, a10) (nI x) := by
  obtain ⟨b, hb, hw⟩ := ps_up15 (T := T) (J := J) (C := C) (H := nI (h + 1)) (K := K) (I := I) (a1 := a1) (a2 := a2) (a3 := a3) (a4 := a4) (a5 := a5) (a6 := a6) (a7 := a7) (a9 := a9) (a10 := a10) hx (by omega : h + 1 ≤ 8) h a8 (by omega) (ps_hp_push hx hS hp)
  exact ⟨b, hb, fun post HP => nm_r (nI_1 h) ⟨h + 1, hw post HP (h + 1) (by omega)⟩⟩
theorem ps_sink5 {x h : Nat} {S : Nat → Prop} (hx : x < 24) (hh : h ≤ 8) : ∀ (d s i : Nat) (a8 : Nat → Int32), s + d = 8 → i < h → ps_hp (upd a8 i (nI x)) h S →
    ∃ b, ps_hp b h S ∧ ∀ (post : St1 → Prop), post (T, J, C, nI h, K, I, a1, a2, a3, a4, a5, a6, a7, b, a9, a10) → ∀ f, d < f → wX_sink_5 post (nI x) T J C (nI h) K I f (nI i) (nI s) a1 a2 a3 a4 a5 a6 a7 a8 a9 a10 := by
  intro d
  induction d with
  | zero =>
    intro s i a8 hs hi hp
    refine ⟨upd a8 i (nI x), hp, fun post HP f hf => ?_⟩
    obtain ⟨f, rfl⟩ : ∃ g, f = g + 1 := ⟨f - 1, by omega⟩
    exact pk_le 8 s (fun _ => ⟨pk_in i 8 (by omega), nm_r (by rw [nI_clamp (by omega)]) HP⟩) (fun z => absurd z (by omega))
  | succ d ih =>
    intro s i a8 hs hi hp
    have key : ∀ q, q ≠ i → q < 1000 → ∃ b, ps_hp b h S ∧ ∀ (post : St1 → Prop), post (T, J, C, nI h, K, I, a1, a2, a3, a4, a5, a6, a7, b, a9, a10) → ∀ f, d < f → wX_sink_56 post (wX_sink_5 post (nI x) T J C (nI h) K I f) (nI x) (nI i) (nI s) (nI q) T J C (nI h) K I a1 a2 a3 a4 a5 a6 a7 a8 a9 a10 := by
      intro q hq hq2
      by_cases hc : h ≤ q
      · obtain ⟨b, hb, hw⟩ := ih (s + 1) i a8 (by omega) hi hp
        exact ⟨b, hb, fun post HP f hf => pk_le h q (fun _ => nm_r (nI_1 s) (hw post HP f hf)) (fun z => absurd z (by omega))⟩
      · obtain ⟨j, hj, ej⟩ := ps_hp_at (p := q) (by omega) hq hp
        have e4 : a8 (nI q).toNatClampNeg = nI j := by rw [nI_clamp (by omega), ej]
        rcases ps_sooner (u := (T, J, C, nI h, K, I, a1, a2, a3, a4, a5, a6, a7, a8, a9, a10)) (x := j) (y := x) hj hx with hs' | hs'
        · obtain ⟨b, hb, hw⟩ := ih (s + 1) i a8 (by omega) hi hp
          refine ⟨b, hb, fun post HP f hf => ?_⟩
          refine pk_le h q (fun z => absurd z (by omega)) (fun _ => ⟨pk_in q 8 (by omega), ?_⟩)
          rw [e4]
          exact hs' _ (br_t rfl (nm_r (nI_1 s) (hw post HP f hf)))
        · obtain ⟨b, hb, hw⟩ := ih (s + 1) q (upd a8 i (nI j)) (by omega) (by omega) (ps_hp_mv hi (by omega) hq ej hp)
          refine ⟨b, hb, fun post HP f hf => ?_⟩
          refine pk_le h q (fun z => absurd z (by omega)) (fun _ => ⟨pk_in q 8 (by omega), ?_⟩)
          rw [e4]
          exact hs' _ (br_f (by decide) ⟨pk_in q 8 (by omega), pk_in i 8 (by omega), nm_r (by rw [nI_clamp (by omega)]) (nm_r (nI_1 s) (hw post HP f hf))⟩)
    have e2 : (2 : Int32) * nI i + 1 = nI (2 * i + 1) := by
      have := pk_mul 2 i
      rw [← nI_1, ← this]
      rfl
    by_cases hc : h ≤ 2 * i + 1 + 1
    · obtain ⟨b, hb, hw⟩ := key (2 * i + 1) (by omega) (by omega)
      refine ⟨b, hb, fun post HP f hf => ?_⟩
      obtain ⟨f, rfl⟩ : ∃ g, f = g + 1 := ⟨f - 1, by omega⟩
      exact pk_le 8 s (fun z => absurd z (by omega)) (fun _ => nm_r e2 (pk_le h (2 * i + 1 + 1) (fun _ => hw post HP f (by omega)) (fun z => absurd z (by omega)) rfl (nI_1 _)))
    · obtain ⟨j1, hj1, ej1⟩ := ps_hp_at (p := 2 * i + 1 + 1) (by omega) (by omega) hp
      obtain ⟨j0, hj0, ej0⟩ := ps_hp_at (p := 2 * i + 1) (by omega) (by omega) hp
      have e4 : a8 (nI (2 * i + 1) + 1).toNatClampNeg = nI j1 := by rw [nI_1, nI_clamp (by omega), ej1]
      have e5 : a8 (nI (2 * i + 1)).toNatClampNeg = nI j0 := by rw [nI_clamp (by omega), ej0]
      rcases ps_sooner (u := (T, J, C, nI h, K, I, a1, a2, a3, a4, a5, a6, a7, a8, a9, a10)) (x := j1) (y := j0) hj1 hj0 with hs' | hs'
      · obtain ⟨b, hb, hw⟩ := key (2 * i + 1) (by omega) (by omega)
        refine ⟨b, hb, fun post HP f hf => ?_⟩
        obtain ⟨f, rfl⟩ : ∃ g, f = g + 1 := ⟨f - 1, by omega⟩
        refine pk_le 8 s (fun z => absurd z (by omega)) (fun _ => nm_r e2 (pk_le h (2 * i + 1 + 1) (fun z => absurd z (by omega)) (fun _ => ⟨pk_in (2 * i + 1 + 1) 8 (by omega) (nI_1 _), pk_in (2 * i + 1) 8 (by omega), ?_⟩) rfl (nI_1 _)))
        rw [e4, e5]
        exact hs' _ (br_t rfl (hw post HP f (by omega)))
      · obtain ⟨b, hb, hw⟩ := key (2 * i + 1 + 1) (by omega) (by omega)
        refine ⟨b, hb, fun post HP f hf => ?_⟩
        obtain ⟨f, rfl⟩ : ∃ g, f = g + 1 := ⟨f - 1, by omega⟩
        refine pk_le 8 s (fun z => absurd z (by omega)) (fun _ => nm_r e2 (pk_le h (2 * i + 1 + 1) (fun z => absurd z (by omega)) (fun _ => ⟨pk_in (2 * i + 1 + 1) 8 (by omega) (nI_1 _), pk_in (2 * i + 1) 8 (by omega), ?_⟩) rfl (nI_1 _)))
        rw [e4, e5]
        exact hs' _ (br_f (by decide) (nm_r (nI_1 _) (hw post HP f (by omega))))
theorem ps_tk78 {x h i : Nat} {S : Nat → Prop} (hx : x < 24) (hh : h ≤ 8) (hi : i < h) (hp : ps_hp (upd a8 i (nI x)) h S) :
    ∃ b, ps_hp b h S ∧ ∀ (post : St1 → Prop), post (T, J, C, nI h, K, I, a1, a2, a3, a4, a5, a6, a7, b, a9, a10) → wX_takeOut_78 post (nI x) (nI i) T J C (nI h) K I a1 a2 a3 a4 a5 a6 a7 a8 a9 a10 := by
  obtain ⟨b, hb, hw⟩ := ps_sink5 (T := T) (J := J) (C := C) (K := K) (I := I) (a1 := a1) (a2 := a2) (a3 := a3) (a4 := a4) (a5 := a5) (a6 := a6) (a7 := a7) (a9 := a9) (a10 := a10) hx hh 8 0 i a8 (by omega) hi hp
  refine ⟨b, hb, fun post HP => ?_⟩
  unfold wX_takeOut_78
  exact ⟨9, hw _ HP 9 (by omega)⟩
theorem ps_tk31 {x h : Nat} {S : Nat → Prop} (hx : x < 24) (hh : h ≤ 8) : ∀ (i : Nat) (a8 : Nat → Int32), i < h → ps_hp (upd a8 i (nI x)) h S →
    ∃ b, ps_hp b h S ∧ ∀ (post : St1 → Prop), post (T, J, C, nI h, K, I, a1, a2, a3, a4, a5, a6, a7, b, a9, a10) → ∀ f, i < f → wX_takeOut_31 post (nI x) T J C (nI h) K I f (nI i) a1 a2 a3 a4 a5 a6 a7 a8 a9 a10 := by
  intro i
  induction i using Nat.strongRecOn with
  | ind i ih =>
    intro a8 hi hp
    by_cases h0 : i = 0
    · obtain ⟨b, hb, hw⟩ := ps_tk78 (T := T) (J := J) (C := C) (K := K) (I := I) (a1 := a1) (a2 := a2) (a3 := a3) (a4 := a4) (a5 := a5) (a6 := a6) (a7 := a7) (a9 := a9) (a10 := a10) hx hh hi hp
      refine ⟨b, hb, fun post HP f hf => ?_⟩
      obtain ⟨f, rfl⟩ : ∃ g, f = g + 1 := ⟨f - 1, by omega⟩
      exact pk_le i 0 (fun _ => hw post HP) (fun z => absurd z (by omega))
    · have hq : (i - 1) / 2 < i := by omega
      obtain ⟨j, hj, ej⟩ := ps_hp_at (p := (i - 1) / 2) (by omega) (by omega) hp
      have e3 := ps_par (i := i) (by omega) (by omega)
      have e4 : a8 (nI ((i - 1) / 2)).toNatClampNeg = nI j := by rw [nI_clamp (by omega), ej]
      rcases ps_sooner (u := (T, J, C, nI h, K, I, a1, a2, a3, a4, a5, a6, a7, a8, a9, a10)) (x := x) (y := j) hx hj with hs | hs
      · obtain ⟨b, hb, hw⟩ := ps_tk78 (T := T) (J := J) (C := C) (K := K) (I := I) (a1 := a1) (a2 := a2) (a3 := a3) (a4 := a4) (a5 := a5) (a6 := a6) (a7 := a7) (a9 := a9) (a10 := a10) hx hh hi hp
        refine ⟨b, hb, fun post HP f hf => ?_⟩
        obtain ⟨f, rfl⟩ : ∃ g, f = g + 1 := ⟨f - 1, by omega⟩
        refine pk_le i 0 (fun z => absurd z (by omega)) (fun _ => ⟨by decide, ?_, ?_⟩)
        · rw [e3]
          exact pk_in ((i - 1) / 2) 8 (by omega)
        · rw [e3, e4]
          exact hs _ (br_t rfl (hw post HP))
      · obtain ⟨b, hb, hw⟩ := ih ((i - 1) / 2) hq (upd a8 i (nI j)) (by omega) (ps_hp_mv hi (by omega) (by omega) ej hp)
        refine ⟨b, hb, fun post HP f hf => ?_⟩
        obtain ⟨f, rfl⟩ : ∃ g, f = g + 1 := ⟨f - 1, by omega⟩
        refine pk_le i 0 (fun z => absurd z (by omega)) (fun _ => ⟨by decide, ?_, ?_⟩)
        · rw [e3]
          exact pk_in ((i - 1) / 2) 8 (by omega)
        · rw [e3, e4]
          refine hs _ (br_f (by decide) ⟨by decide, pk_in ((i - 1) / 2) 8 (by omega), pk_in i 8 (by omega), nm_r (by rw [nI_clamp (by omega)]) ⟨by decide, nm_e (hw post HP f (by omega))⟩⟩)
theorem ps_takeOut {h p : Nat} {S : Nat → Prop} (hh : h < 8) (hp' : p ≤ h) (hp : ps_hp a8 (h + 1) S) :
    ∃ b, ps_hp b h (fun j => S j ∧ nI j ≠ a8 p) ∧ ∀ (post : St1 → Prop), post (T, J, C, nI h, K, I, a1, a2, a3, a4, a5, a6, a7, b, a9, a10) → wpX_takeOut post (T, J, C, nI (h + 1), K, I, a1, a2, a3, a4, a5, a6, a7, a8, a9, a10) (nI p) := by
  by_cases h0 : p = h
  · subst h0
    exact ⟨a8, ps_hp_last hp, fun post HP => nm_r (nI_pred p) ⟨pk_in p 8 hh, nm_e (pk_eq p p (fun _ => HP) (fun z => absurd rfl z))⟩⟩
  · obtain ⟨x, hx, ex, _⟩ := hp.1 h (by omega)
    have h1 := ps_hp_rm (p := p) (by omega) hp
    rw [ex] at h1
    obtain ⟨b, hb, hw⟩ := ps_tk31 (T := T) (J := J) (C := C) (K := K) (I := I) (a1 := a1) (a2 := a2) (a3 := a3) (a4 := a4) (a5 := a5) (a6 := a6) (a7 := a7) (a9 := a9) (a10 := a10) hx (by omega : h ≤ 8) p a8 (by omega) h1
    exact ⟨b, hb, fun post HP => nm_r (nI_pred h) ⟨pk_in h 8 hh, nm_r (e' := nI x) (by rw [nI_clamp (by omega), ex]) (pk_eq p h (fun z => absurd z h0) (fun _ => ⟨p + 1, hw post HP (p + 1) (by omega)⟩))⟩⟩
end
end
section
def ps_IV (n : Nat) (sz ar : Nat → Nat) (e g t : Nat) (s : St1) : Prop :=
  ∃ (c h : Nat) (st ad fi M : Nat → Nat) (LL CL : List Nat) (a1 a2 a3 a4 a5 a6 : Nat → Int32) (a7 : Nat → Int64) (a8 a9 a10 : Nat → Int32),
    s = (nI t, nI n, lN c, nI h, nI CL.length, nI LL.length, a1, a2, a3, a4, a5, a6, a7, a8, a9, a10) ∧ h ≤ 8 ∧ ps_PI n sz ar e g t c st ad fi M LL CL ∧ ps_MA n sz ar st ad fi M a1 a2 a3 a4 a5 a7 ∧ ps_ls a9 CL ∧ ps_ls a10 LL ∧ ps_hp a8 h (fun j => j < n ∧ st j = 2)
def ps_iA (s : St1) : Prop := match s with
  | (T, J, C, H, K, I, a1, a2, a3, a4, a5, a6, a7, a8, a9, a10) => K ≤ 0 ∨ T < a2 (a9 0).toNatClampNeg
def ps_iM (s : St1) : Prop := match s with
  | (T, J, C, H, K, I, a1, a2, a3, a4, a5, a6, a7, a8, a9, a10) => I ≤ 0 ∨ 8 ≤ H
def ps_iC (s : St1) : Prop := match s with
  | (T, J, C, H, K, I, a1, a2, a3, a4, a5, a6, a7, a8, a9, a10) => H ≤ 0 ∨ C < a7 (a8 0).toNatClampNeg
theorem ps_ls_snoc {a : Nat → Int32} {L : List Nat} {v : Nat} {w : Int32} (hw : w = nI v) (h : ps_ls a L) : ps_ls (upd a L.length w) (L ++ [v]) := by
  intro i u hi
  by_cases h1 : i < L.length
  · rw [List.getElem?_append_left h1] at hi
    rw [pk_un (by omega)]
    exact h i u hi
  · by_cases h2 : i = L.length
    · subst h2
      rw [List.getElem?_append_right (Nat.le_refl _), Nat.sub_self] at hi
      have : v = u := Option.some.inj hi
      rw [pk_us, hw, this]
    · rw [List.getElem?_eq_none (by rw [List.length_append, List.length_singleton]; omega)] at hi
      exact absurd hi.symm (Option.some_ne_none u)
theorem ps_ls_at {a : Nat → Int32} {L : List Nat} {m : Nat} (h : ps_ls a L) (hm : m < L.length) : ∃ j, L.drop m = j :: L.drop (m + 1) ∧ a m = nI j ∧ j ∈ L := by
  refine ⟨L[m], List.drop_eq_getElem_cons hm, h m L[m] (List.getElem?_eq_getElem hm), List.getElem_mem hm⟩
section
variable {T J : Int32} {C : Int64} {H K I : Int32} {a1 a2 a3 a4 a5 a6 : Nat → Int32} {a7 : Nat → Int64} {a8 a9 a10 : Nat → Int32}
variable {n : Nat} {sz ar : Nat → Nat} {t c h : Nat} {ad fi M : Nat → Nat}
theorem ps_ar83 {m k : Nat} (hk : k + m ≤ 24) : ∀ (d i : Nat) (a9 : Nat → Int32), i + d = k → ∀ post : St1 → Prop, post (T, J, C, H, nI k, I, a1, a2, a3, a4, a5, a6, a7, a8, ps_sh a9 i k m, a10) → ∀ f, d < f → wX_arrive_83 post (nI m) T J C H (nI k) I f (nI i) a1 a2 a3 a4 a5 a6 a7 a8 a9 a10 := by
  intro d
  induction d with
  | zero =>
    intro i a9 hi post HP f hf
    obtain ⟨f, rfl⟩ : ∃ g, f = g + 1 := ⟨f - 1, by omega⟩
    obtain rfl : i = k := by omega
    rw [ps_sh_end] at HP
    exact pk_le i i (fun _ => HP) (fun z => absurd z (by omega))
  | succ d ih =>
    intro i a9 hi post HP f hf
    obtain ⟨f, rfl⟩ : ∃ g, f = g + 1 := ⟨f - 1, by omega⟩
    rw [← ps_sh_step (by omega)] at HP
    exact pk_le k i (fun z => absurd z (by omega)) (fun _ => ⟨pk_in (i + m) 24 (by omega) (nI_add i m), pk_in i 24 (by omega), nm_r (by rw [nI_add, nI_clamp (by omega), nI_clamp (by omega)]) (nm_r (nI_1 i) (ih (i + 1) _ (by omega) post HP f (by omega)))⟩)
theorem ps_ar71 {m k : Nat} (hm : m ≤ k) (hk : k ≤ 24) {post : St1 → Prop} (HP : post (T, J, C, H, nI (k - m), I, a1, a2, a3, a4, a5, a6, a7, a8, ps_sh a9 0 (k - m) m, a10)) : wX_arrive_71 post (nI m) T J C H (nI k) I a1 a2 a3 a4 a5 a6 a7 a8 a9 a10 := by
  unfold wX_arrive_71
  exact nm_r (pk_sub hm) ⟨k - m + 1, ps_ar83 (by omega) (k - m) 0 a9 (by omega) post HP (k - m + 1) (by omega)⟩
theorem ps_ar_fin {m : Nat} {st : Nat → Nat} {LL CL : List Nat} (hh : h ≤ 8) (P : ps_PI n sz ar 0 0 t c st ad fi M LL (CL.drop m)) (A : ps_MA n sz ar st ad fi M a1 a2 a3 a4 a5 a7) (h9 : ps_ls a9 CL) (h10 : ps_ls a10 LL) (hp : ps_hp a8 h (fun j => j < n ∧ st j = 2)) :
    ps_IV n sz ar 0 0 t (nI t, nI n, lN c, nI h, nI (CL.length - m), nI LL.length, a1, a2, a3, a4, a5, a6, a7, a8, ps_sh a9 0 (CL.length - m) m, a10) := by
  refine ⟨c, h, st, ad, fi, M, LL, CL.drop m, a1, a2, a3, a4, a5, a6, a7, a8, _, a10, ?_, hh, P, A, ps_sh_ls h9, h10, hp⟩
  rw [List.length_drop]
theorem ps_ar2 {CL : List Nat} (ht : t ≤ 100000) (hh : h ≤ 8) (h9 : ps_ls a9 CL) (hl : CL.length ≤ 16) : ∀ (d m : Nat) (LL : List Nat) (st : Nat → Nat) (a3 a10 : Nat → Int32), m + d = CL.length →
    ps_PI n sz ar 0 0 t c st ad fi M LL (CL.drop m) → ps_MA n sz ar st ad fi M a1 a2 a3 a4 a5 a7 → ps_ls a10 LL → ps_hp a8 h (fun j => j < n ∧ st j = 2) →
    ∃ s', ps_IV n sz ar 0 0 t s' ∧ ps_iA s' ∧ ∀ post : St1 → Prop, post s' → ∀ f, d < f → wX_arrive_2 post (nI t) (nI n) (lN c) (nI h) (nI CL.length) f (nI m) (nI LL.length) a1 a2 a3 a4 a5 a6 a7 a8 a9 a10 := by
  intro d
  induction d with
  | zero =>
    intro m LL st a3 a10 hm P A h10 hp
    refine ⟨_, ps_ar_fin (a6 := a6) hh P A h9 h10 hp, Or.inl ?_, fun post HP f hf => ?_⟩
    · exact nI_le (b := 0) (by omega) (by omega)
    · obtain ⟨f, rfl⟩ : ∃ g, f = g + 1 := ⟨f - 1, by omega⟩
      exact pk_le CL.length m (fun _ => ps_ar71 (by omega) (by omega) HP) (fun z => absurd z (by omega))
  | succ d ih =>
    intro m LL st a3 a10 hm P A h10 hp
    obtain ⟨j, ej, e9, _⟩ := ps_ls_at h9 (m := m) (by omega)
    have hlen := ps_pi_len P
    rw [List.length_drop] at hlen
    have hj : j < n ∧ st j = 0 := (P.2.2.2.1 j).mp (by rw [ej]; exact List.mem_cons_self ..)
    have hn := P.1.1
    have har := (P.2.1 j hj.1).2.2
    have e4 : a9 (nI m).toNatClampNeg = nI j := by rw [nI_clamp (by omega), e9]
    have e5 : a2 (nI j).toNatClampNeg = nI (ar j) := by rw [nI_clamp (by omega), (A j hj.1).2.1]
    by_cases hc : ar j ≤ t
    · have P' := P
      rw [ej] at P'
      obtain ⟨s', i1, i2, hw⟩ := ih (m + 1) (LL ++ [j]) (ps_u st j 1) (upd a3 j (nI 1)) (upd a10 LL.length (nI j)) (by omega) (ps_pu_arr P') (ps_ma3 A) (ps_ls_snoc rfl h10) (ps_hp_ext (fun k => by
        by_cases hk : k = j
        · subst hk
          rw [ps_us]
          omega
        · rw [ps_un hk]) hp)
      rw [List.length_append, List.length_singleton] at hw
      refine ⟨s', i1, i2, fun post HP f hf => ?_⟩
      obtain ⟨f, rfl⟩ : ∃ g, f = g + 1 := ⟨f - 1, by omega⟩
      refine pk_le CL.length m (fun z => absurd z (by omega)) (fun _ => ?_)
      rw [e4, e5]
      refine ⟨pk_in m 24 (by omega), pk_in j 24 (by omega), pk_lt t (ar j) (fun z => absurd z (by omega)) (fun _ => ⟨pk_in m 24 (by omega), pk_in j 24 (by omega), nm_r (e' := upd a3 j (nI 1)) (by rw [nI_clamp (by omega)] <;> rfl) ⟨pk_in m 24 (by omega), pk_in LL.length 24 (by omega), nm_r (e' := upd a10 LL.length (nI j)) (by rw [nI_clamp (by omega)]) (nm_r (nI_1 _) (nm_r (nI_1 m) (hw post HP f (by omega))))⟩⟩)⟩
    · refine ⟨_, ps_ar_fin (a6 := a6) hh P A h9 h10 hp, Or.inr ?_, fun post HP f hf => ?_⟩
      · have e6 : ps_sh a9 0 (CL.length - m) m 0 = nI j := by
          unfold ps_sh
          rw [if_pos (by omega), Nat.zero_add, e9]
        rw [e6, e5]
        exact nI_lt (by omega) (by omega)
      · obtain ⟨f, rfl⟩ : ∃ g, f = g + 1 := ⟨f - 1, by omega⟩
        refine pk_le CL.length m (fun z => absurd z (by omega)) (fun _ => ?_)
        rw [e4, e5]
        exact ⟨pk_in m 24 (by omega), pk_in j 24 (by omega), pk_lt t (ar j) (fun _ => ps_ar71 (by omega) (by omega) HP) (fun z => absurd z (by omega))⟩
theorem ps_arrive {s : St1} (ht : t ≤ 100000) (V : ps_IV n sz ar 0 0 t s) : ∃ s', ps_IV n sz ar 0 0 t s' ∧ ps_iA s' ∧ (ps_iA s → s' = s) ∧ ∀ post : St1 → Prop, post s' → wpX_arrive post s := by
  have V0 := V
  obtain ⟨c, h, st, ad, fi, M, LL, CL, a1, a2, a3, a4, a5, a6, a7, a8, a9, a10, rfl, hh, P, A, h9, h10, hp⟩ := V
  have hlen := ps_pi_len P
  by_cases hi : ps_iA (nI t, nI n, lN c, nI h, nI CL.length, nI LL.length, a1, a2, a3, a4, a5, a6, a7, a8, a9, a10)
  · refine ⟨_, V0, hi, fun _ => rfl, fun post HP => ?_⟩
    have h71 : wX_arrive_71 post (nI 0) (nI t) (nI n) (lN c) (nI h) (nI CL.length) (nI LL.length) a1 a2 a3 a4 a5 a6 a7 a8 a9 a10 := ps_ar71 (m := 0) (by omega) (by omega) (by rw [ps_sh_0, Nat.sub_zero]; exact HP)
    refine ⟨1, ?_⟩
    by_cases h0 : CL.length = 0
    · exact pk_le CL.length 0 (fun _ => h71) (fun z => absurd z (by omega))
    · obtain ⟨j, ej, e9, mj⟩ := ps_ls_at h9 (m := 0) (by omega)
      have hj : j < n ∧ st j = 0 := (P.2.2.2.1 j).mp mj
      have hn := P.1.1
      refine pk_le CL.length 0 (fun z => absurd z (by omega)) (fun _ => ⟨pk_in 0 24 (by omega), ?_, br_t ?_ h71⟩)
      · exact pk_in j 24 (by omega) e9
      · rcases hi with z | z
        · exact absurd z (nI_nle (by omega) (by omega))
        · exact z
  · obtain ⟨s', i1, i2, hw⟩ := ps_ar2 (a6 := a6) ht hh h9 (by omega) CL.length 0 LL st a3 a10 (by omega) P A h10 hp
    exact ⟨s', i1, i2, fun z => absurd z hi, fun post HP => ⟨CL.length + 1, hw post HP (CL.length + 1) (by omega)⟩⟩
end
end
section
section
variable {T J : Int32} {C : Int64} {H K I : Int32} {a1 a2 a3 a4 a5 a6 : Nat → Int32} {a7 : Nat → Int64} {a8 a9 a10 : Nat → Int32}
variable {n : Nat} {sz ar : Nat → Nat} {t c : Nat} {fi : Nat → Nat}
theorem ps_ad84 {m k : Nat} (hk : k + m ≤ 24) : ∀ (d i : Nat) (a10 : Nat → Int32), i + d = k → ∀ post : St1 → Prop, post (T, J, C, H, K, nI k, a1, a2, a3, a4, a5, a6, a7, a8, a9, ps_sh a10 i k m) → ∀ f, d < f → wX_admit_84 post (nI m) T J C H K (nI k) f (nI i) a1 a2 a3 a4 a5 a6 a7 a8 a9 a10 := by
  intro d
  induction d with
  | zero =>
    intro i a10 hi post HP f hf
    obtain ⟨f, rfl⟩ : ∃ g, f = g + 1 := ⟨f - 1, by omega⟩
    obtain rfl : i = k := by omega
    rw [ps_sh_end] at HP
    exact pk_le i i (fun _ => HP) (fun z => absurd z (by omega))
  | succ d ih =>
    intro i a10 hi post HP f hf
    obtain ⟨f, rfl⟩ : ∃ g, f = g + 1 := ⟨f - 1, by omega⟩
    rw [← ps_sh_step (by omega)] at HP
    exact pk_le k i (fun z => absurd z (by omega)) (fun _ => ⟨pk_in (i + m) 24 (by omega) (nI_add i m), pk_in i 24 (by omega), nm_r (by rw [nI_add, nI_clamp (by omega), nI_clamp (by omega)]) (nm_r (nI_1 i) (ih (i + 1) _ (by omega) post HP f (by omega)))⟩)
theorem ps_ad72 {m k : Nat} (hm : m ≤ k) (hk : k ≤ 24) {post : St1 → Prop} (HP : post (T, J, C, H, K, nI (k - m), a1, a2, a3, a4, a5, a6, a7, a8, a9, ps_sh a10 0 (k - m) m)) : wX_admit_72 post (nI m) T J C H K (nI k) a1 a2 a3 a4 a5 a6 a7 a8 a9 a10 := by
  unfold wX_admit_72
  exact nm_r (pk_sub hm) ⟨k - m + 1, ps_ad84 (by omega) (k - m) 0 a10 (by omega) post HP (k - m + 1) (by omega)⟩
theorem ps_ad_fin {m h : Nat} {st ad M : Nat → Nat} {LL CL : List Nat} (hh : h ≤ 8) (P : ps_PI n sz ar 0 1 t c st ad fi M (LL.drop m) CL) (A : ps_MA n sz ar st ad fi M a1 a2 a3 a4 a5 a7) (h9 : ps_ls a9 CL) (h10 : ps_ls a10 LL) (hp : ps_hp a8 h (fun j => j < n ∧ st j = 2)) :
    ps_IV n sz ar 0 1 t (nI t, nI n, lN c, nI h, nI CL.length, nI (LL.length - m), a1, a2, a3, a4, a5, a6, a7, a8, a9, ps_sh a10 0 (LL.length - m) m) := by
  refine ⟨c, h, st, ad, fi, M, LL.drop m, CL, a1, a2, a3, a4, a5, a6, a7, a8, a9, _, ?_, hh, P, A, h9, ps_sh_ls h10, hp⟩
  rw [List.length_drop]
theorem ps_ad2 {CL LL : List Nat} (ht : t ≤ 100000) (h9 : ps_ls a9 CL) (h10 : ps_ls a10 LL) (hl : LL.length ≤ 16) (hA : nI CL.length ≤ 0 ∨ nI t < a2 (a9 0).toNatClampNeg) : ∀ (d m h : Nat) (st ad M : Nat → Nat) (a3 a4 : Nat → Int32) (a7 : Nat → Int64) (a8 : Nat → Int32), m + d = LL.length → h ≤ 8 →
    ps_PI n sz ar 0 1 t c st ad fi M (LL.drop m) CL → ps_MA n sz ar st ad fi M a1 a2 a3 a4 a5 a7 → ps_hp a8 h (fun j => j < n ∧ st j = 2) →
    ∃ s', ps_IV n sz ar 0 1 t s' ∧ ps_iM s' ∧ ps_iA s' ∧ ∀ post : St1 → Prop, post s' → ∀ f, d < f → wX_admit_2 post f (nI m) (nI t) (nI n) (lN c) (nI h) (nI CL.length) (nI LL.length) a1 a2 a3 a4 a5 a6 a7 a8 a9 a10 := by
  intro d
  induction d with
  | zero =>
    intro m h st ad M a3 a4 a7 a8 hm hh P A hp
    refine ⟨_, ps_ad_fin (a6 := a6) hh P A h9 h10 hp, Or.inl ?_, hA, fun post HP f hf => ?_⟩
    · exact nI_le (b := 0) (by omega) (by omega)
    · obtain ⟨f, rfl⟩ : ∃ g, f = g + 1 := ⟨f - 1, by omega⟩
      exact pk_le LL.length m (fun _ => ps_ad72 (by omega) (by omega) HP) (fun z => absurd z (by omega))
  | succ d ih =>
    intro m h st ad M a3 a4 a7 a8 hm hh P A hp
    by_cases hc : 8 ≤ h
    · refine ⟨_, ps_ad_fin (a6 := a6) hh P A h9 h10 hp, Or.inr (nI_le (a := 8) hc (by omega)), hA, fun post HP f hf => ?_⟩
      obtain ⟨f, rfl⟩ : ∃ g, f = g + 1 := ⟨f - 1, by omega⟩
      exact pk_le LL.length m (fun z => absurd z (by omega)) (fun _ => pk_le 8 h (fun _ => ps_ad72 (by omega) (by omega) HP) (fun z => absurd z (by omega)))
    · obtain ⟨j, ej, e10, _⟩ := ps_ls_at h10 (m := m) (by omega)
      have hj : j < n ∧ st j = 1 := (P.2.2.1 j).mp (by rw [ej]; exact List.mem_cons_self ..)
      have hn := P.1.1
      have hsz := P.2.1 j hj.1
      have e4 : a10 (nI m).toNatClampNeg = nI j := by rw [nI_clamp (by omega), e10]
      have e5 : (nI j).toNatClampNeg = j := nI_clamp (by omega)
      have e6 : lN c + (a1 j).toInt64 = lN (c + sz j) := by
        rw [(A j hj.1).1, nI_l (by omega), lN_add]
      have P' := P
      rw [ej] at P'
      obtain ⟨b, hb, hpush⟩ := ps_push (T := nI t) (J := nI n) (C := lN c) (K := nI CL.length) (I := nI LL.length) (a1 := a1) (a2 := a2) (a3 := upd a3 j (nI 2)) (a4 := upd a4 j (nI t)) (a5 := a5) (a6 := a6) (a7 := vp_updL a7 j (lN (c + sz j))) (a9 := a9) (a10 := a10) (x := j) (by omega) (by omega : h < 8) (fun z => by omega) hp
      obtain ⟨s', i1, i2, i3, hw⟩ := ih (m + 1) (h + 1) (ps_u st j 2) (ps_u ad j (t + 1)) (ps_u M j (c + sz j)) (upd a3 j (nI 2)) (upd a4 j (nI t)) (vp_updL a7 j (lN (c + sz j))) b (by omega) (by omega) (ps_pu_adm P') (ps_ma7 rfl (ps_ma4 rfl (ps_ma3 A))) (ps_hp_ext (fun k => by
        by_cases hk : k = j
        · subst hk
          rw [ps_us]
          omega
        · rw [ps_un hk]
          omega) hb)
      refine ⟨s', i1, i2, i3, fun post HP f hf => ?_⟩
      obtain ⟨f, rfl⟩ : ∃ g, f = g + 1 := ⟨f - 1, by omega⟩
      have ij : vp_in (nI j) 24 := pk_in j 24 (by omega)
      refine pk_le LL.length m (fun z => absurd z (by omega)) (fun _ => pk_le 8 h (fun z => absurd z (by omega)) (fun _ => ⟨pk_in m 24 (by omega), nm_r e4 ?_⟩))
      rw [e5, e6]
      exact ⟨ij, nm_r (e' := upd a3 j (nI 2)) rfl ⟨ij, nm_e ⟨ij, ij, nm_e (hpush _ (nm_r (nI_1 m) (hw post HP f (by omega))))⟩⟩⟩
theorem ps_entry {s : St1} (ht : t ≤ 100000) (V : ps_IV n sz ar 0 0 t s) (hA : ps_iA s) : ∃ s', ps_IV n sz ar 0 1 t s' ∧ ps_iM s' ∧ ps_iA s' ∧ (ps_iM s → s' = s) ∧ ∀ post : St1 → Prop, post s' → wpX_admit post s := by
  obtain ⟨c, h, st, ad, fi, M, LL, CL, a1, a2, a3, a4, a5, a6, a7, a8, a9, a10, rfl, hh, P, A, h9, h10, hp⟩ := V
  have hlen := ps_pi_len P
  have hA' : nI CL.length ≤ 0 ∨ nI t < a2 (a9 0).toNatClampNeg := hA
  by_cases hi : ps_iM (nI t, nI n, lN c, nI h, nI CL.length, nI LL.length, a1, a2, a3, a4, a5, a6, a7, a8, a9, a10)
  · refine ⟨_, ⟨c, h, st, ad, fi, M, LL, CL, a1, a2, a3, a4, a5, a6, a7, a8, a9, a10, rfl, hh, ps_pu_g P, A, h9, h10, hp⟩, hi, hA, fun _ => rfl, fun post HP => ?_⟩
    have h72 : wX_admit_72 post (nI 0) (nI t) (nI n) (lN c) (nI h) (nI CL.length) (nI LL.length) a1 a2 a3 a4 a5 a6 a7 a8 a9 a10 := ps_ad72 (m := 0) (by omega) (by omega) (by rw [ps_sh_0, Nat.sub_zero]; exact HP)
    refine ⟨1, ?_⟩
    by_cases h0 : LL.length = 0
    · exact pk_le LL.length 0 (fun _ => h72) (fun z => absurd z (by omega))
    · refine pk_le LL.length 0 (fun z => absurd z (by omega)) (fun _ => br_t ?_ h72)
      rcases hi with z | z
      · exact absurd z (nI_nle (by omega) (by omega))
      · exact z
  · obtain ⟨s', i1, i2, i3, hw⟩ := ps_ad2 (a6 := a6) ht h9 h10 (by omega) hA' LL.length 0 h st ad M a3 a4 a7 a8 (by omega) hh (ps_pu_g P) A hp
    exact ⟨s', i1, i2, i3, fun z => absurd z hi, fun post HP => ⟨LL.length + 1, hw post HP (LL.length + 1) (by omega)⟩⟩
end
end
section
/-- k ticks of work -/
def ps_w (k : Nat) (s : St1) : St1 := match s with
  | (T, J, C, H, K, I, a1, a2, a3, a4, a5, a6, a7, a8, a9, a10) => (T + nI k, J, if H ≤ 0 then C else C + (840 / H).toInt64 * lN k, H, K, I, a1, a2, a3, a4, a5, a6, a7, a8, a9, a10)
theorem ps_w_add (i j : Nat) (s : St1) : ps_w i (ps_w j s) = ps_w (j + i) s := by
  obtain ⟨T, J, C, H, K, I, a1, a2, a3, a4, a5, a6, a7, a8, a9, a10⟩ := s
  by_cases h : H ≤ 0
  · simp only [ps_w, if_pos h, Int32.add_assoc, nI_add]
  · simp only [ps_w, if_neg h, Int32.add_assoc, nI_add, Int64.add_assoc, ← Int64.mul_add, lN_add]
theorem ps_w_iM {i : Nat} {s : St1} (h : ps_iM s) : ps_iM (ps_w i s) := by
  obtain ⟨T, J, C, H, K, I, a1, a2, a3, a4, a5, a6, a7, a8, a9, a10⟩ := s
  exact h
section
variable {T J : Int32} {C : Int64} {H K I : Int32} {a1 a2 a3 a4 a5 a6 : Nat → Int32} {a7 : Nat → Int64} {a8 a9 a10 : Nat → Int32}
variable {n : Nat} {sz ar : Nat → Nat} {t c : Nat} {ad M : Nat → Nat}
theorem ps_rate {h : Nat} (h1 : 1 ≤ h) (h2 : h ≤ 8) : (840 / nI h : Int32) = nI (840 / h) ∧ (840 / nI h : Int32).toInt64 = lN (840 / h) ∧ 1 ≤ 840 / h ∧ 840 / h ≤ 840 := by
  have e : (840 / nI h : Int32) = nI (840 / h) := pk_div (a := 840) (by omega) (by omega) (by omega)
  have l1 : 1 ≤ 840 / h := Nat.div_pos (by omega) (by omega)
  have l2 : 840 / h ≤ 840 := Nat.div_le_self _ _
  exact ⟨e, by rw [e, nI_l (by omega)], l1, l2⟩
theorem ps_one {e g h i j : Nat} {st fi : Nat → Nat} {LL CL : List Nat} (P : ps_PI n sz ar e g t c st ad fi M LL CL) (hi : i < n) (sa : ps_SA n ad fi i) (hj : j < n) (sj : st j = 2) : j = i := by
  by_cases z : j = i
  · exact z
  · have h6 := P.2.2.2.2.2.1 j hj
    unfold ps_J at h6
    have := sa j hj z (by omega)
    omega
theorem ps_work {s : St1} (V : ps_IV n sz ar 0 1 t s) : ps_IV n sz ar 840 0 (t + 1) (ps_w 1 s) := by
  obtain ⟨c, h, st, ad, fi, M, LL, CL, a1, a2, a3, a4, a5, a6, a7, a8, a9, a10, rfl, hh, P, A, h9, h10, hp⟩ := V
  by_cases h0 : h = 0
  · subst h0
    refine ⟨c + 0, 0, st, ad, fi, M, LL, CL, a1, a2, a3, a4, a5, a6, a7, a8, a9, a10, ?_, hh, ps_pu_wrk (by omega) (fun i hi s2 _ => ?_) P, A, h9, h10, hp⟩
    · rw [← nI_1]
      rfl
    · obtain ⟨_, k, hk, _⟩ := hp.2.1 i ⟨hi, s2⟩
      exact absurd hk (by omega)
  · obtain ⟨r1, r2, r3, r4⟩ := ps_rate (h := h) (by omega) hh
    refine ⟨c + 840 / h, h, st, ad, fi, M, LL, CL, a1, a2, a3, a4, a5, a6, a7, a8, a9, a10, ?_, hh, ps_pu_wrk r4 (fun i hi s2 sa => ?_) P, A, h9, h10, hp⟩
    · have hH : ¬ nI h ≤ 0 := nI_nle (by omega) (by omega)
      simp only [ps_w, if_neg hH, r2, lN_mul, lN_add, nI_add, Nat.mul_one]
    · have h1 : h = 1 := by
        rcases Nat.lt_or_ge h 2 with z | z
        · omega
        · obtain ⟨j0, _, e0, hj0, s0⟩ := hp.1 0 (by omega)
          obtain ⟨j1, _, e1, hj1, s1⟩ := hp.1 1 (by omega)
          have q0 := ps_one (h := h) P hi sa hj0 s0
          have q1 := ps_one (h := h) P hi sa hj1 s1
          have := hp.2.2 0 1 (by omega) (by omega) (by rw [e0, e1, q0, q1])
          omega
      subst h1
      rfl
theorem ps_neg {m c r : Nat} (hr : 1 ≤ r) (hr2 : r ≤ 840) (hc : c ≤ 2 ^ 30) (h : m ≤ c) : ((((lN m - lN c) + lN r) - 1) / lN r).toInt ≤ 0 ∧ -2 ^ 31 ≤ ((((lN m - lN c) + lN r) - 1) / lN r).toInt := by
  have em : (lN m).toInt = m := pk_lT (by omega)
  have ec : (lN c).toInt = c := pk_lT (by omega)
  have er : (lN r).toInt = r := pk_lT (by omega)
  have e1 : (lN m - lN c).toInt = (m : Int) - c := by rw [Jvm.Kit.i64_sub (by omega) (by omega), em, ec]
  have e2 : ((lN m - lN c) + lN r).toInt = (m : Int) - c + r := by rw [Jvm.Kit.i64_add (by omega) (by omega), e1, er]
  have e3 : (((lN m - lN c) + lN r) - 1).toInt = (m : Int) - c + r - 1 := by
    have o : (1 : Int64).toInt = 1 := by decide
    rw [Jvm.Kit.i64_sub (by omega) (by omega), e2, o]
  have e4 : ((((lN m - lN c) + lN r) - 1) / lN r).toInt = ((m : Int) - c + r - 1).tdiv r := by
    rw [Jvm.Kit.i64_div (by omega), e3, er]
  rw [e4]
  by_cases hv : (0 : Int) ≤ (m : Int) - c + r - 1
  · rw [Int.tdiv_eq_zero_of_lt hv (by omega)]
    omega
  · have e5 : (m : Int) - c + r - 1 = -((c : Int) - m - r + 1) := by omega
    rw [e5, Int.neg_tdiv, Int.tdiv_eq_ediv_of_nonneg (by omega)]
    have g1 := Int.ediv_nonneg (a := (c : Int) - m - r + 1) (b := r) (by omega) (by omega)
    have g2 := Int.ediv_le_self (a := (c : Int) - m - r + 1) r (by omega)
    omega
theorem ps_st46 {h k1 m j : Nat} (hh : h ≤ 8) (hk : 1 ≤ k1) (hk2 : k1 ≤ 5000) (hc : c ≤ 2 ^ 30) (hm : m ≤ 2 ^ 31) (hj : 1 ≤ h → j < 24 ∧ a8 0 = nI j ∧ a7 j = lN m) :
    ∃ k, 1 ≤ k ∧ k ≤ k1 ∧ (∀ i, 1 ≤ i → i < k → ps_iC (ps_w i (T, J, lN c, nI h, K, I, a1, a2, a3, a4, a5, a6, a7, a8, a9, a10))) ∧ ∀ post : Int32 → Prop, post (nI k) → wX_stretch_46 post (nI k1) T J (lN c) (nI h) K I a1 a2 a3 a4 a5 a6 a7 a8 a9 a10 := by
  by_cases h0 : h = 0
  · subst h0
    exact ⟨k1, hk, by omega, fun i _ _ => Or.inl (by decide), fun post HP => pk_le 0 0 (fun _ => pk_le 1 k1 (fun _ => HP) (fun z => absurd z (by omega))) (fun z => absurd z (by omega))⟩
  · obtain ⟨r1, r2, r3, r4⟩ := ps_rate (h := h) (by omega) hh
    obtain ⟨j1, j2, j3⟩ := hj (by omega)
    have hH : ¬ nI h ≤ 0 := nI_nle (by omega) (by omega)
    have e7 : a7 (a8 0).toNatClampNeg = lN m := by rw [j2, nI_clamp (by omega), j3]
    have hne : ¬ (lN (840 / h)) = 0 := fun z => by
      have := (pk_lEQ (a := 840 / h) (b := 0) (by omega) (by omega)).mp z
      omega
    generalize hr : 840 / h = r at r1 r2 r3 r4 hne
    have iC : ∀ i, c + r * i < m → ps_iC (ps_w i (T, J, lN c, nI h, K, I, a1, a2, a3, a4, a5, a6, a7, a8, a9, a10)) := by
      intro i hi
      refine Or.inr ?_
      have e8 : (if nI h ≤ 0 then lN c else lN c + (840 / nI h : Int32).toInt64 * lN i) = lN (c + r * i) := by
        rw [if_neg hH, r2, lN_mul, lN_add]
      rw [e8, e7]
      exact (pk_lLT (by omega) (by omega)).mpr hi
    by_cases hcm : c < m
    · have e9 : ((lN m - lN c) + lN r) - 1 = lN (m - c + r - 1) := by
        have : (1 : Int64) = lN 1 := rfl
        rw [this, lN_sub (by omega), lN_add, lN_sub (by omega)]
      have hQ : (m - c + r - 1) / r ≤ m - c + r - 1 := Nat.div_le_self _ _
      have hQ1 : 1 ≤ (m - c + r - 1) / r := (Nat.le_div_iff_mul_le (by omega)).mpr (by omega)
      have hQ2 : r * ((m - c + r - 1) / r) ≤ m - c + r - 1 := Nat.mul_div_le _ _
      have e10 : (((lN m - lN c) + lN r) - 1) / lN r = lN ((m - c + r - 1) / r) := by
        rw [e9, pk_lDiv (by omega) (by omega) (by omega)]
      generalize (m - c + r - 1) / r = Q at hQ hQ1 hQ2 e10
      have inc : ∀ i, i < Q → c + r * i < m := by
        intro i hi
        have g1 : r * (i + 1) ≤ r * Q := Nat.mul_le_mul_left r (by omega)
        rw [Nat.mul_add, Nat.mul_one] at g1
        omega
      have e11 : (nI k1).toInt64 = lN k1 := nI_l (by omega)
      by_cases hq : k1 ≤ Q
      · refine ⟨k1, hk, by omega, fun i _ hi => iC i (inc i (by omega)), fun post HP => ?_⟩
        refine br_f hH ⟨nI_ne0 (by omega) (by omega), nm_r r1 ⟨pk_in j 24 j1 j2, nm_e ?_⟩⟩
        rw [nI_l (n := r) (by omega), e7]
        refine ⟨hne, nm_r e10 (br_t ?_ (pk_le 1 k1 (fun _ => HP) (fun z => absurd z (by omega))))⟩
        rw [e11]
        exact (pk_lLE (by omega) (by omega)).mpr hq
      · refine ⟨Q, hQ1, by omega, fun i _ hi => iC i (inc i hi), fun post HP => ?_⟩
        refine br_f hH ⟨nI_ne0 (by omega) (by omega), nm_r r1 ⟨pk_in j 24 j1 j2, nm_e ?_⟩⟩
        rw [nI_l (n := r) (by omega), e7]
        refine ⟨hne, nm_r e10 (br_f ?_ (pk_le 1 Q (fun _ => ?_) (fun z => absurd z (by omega)) rfl (lN_i Q)))⟩
        · rw [e11]
          exact fun z => hq ((pk_lLE (by omega) (by omega)).mp z)
        · rw [lN_i]
          exact HP
    · obtain ⟨g1, g2⟩ := ps_neg (m := m) r3 r4 hc (by omega)
      refine ⟨1, by omega, hk, fun i h1 h2 => absurd h2 (by omega), fun post HP => ?_⟩
      refine br_f hH ⟨nI_ne0 (by omega) (by omega), nm_r r1 ⟨pk_in j 24 j1 j2, nm_e ?_⟩⟩
      rw [nI_l (n := r) (by omega), e7]
      refine ⟨hne, nm_e (br_f ?_ (br_f ?_ HP))⟩
      · rw [Int64.le_iff_toInt_le, Int32.toInt_toInt64, nI_toInt (by omega)]
        omega
      · rw [Int32.le_iff_toInt_le, Int64.toInt_toInt32, Int.bmod_eq_of_le (by omega) (by omega)]
        have o : (1 : Int32).toInt = 1 := by decide
        omega
theorem ps_stretch {s : St1} {left : Nat} (ht : t ≤ 100000) (h1 : 1 ≤ left) (h2 : left ≤ 5000) (V : ps_IV n sz ar 0 1 t s) (hA : ps_iA s) :
    ∃ k, 1 ≤ k ∧ k ≤ left ∧ (∀ i, 1 ≤ i → i < k → ps_iA (ps_w i s) ∧ ps_iC (ps_w i s)) ∧ ∀ post : Int32 → Prop, post (nI k) → wpX_stretch post s (nI left) := by
  obtain ⟨c, h, st, ad, fi, M, LL, CL, a1, a2, a3, a4, a5, a6, a7, a8, a9, a10, rfl, hh, P, A, h9, h10, hp⟩ := V
  have hlen := ps_pi_len P
  have hn := P.1.1
  have hcc := P.1.2
  have top : ∃ j m, m ≤ 2 ^ 31 ∧ (1 ≤ h → j < 24 ∧ a8 0 = nI j ∧ a7 j = lN m) := by
    by_cases h0 : h = 0
    · exact ⟨0, 0, by omega, fun z => absurd z (by omega)⟩
    · obtain ⟨j, j1, j2, j3⟩ := hp.1 0 (by omega)
      have h8 := P.2.2.2.2.2.2.2.1 j j3.1
      exact ⟨j, M j, by omega, fun _ => ⟨j1, j2, (A j j3.1).2.2.2.2.2⟩⟩
  obtain ⟨jt, mt, hmt, htop⟩ := top
  by_cases h0 : CL.length = 0
  · obtain ⟨k, k1, k2, k3, k4⟩ := ps_st46 (T := nI t) (J := nI n) (K := nI CL.length) (I := nI LL.length) (a1 := a1) (a2 := a2) (a3 := a3) (a4 := a4) (a5 := a5) (a6 := a6) (a7 := a7) (a8 := a8) (a9 := a9) (a10 := a10) (c := c) hh h1 h2 (by omega) hmt htop
    refine ⟨k, k1, k2, fun i i1 i2 => ⟨Or.inl ?_, k3 i i1 i2⟩, fun post HP => ?_⟩
    · rw [h0]
      decide
    · exact pk_le CL.length 0 (fun _ => k4 post HP) (fun z => absurd z (by omega))
  · obtain ⟨j, ej, e9, mj⟩ := ps_ls_at h9 (m := 0) (by omega)
    have hj : j < n ∧ st j = 0 := (P.2.2.2.1 j).mp mj
    have har := (P.2.1 j hj.1).2.2
    have e5 : a2 (a9 0).toNatClampNeg = nI (ar j) := by rw [e9, nI_clamp (by omega), (A j hj.1).2.1]
    have hta : t < ar j := by
      rcases hA with z | z
      · exact absurd z (nI_nle (by omega) (by omega))
      · rw [e5] at z
        exact (nI_ltI (by omega) (by omega)).mp z
    have ij : vp_in (a9 0) 24 := pk_in j 24 (by omega) e9
    have es : nI (ar j) - nI t = nI (ar j - t) := pk_sub (by omega)
    have iA : ∀ i, t + i < ar j → ps_iA (ps_w i (nI t, nI n, lN c, nI h, nI CL.length, nI LL.length, a1, a2, a3, a4, a5, a6, a7, a8, a9, a10)) := by
      intro i hi
      refine Or.inr ?_
      rw [e5, nI_add]
      exact nI_lt hi (by omega)
    by_cases hl : left ≤ ar j - t
    · obtain ⟨k, k1, k2, k3, k4⟩ := ps_st46 (T := nI t) (J := nI n) (K := nI CL.length) (I := nI LL.length) (a1 := a1) (a2 := a2) (a3 := a3) (a4 := a4) (a5 := a5) (a6 := a6) (a7 := a7) (a8 := a8) (a9 := a9) (a10 := a10) (c := c) hh h1 h2 (by omega) hmt htop
      refine ⟨k, k1, k2, fun i i1 i2 => ⟨iA i (by omega), k3 i i1 i2⟩, fun post HP => ?_⟩
      refine pk_le CL.length 0 (fun z => absurd z (by omega)) (fun _ => ⟨ij, ?_⟩)
      rw [e5, es]
      exact pk_le left (ar j - t) (fun _ => k4 post HP) (fun z => absurd z (by omega))
    · obtain ⟨k, k1, k2, k3, k4⟩ := ps_st46 (T := nI t) (J := nI n) (K := nI CL.length) (I := nI LL.length) (a1 := a1) (a2 := a2) (a3 := a3) (a4 := a4) (a5 := a5) (a6 := a6) (a7 := a7) (a8 := a8) (a9 := a9) (a10 := a10) (c := c) (k1 := ar j - t) hh (by omega) (by omega) (by omega) hmt htop
      refine ⟨k, k1, by omega, fun i i1 i2 => ⟨iA i (by omega), k3 i i1 i2⟩, fun post HP => ?_⟩
      refine pk_le CL.length 0 (fun z => absurd z (by omega)) (fun _ => ⟨ij, ?_⟩)
      rw [e5, es]
      exact pk_le left (ar j - t) (fun z => absurd z (by omega)) (fun _ => ⟨ij, nm_e (k4 post HP)⟩)
theorem ps_endA {h : Nat} {st fi : Nat → Nat} {LL CL : List Nat} (P : ps_PI n sz ar 840 0 t c st ad fi M LL CL) (hp : ps_hp a8 h (fun j => j < n ∧ st j = 2)) (H0 : h = 0 ∨ ∃ j, j < n ∧ st j = 2 ∧ c < M j) : ps_PI n sz ar 0 0 t c st ad fi M LL CL := by
  refine ps_pu_end (fun i hi s2 sa => ?_) P
  rcases H0 with z | ⟨j, j1, j2, j3⟩
  · obtain ⟨_, k, hk, _⟩ := hp.2.1 i ⟨hi, s2⟩
    exact absurd hk (by omega)
  · have := ps_one (h := h) P hi sa j1 j2
    subst this
    exact j3
theorem ps_cp2 {LL CL : List Nat} (ht : t ≤ 100000) (h9 : ps_ls a9 CL) (h10 : ps_ls a10 LL) : ∀ (h x : Nat) (st fi : Nat → Nat) (a3 a5 a6 a8 : Nat → Int32), x + h ≤ 8 →
    ps_PI n sz ar 840 0 t c st ad fi M LL CL → ps_MA n sz ar st ad fi M a1 a2 a3 a4 a5 a7 → ps_hp a8 h (fun j => j < n ∧ st j = 2) →
    ∃ (x' : Nat) (s' : St1), ps_IV n sz ar 0 0 t s' ∧ ∀ post : Int32 → St1 → Prop, post (nI x') s' → ∀ f, h < f → wX_complete_2 post f (nI x) (nI t) (nI n) (lN c) (nI h) (nI CL.length) (nI LL.length) a1 a2 a3 a4 a5 a6 a7 a8 a9 a10 := by
  intro h
  induction h with
  | zero =>
    intro x st fi a3 a5 a6 a8 hx P A hp
    refine ⟨x, _, ⟨c, 0, st, ad, fi, M, LL, CL, a1, a2, a3, a4, a5, a6, a7, a8, a9, a10, rfl, by omega, ps_endA P hp (Or.inl rfl), A, h9, h10, hp⟩, fun post HP f hf => ?_⟩
    obtain ⟨f, rfl⟩ : ∃ g, f = g + 1 := ⟨f - 1, by omega⟩
    exact pk_le 8 x (fun _ => HP) (fun _ => pk_le 0 0 (fun _ => HP) (fun z => absurd z (by omega)))
  | succ h ih =>
    intro x st fi a3 a5 a6 a8 hx P A hp
    obtain ⟨j, j1, e8, hj, sj⟩ := hp.1 0 (by omega)
    have hcc := P.1.2
    have h8 := P.2.2.2.2.2.2.2.1 j hj
    have h6 := P.2.2.2.2.2.1 j hj
    unfold ps_J at h6
    have e5 : (nI j).toNatClampNeg = j := nI_clamp (by omega)
    have e7 : a7 j = lN (M j) := (A j hj).2.2.2.2.2
    have ij : vp_in (nI j) 24 := pk_in j 24 (by omega)
    by_cases hc : c < M j
    · refine ⟨x, _, ⟨c, h + 1, st, ad, fi, M, LL, CL, a1, a2, a3, a4, a5, a6, a7, a8, a9, a10, rfl, by omega, ps_endA P hp (Or.inr ⟨j, hj, sj, hc⟩), A, h9, h10, hp⟩, fun post HP f hf => ?_⟩
      obtain ⟨f, rfl⟩ : ∃ g, f = g + 1 := ⟨f - 1, by omega⟩
      refine pk_le 8 x (fun _ => HP) (fun _ => pk_le (h + 1) 0 (fun z => absurd z (by omega)) (fun _ => ?_))
      rw [e8, e5, e7]
      exact ⟨ij, br_t ((pk_lLT (by omega) (by omega)).mpr hc) HP⟩
    · obtain ⟨b, hb, hto⟩ := ps_takeOut (T := nI t) (J := nI n) (C := lN c) (K := nI CL.length) (I := nI LL.length) (a1 := a1) (a2 := a2) (a3 := upd a3 j (nI 3)) (a4 := a4) (a5 := upd a5 j (nI t - 1)) (a6 := upd a6 j (a1 j)) (a7 := a7) (a9 := a9) (a10 := a10) (p := 0) (by omega : h < 8) (by omega) hp
      obtain ⟨x', s', i1, hw⟩ := ih (x + 1) (ps_u st j 3) (ps_u fi j t) (upd a3 j (nI 3)) (upd a5 j (nI t - 1)) (upd a6 j (a1 j)) b (by omega) (ps_pu_cmp hj sj (by omega) P) (ps_ma5 (by rw [ps_dcp (by omega)]; exact pk_sub (b := 1) (by omega)) (ps_ma3 A)) (ps_hp_ext (fun k => by
        rw [e8]
        by_cases hk : k = j
        · subst hk
          rw [ps_us]
          exact ⟨fun z => absurd rfl z.2, fun z => absurd z.2 (by omega)⟩
        · rw [ps_un hk]
          refine ⟨fun z => z.1, fun z => ⟨z, fun y => hk ?_⟩⟩
          have hn := P.1.1
          exact (nI_eq (by omega) (by omega)).mp y) hb)
      refine ⟨x', s', i1, fun post HP f hf => ?_⟩
      obtain ⟨f, rfl⟩ : ∃ g, f = g + 1 := ⟨f - 1, by omega⟩
      refine pk_le 8 x (fun z => absurd z (by omega)) (fun _ => pk_le (h + 1) 0 (fun z => absurd z (by omega)) (fun _ => ?_))
      rw [e8, e5, e7]
      refine ⟨ij, br_f (fun z => hc ((pk_lLT (by omega) (by omega)).mp z)) (nm_e ?_)⟩
      rw [e5]
      exact ⟨ij, nm_r (e' := upd a3 j (nI 3)) rfl ⟨ij, nm_e ⟨ij, ij, nm_e (hto _ (nm_r (nI_1 x) (hw post HP f (by omega))))⟩⟩⟩
theorem ps_complete {s : St1} (ht : t ≤ 100000) (V : ps_IV n sz ar 840 0 t s) : ∃ p : Int32 × St1, ps_IV n sz ar 0 0 t p.2 ∧ (ps_iC s → p = (0, s)) ∧ ∀ post : Int32 → St1 → Prop, post p.1 p.2 → wpX_complete post s := by
  obtain ⟨c, h, st, ad, fi, M, LL, CL, a1, a2, a3, a4, a5, a6, a7, a8, a9, a10, rfl, hh, P, A, h9, h10, hp⟩ := V
  by_cases hi : ps_iC (nI t, nI n, lN c, nI h, nI CL.length, nI LL.length, a1, a2, a3, a4, a5, a6, a7, a8, a9, a10)
  · by_cases h0 : h = 0
    · subst h0
      refine ⟨(0, _), ⟨c, 0, st, ad, fi, M, LL, CL, a1, a2, a3, a4, a5, a6, a7, a8, a9, a10, rfl, by omega, ps_endA P hp (Or.inl rfl), A, h9, h10, hp⟩, fun _ => rfl, fun post HP => ?_⟩
      exact ⟨1, pk_le 8 0 (fun _ => HP) (fun _ => pk_le 0 0 (fun _ => HP) (fun z => absurd z (by omega)))⟩
    · obtain ⟨j, j1, e8, hj, sj⟩ := hp.1 0 (by omega)
      have hcc := P.1.2
      have h8 := P.2.2.2.2.2.2.2.1 j hj
      have e7 : a7 (a8 0).toNatClampNeg = lN (M j) := by rw [e8, nI_clamp (by omega), (A j hj).2.2.2.2.2]
      have hz : lN c < a7 (a8 0).toNatClampNeg := by
        rcases hi with z | z
        · exact absurd z (nI_nle (by omega) (by omega))
        · exact z
      have hc : c < M j := by
        rw [e7] at hz
        exact (pk_lLT (by omega) (by omega)).mp hz
      refine ⟨(0, _), ⟨c, h, st, ad, fi, M, LL, CL, a1, a2, a3, a4, a5, a6, a7, a8, a9, a10, rfl, hh, ps_endA P hp (Or.inr ⟨j, hj, sj, hc⟩), A, h9, h10, hp⟩, fun _ => rfl, fun post HP => ?_⟩
      exact ⟨1, pk_le 8 0 (fun _ => HP) (fun _ => pk_le h 0 (fun z => absurd z (by omega)) (fun _ => ⟨pk_in j 24 j1 e8, br_t hz HP⟩))⟩
  · obtain ⟨x', s', i1, hw⟩ := ps_cp2 ht h9 h10 h 0 st fi a3 a5 a6 a8 (by omega) P A hp
    exact ⟨(nI x', s'), i1, fun z => absurd z hi, fun post HP => ⟨h + 1, hw post HP (h + 1) (by omega)⟩⟩
end
end
section
noncomputable def ps_fa (n : Nat) (sz ar : Nat → Nat) (t : Nat) (s : St1) : St1 :=
  Classical.epsilon (fun s' : St1 => ps_IV n sz ar 0 0 t s' ∧ ps_iA s' ∧ (ps_iA s → s' = s) ∧ ∀ post : St1 → Prop, post s' → wpX_arrive post s)
noncomputable def ps_fm (n : Nat) (sz ar : Nat → Nat) (t : Nat) (s : St1) : St1 :=
  Classical.epsilon (fun s' : St1 => ps_IV n sz ar 0 1 t s' ∧ ps_iM s' ∧ ps_iA s' ∧ (ps_iM s → s' = s) ∧ ∀ post : St1 → Prop, post s' → wpX_admit post s)
noncomputable def ps_fc (n : Nat) (sz ar : Nat → Nat) (t : Nat) (s : St1) : Int32 × St1 :=
  Classical.epsilon (fun p : Int32 × St1 => ps_IV n sz ar 0 0 t p.2 ∧ (ps_iC s → p = (0, s)) ∧ ∀ post : Int32 → St1 → Prop, post p.1 p.2 → wpX_complete post s)
noncomputable def ps_tk (n : Nat) (sz ar : Nat → Nat) (t : Nat) (s : St1) : Int32 × St1 := ps_fc n sz ar (t + 1) (ps_w 1 (ps_fm n sz ar t (ps_fa n sz ar t s)))
noncomputable def ps_tN (n : Nat) (sz ar : Nat → Nat) (t : Nat) : Nat → St1 → Int32 × St1
  | 0, s => (0, s)
  | i + 1, s => ((ps_tN n sz ar t i s).1 + (ps_tk n sz ar (t + i) (ps_tN n sz ar t i s).2).1, (ps_tk n sz ar (t + i) (ps_tN n sz ar t i s).2).2)
section
variable {n : Nat} {sz ar : Nat → Nat} {t : Nat} {s : St1}
theorem ps_fa_s (ht : t ≤ 100000) (V : ps_IV n sz ar 0 0 t s) : ps_IV n sz ar 0 0 t (ps_fa n sz ar t s) ∧ ps_iA (ps_fa n sz ar t s) ∧ (ps_iA s → ps_fa n sz ar t s = s) ∧ ∀ post : St1 → Prop, post (ps_fa n sz ar t s) → wpX_arrive post s :=
  Classical.epsilon_spec (ps_arrive ht V)
theorem ps_fm_s (ht : t ≤ 100000) (V : ps_IV n sz ar 0 0 t s) (hA : ps_iA s) : ps_IV n sz ar 0 1 t (ps_fm n sz ar t s) ∧ ps_iM (ps_fm n sz ar t s) ∧ ps_iA (ps_fm n sz ar t s) ∧ (ps_iM s → ps_fm n sz ar t s = s) ∧ ∀ post : St1 → Prop, post (ps_fm n sz ar t s) → wpX_admit post s :=
  Classical.epsilon_spec (ps_entry ht V hA)
theorem ps_fc_s (ht : t ≤ 100000) (V : ps_IV n sz ar 840 0 t s) : ps_IV n sz ar 0 0 t (ps_fc n sz ar t s).2 ∧ (ps_iC s → ps_fc n sz ar t s = (0, s)) ∧ ∀ post : Int32 → St1 → Prop, post (ps_fc n sz ar t s).1 (ps_fc n sz ar t s).2 → wpX_complete post s :=
  Classical.epsilon_spec (ps_complete ht V)
theorem ps_tk_s (ht : t + 1 ≤ 100000) (V : ps_IV n sz ar 0 0 t s) : ps_IV n sz ar 0 0 (t + 1) (ps_tk n sz ar t s).2 := by
  obtain ⟨va, ia, _, _⟩ := ps_fa_s (by omega) V
  obtain ⟨vm, _, _, _, _⟩ := ps_fm_s (by omega) va ia
  exact (ps_fc_s ht (ps_work vm)).1
theorem ps_tN_s : ∀ i, t + i ≤ 100000 → ps_IV n sz ar 0 0 t s → ps_IV n sz ar 0 0 (t + i) (ps_tN n sz ar t i s).2 := by
  intro i
  induction i with
  | zero => exact fun _ V => V
  | succ i ih => exact fun ht V => ps_tk_s (t := t + i) (by omega) (ih (by omega) V)
theorem ps_tN_add (a b : Nat) : ps_tN n sz ar t (a + b) s = ((ps_tN n sz ar t a s).1 + (ps_tN n sz ar (t + a) b (ps_tN n sz ar t a s).2).1, (ps_tN n sz ar (t + a) b (ps_tN n sz ar t a s).2).2) := by
  induction b with
  | zero =>
    show ps_tN n sz ar t a s = ((ps_tN n sz ar t a s).1 + 0, (ps_tN n sz ar t a s).2)
    rw [Int32.add_zero]
  | succ b ih =>
    show ((ps_tN n sz ar t (a + b) s).1 + (ps_tk n sz ar (t + (a + b)) (ps_tN n sz ar t (a + b) s).2).1, (ps_tk n sz ar (t + (a + b)) (ps_tN n sz ar t (a + b) s).2).2) = ((ps_tN n sz ar t a s).1 + ((ps_tN n sz ar (t + a) b (ps_tN n sz ar t a s).2).1 + (ps_tk n sz ar (t + a + b) (ps_tN n sz ar (t + a) b (ps_tN n sz ar t a s).2).2).1), (ps_tk n sz ar (t + a + b) (ps_tN n sz ar (t + a) b (ps_tN n sz ar t a s).2).2).2)
    rw [ih, Nat.add_assoc, Int32.add_assoc]
theorem ps_jump {k : Nat} (V : ps_IV n sz ar 0 0 t s) (hk : ∀ i, 1 ≤ i → i < k → ps_iA (ps_w i (ps_fm n sz ar t (ps_fa n sz ar t s))) ∧ ps_iC (ps_w i (ps_fm n sz ar t (ps_fa n sz ar t s)))) :
    ∀ i, i + 1 ≤ k → t + (i + 1) ≤ 100000 → ps_IV n sz ar 840 0 (t + (i + 1)) (ps_w (i + 1) (ps_fm n sz ar t (ps_fa n sz ar t s))) ∧ ps_tN n sz ar t (i + 1) s = ps_fc n sz ar (t + (i + 1)) (ps_w (i + 1) (ps_fm n sz ar t (ps_fa n sz ar t s))) := by
  intro i
  induction i with
  | zero =>
    intro h1 h2
    obtain ⟨va, ia, _, _⟩ := ps_fa_s (by omega) V
    obtain ⟨vm, _, _, _, _⟩ := ps_fm_s (by omega) va ia
    refine ⟨ps_work vm, ?_⟩
    show (0 + (ps_tk n sz ar t s).1, (ps_tk n sz ar t s).2) = ps_tk n sz ar t s
    rw [Int32.zero_add]
  | succ i ih =>
    intro h1 h2
    obtain ⟨va, ia, _, _⟩ := ps_fa_s (by omega) V
    obtain ⟨vm, im, _, _, _⟩ := ps_fm_s (by omega) va ia
    obtain ⟨v1, e1⟩ := ih (by omega) (by omega)
    obtain ⟨i1, i2⟩ := hk (i + 1) (by omega) (by omega)
    generalize ps_fm n sz ar t (ps_fa n sz ar t s) = s1 at vm im v1 e1 i1 i2 ⊢
    obtain ⟨v2, e2, _⟩ := ps_fc_s (by omega) v1
    have e3 := e2 i2
    rw [e3] at e1 v2
    have v3 : ps_IV n sz ar 0 0 (t + (i + 1)) (ps_w (i + 1) s1) := v2
    have f1 := (ps_fa_s (by omega) v3).2.2.1 i1
    obtain ⟨v4, _, _, f2, _⟩ := ps_fm_s (by omega) v3 i1
    have f3 := f2 (ps_w_iM im)
    rw [f3] at v4
    have v5 := ps_work v4
    rw [ps_w_add] at v5
    refine ⟨v5, ?_⟩
    show ((ps_tN n sz ar t (i + 1) s).1 + (ps_tk n sz ar (t + (i + 1)) (ps_tN n sz ar t (i + 1) s).2).1, (ps_tk n sz ar (t + (i + 1)) (ps_tN n sz ar t (i + 1) s).2).2) = _
    rw [e1]
    show (0 + (ps_tk n sz ar (t + (i + 1)) (ps_w (i + 1) s1)).1, (ps_tk n sz ar (t + (i + 1)) (ps_w (i + 1) s1)).2) = _
    rw [Int32.zero_add]
    show ps_fc n sz ar (t + (i + 1) + 1) (ps_w 1 (ps_fm n sz ar (t + (i + 1)) (ps_fa n sz ar (t + (i + 1)) (ps_w (i + 1) s1)))) = _
    rw [f1, f3, ps_w_add]
    rfl
theorem ps_r21 : ∀ (N t : Nat) (s : St1) (x : Int32), N ≤ 5000 → t + N ≤ 100000 → ps_IV n sz ar 0 0 t s → ∀ post : Int32 → St1 → Prop, post (x + (ps_tN n sz ar t N s).1) (ps_tN n sz ar t N s).2 → ∀ f, N < f →
    wX_run_21 post f (nI N) x s.1 s.2.1 s.2.2.1 s.2.2.2.1 s.2.2.2.2.1 s.2.2.2.2.2.1 s.2.2.2.2.2.2.1 s.2.2.2.2.2.2.2.1 s.2.2.2.2.2.2.2.2.1 s.2.2.2.2.2.2.2.2.2.1 s.2.2.2.2.2.2.2.2.2.2.1 s.2.2.2.2.2.2.2.2.2.2.2.1 s.2.2.2.2.2.2.2.2.2.2.2.2.1 s.2.2.2.2.2.2.2.2.2.2.2.2.2.1 s.2.2.2.2.2.2.2.2.2.2.2.2.2.2.1 s.2.2.2.2.2.2.2.2.2.2.2.2.2.2.2 := by
  intro N
  induction N using Nat.strongRecOn with
  | ind N ih =>
    intro t s x hN ht V post HP f hf
    obtain ⟨f, rfl⟩ : ∃ g, f = g + 1 := ⟨f - 1, by omega⟩
    by_cases h0 : N = 0
    · subst h0
      have HP' : post (x + 0) s := HP
      rw [Int32.add_zero] at HP'
      exact pk_le 0 0 (fun _ => HP') (fun z => absurd z (by omega))
    · obtain ⟨va, ia, _, wa⟩ := ps_fa_s (by omega) V
      obtain ⟨vm, im, ia2, _, wm⟩ := ps_fm_s (by omega) va ia
      obtain ⟨k, k1, k2, ki, wst⟩ := ps_stretch (left := N) (by omega) (by omega) hN vm ia2
      obtain ⟨k', rfl⟩ : ∃ k', k = k' + 1 := ⟨k - 1, by omega⟩
      obtain ⟨vw, ek⟩ := ps_jump V ki k' (by omega) (by omega)
      obtain ⟨v2, _, wc⟩ := ps_fc_s (by omega) vw
      have eN := ps_tN_add (n := n) (sz := sz) (ar := ar) (t := t) (s := s) (k' + 1) (N - (k' + 1))
      rw [show k' + 1 + (N - (k' + 1)) = N by omega, ek] at eN
      rw [eN] at HP
      generalize ps_fm n sz ar t (ps_fa n sz ar t s) = s2 at vm im ia2 wm ki wst vw wc v2 HP
      generalize ps_fa n sz ar t s = s1 at wa wm
      generalize ps_fc n sz ar (t + (k' + 1)) (ps_w (k' + 1) s2) = q at v2 wc HP
      obtain ⟨d, s3⟩ := q
      have HP2 : post (x + (d + (ps_tN n sz ar (t + (k' + 1)) (N - (k' + 1)) s3).1)) (ps_tN n sz ar (t + (k' + 1)) (N - (k' + 1)) s3).2 := HP
      rw [← Int32.add_assoc] at HP2
      have nx := ih (N - (k' + 1)) (by omega) (t + (k' + 1)) s3 (x + d) (by omega) (by omega) v2 post HP2 f (by omega)
      obtain ⟨T1, J1, C1, H1, K1, I1, b1, b2, b3, b4, b5, b6, b7, b8, b9, b10⟩ := s1
      obtain ⟨T2, J2, C2, H2, K2, I2, c1, c2, c3, c4, c5, c6, c7, c8, c9, c10⟩ := s2
      obtain ⟨T3, J3, C3, H3, K3, I3, d1, d2, d3, d4, d5, d6, d7, d8, d9, d10⟩ := s3
      refine pk_le N 0 (fun z => absurd z (by omega)) (fun _ => wa _ (wm _ (wst _ ?_)))
      by_cases hH : H2 ≤ 0
      · refine br_t hH ?_
        have ew : ps_w (k' + 1) (T2, J2, C2, H2, K2, I2, c1, c2, c3, c4, c5, c6, c7, c8, c9, c10) = (T2 + nI (k' + 1), J2, C2, H2, K2, I2, c1, c2, c3, c4, c5, c6, c7, c8, c9, c10) := by
          simp only [ps_w, if_pos hH]
        rw [ew] at wc
        unfold wX_run_69
        exact nm_e (nm_r (pk_sub k2) (wc _ (nm_e nx)))
      · refine br_f hH ⟨fun z => hH (by rw [z]; decide), nm_e ?_⟩
        have ew : ps_w (k' + 1) (T2, J2, C2, H2, K2, I2, c1, c2, c3, c4, c5, c6, c7, c8, c9, c10) = (T2 + nI (k' + 1), J2, C2 + (840 / H2).toInt64 * (nI (k' + 1)).toInt64, H2, K2, I2, c1, c2, c3, c4, c5, c6, c7, c8, c9, c10) := by
          simp only [ps_w, if_neg hH]
          rw [nI_l (by omega)]
        rw [ew] at wc
        unfold wX_run_69
        exact nm_e (nm_r (pk_sub k2) (wc _ (nm_e nx)))
theorem ps_run {N : Nat} (hN : N ≤ 5000) (ht : t + N ≤ 100000) (V : ps_IV n sz ar 0 0 t s) {post : Int32 → St1 → Prop} (HP : post (ps_tN n sz ar t N s).1 (ps_tN n sz ar t N s).2) : wpX_run post s (nI N) := by
  have HP' : post (0 + (ps_tN n sz ar t N s).1) (ps_tN n sz ar t N s).2 := by
    rw [Int32.zero_add]
    exact HP
  have h := ps_r21 N t s 0 hN ht V post HP' (N + 1) (by omega)
  obtain ⟨T, J, C, H, K, I, a1, a2, a3, a4, a5, a6, a7, a8, a9, a10⟩ := s
  exact br_t (nI_pos' (by omega)) (pk_le N 5000 (fun _ => ⟨N + 1, h⟩) (fun z => absurd z (by omega)))
end
end
section
section
variable {T J : Int32} {C : Int64} {H K I : Int32} {a1 a2 a3 a4 a5 a6 : Nat → Int32} {a7 : Nat → Int64} {a8 a9 a10 : Nat → Int32}
variable {n : Nat} {sz ar : Nat → Nat} {t c : Nat}
theorem ps_noJ0 {q : Nat} (hq : q < n) (hn : n ≤ 24) {post : Int32 → Prop} (HP : post 0) : wpX_noJob post (T, nI n, C, H, K, I, a1, a2, a3, a4, a5, a6, a7, a8, a9, a10) (nI q) :=
  br_f (nI_pos (by omega)) (pk_lt q n (fun _ => HP) (fun z => absurd z (by omega)))
theorem ps_noJ1 {q : Nat} (hq : n ≤ q) (hq2 : q < 100) {post : Int32 → Prop} (HP : post 1) : wpX_noJob post (T, nI n, C, H, K, I, a1, a2, a3, a4, a5, a6, a7, a8, a9, a10) (nI q) :=
  br_f (nI_pos (by omega)) (pk_lt q n (fun z => absurd z (by omega)) (fun _ => HP))
theorem ps_state {q : Nat} (hq : q < n) (hn : n ≤ 24) {post : Int32 → Prop} (HP : post (a3 q)) : wpX_state post (T, nI n, C, H, K, I, a1, a2, a3, a4, a5, a6, a7, a8, a9, a10) (nI q) := by
  unfold wpX_state
  exact ps_noJ0 hq hn (br_t rfl ⟨pk_in q 24 (by omega), by rw [nI_clamp (by omega)]; exact HP⟩)
theorem ps_admitted {q : Nat} (hq : q < n) (hn : n ≤ 24) {post : Int32 → Prop} (HP : post (a4 q)) : wpX_admitted post (T, nI n, C, H, K, I, a1, a2, a3, a4, a5, a6, a7, a8, a9, a10) (nI q) := by
  unfold wpX_admitted
  exact ps_noJ0 hq hn (br_t rfl ⟨pk_in q 24 (by omega), by rw [nI_clamp (by omega)]; exact HP⟩)
theorem ps_finished {q : Nat} (hq : q < n) (hn : n ≤ 24) {post : Int32 → Prop} (HP : post (a5 q)) : wpX_finished post (T, nI n, C, H, K, I, a1, a2, a3, a4, a5, a6, a7, a8, a9, a10) (nI q) := by
  unfold wpX_finished
  exact ps_noJ0 hq hn (br_t rfl ⟨pk_in q 24 (by omega), by rw [nI_clamp (by omega)]; exact HP⟩)
theorem ps_had {q : Nat} (hq : q < n) (hn : n ≤ 24) : ∃ r, ∀ post : Int32 → Prop, post r → wpX_had post (T, nI n, C, H, K, I, a1, a2, a3, a4, a5, a6, a7, a8, a9, a10) (nI q) := by
  have iq : vp_in (nI q) 24 := pk_in q 24 (by omega)
  by_cases h : a3 (nI q).toNatClampNeg = 2
  · exact ⟨_, fun post HP => by
      unfold wpX_had
      exact ps_noJ0 hq hn (br_t rfl ⟨iq, br_t h ⟨iq, iq, HP⟩⟩)⟩
  · exact ⟨_, fun post HP => by
      unfold wpX_had
      exact ps_noJ0 hq hn (br_t rfl ⟨iq, br_f h ⟨iq, HP⟩⟩)⟩
theorem ps_lvL {g l : Nat} (hg : g < 24) (hl : l ≤ 24) : ∀ (RL KL : List Nat) (x : Nat) (a10 : Nat → Int32), KL.length ≤ x → x + RL.length = l → ps_ls a10 KL → (∀ i v, RL[i]? = some v → a10 (x + i) = nI v) → (∀ v, v ∈ RL → v < 24) →
    ∃ b, ps_ls b (KL ++ RL.filter (· ≠ g)) ∧ ∀ post : St1 → Prop, post (T, J, C, H, K, nI (KL ++ RL.filter (· ≠ g)).length, a1, a2, a3, a4, a5, a6, a7, a8, a9, b) → ∀ f, RL.length < f → wX_leaveLine_4 post (nI g) T J C H K (nI l) f (nI KL.length) (nI x) a1 a2 a3 a4 a5 a6 a7 a8 a9 a10 := by
  intro RL
  induction RL with
  | nil =>
    intro KL x a10 hk hx h1 h2 h3
    rw [List.filter_nil, List.append_nil]
    rw [List.length_nil] at hx
    refine ⟨a10, h1, fun post HP f hf => ?_⟩
    obtain ⟨f, rfl⟩ : ∃ g, f = g + 1 := ⟨f - 1, by omega⟩
    exact pk_le l x (fun _ => HP) (fun z => absurd z (by omega))
  | cons v RL ih =>
    intro KL x a10 hk hx h1 h2 h3
    rw [List.length_cons] at hx
    have hv := h3 v (List.mem_cons_self ..)
    have e0 : a10 x = nI v := h2 0 v rfl
    have e1 : a10 (nI x).toNatClampNeg = nI v := by rw [nI_clamp (by omega), e0]
    by_cases hc : v = g
    · have ef : (v :: RL).filter (· ≠ g) = RL.filter (· ≠ g) := List.filter_cons_of_neg (by simp [hc])
      obtain ⟨b, hb, hw⟩ := ih KL (x + 1) a10 (by omega) (by omega) h1 (fun i u hi => by
        have := h2 (i + 1) u hi
        rw [show x + 1 + i = x + (i + 1) by omega]
        exact this) (fun u hu => h3 u (List.mem_cons_of_mem _ hu))
      rw [ef]
      refine ⟨b, hb, fun post HP f hf => ?_⟩
      rw [List.length_cons] at hf
      obtain ⟨f, rfl⟩ : ∃ g, f = g + 1 := ⟨f - 1, by omega⟩
      refine pk_le l x (fun z => absurd z (by omega)) (fun _ => ⟨pk_in x 24 (by omega), br_t ?_ (nm_r (nI_1 x) (hw post HP f (by omega)))⟩)
      rw [e1, hc]
    · have ef : (v :: RL).filter (· ≠ g) = v :: RL.filter (· ≠ g) := List.filter_cons_of_pos (by simp [hc])
      obtain ⟨b, hb, hw⟩ := ih (KL ++ [v]) (x + 1) (upd a10 KL.length (nI v)) (by rw [List.length_append, List.length_singleton]; omega) (by omega) (ps_ls_snoc rfl h1) (fun i u hi => by
        have := h2 (i + 1) u hi
        rw [show x + 1 + i = x + (i + 1) by omega, pk_un (by omega)]
        exact this) (fun u hu => h3 u (List.mem_cons_of_mem _ hu))
      rw [ef]
      rw [List.append_assoc, List.singleton_append] at hb hw
      rw [List.length_append (as := KL) (bs := [v]), List.length_singleton] at hw
      refine ⟨b, hb, fun post HP f hf => ?_⟩
      rw [List.length_cons] at hf
      obtain ⟨f, rfl⟩ : ∃ g, f = g + 1 := ⟨f - 1, by omega⟩
      refine pk_le l x (fun z => absurd z (by omega)) (fun _ => ⟨pk_in x 24 (by omega), br_f ?_ ⟨pk_in x 24 (by omega), pk_in KL.length 24 (by omega), nm_r (e' := upd a10 KL.length (nI v)) (by rw [nI_clamp (n := KL.length) (by omega), e1]) (nm_r (nI_1 _) (nm_r (nI_1 x) (hw post HP f (by omega))))⟩⟩)
      rw [e1]
      exact fun z => hc ((nI_eq (by omega) (by omega)).mp z)
theorem ps_lvC {g l : Nat} (hg : g < 24) (hl : l ≤ 24) : ∀ (RL KL : List Nat) (x : Nat) (a9 : Nat → Int32), KL.length ≤ x → x + RL.length = l → ps_ls a9 KL → (∀ i v, RL[i]? = some v → a9 (x + i) = nI v) → (∀ v, v ∈ RL → v < 24) →
    ∃ b, ps_ls b (KL ++ RL.filter (· ≠ g)) ∧ ∀ post : St1 → Prop, post (T, J, C, H, nI (KL ++ RL.filter (· ≠ g)).length, I, a1, a2, a3, a4, a5, a6, a7, a8, b, a10) → ∀ f, RL.length < f → wX_leaveComing_4 post (nI g) T J C H (nI l) I f (nI KL.length) (nI x) a1 a2 a3 a4 a5 a6 a7 a8 a9 a10 := by
  intro RL
  induction RL with
  | nil =>
    intro KL x a9 hk hx h1 h2 h3
    rw [List.filter_nil, List.append_nil]
    rw [List.length_nil] at hx
    refine ⟨a9, h1, fun post HP f hf => ?_⟩
    obtain ⟨f, rfl⟩ : ∃ g, f = g + 1 := ⟨f - 1, by omega⟩
    exact pk_le l x (fun _ => HP) (fun z => absurd z (by omega))
  | cons v RL ih =>
    intro KL x a9 hk hx h1 h2 h3
    rw [List.length_cons] at hx
    have hv := h3 v (List.mem_cons_self ..)
    have e0 : a9 x = nI v := h2 0 v rfl
    have e1 : a9 (nI x).toNatClampNeg = nI v := by rw [nI_clamp (by omega), e0]
    by_cases hc : v = g
    · have ef : (v :: RL).filter (· ≠ g) = RL.filter (· ≠ g) := List.filter_cons_of_neg (by simp [hc])
      obtain ⟨b, hb, hw⟩ := ih KL (x + 1) a9 (by omega) (by omega) h1 (fun i u hi => by
        have := h2 (i + 1) u hi
        rw [show x + 1 + i = x + (i + 1) by omega]
        exact this) (fun u hu => h3 u (List.mem_cons_of_mem _ hu))
      rw [ef]
      refine ⟨b, hb, fun post HP f hf => ?_⟩
      rw [List.length_cons] at hf
      obtain ⟨f, rfl⟩ : ∃ g, f = g + 1 := ⟨f - 1, by omega⟩
      refine pk_le l x (fun z => absurd z (by omega)) (fun _ => ⟨pk_in x 24 (by omega), br_t ?_ (nm_r (nI_1 x) (hw post HP f (by omega)))⟩)
      rw [e1, hc]
    · have ef : (v :: RL).filter (· ≠ g) = v :: RL.filter (· ≠ g) := List.filter_cons_of_pos (by simp [hc])
      obtain ⟨b, hb, hw⟩ := ih (KL ++ [v]) (x + 1) (upd a9 KL.length (nI v)) (by rw [List.length_append, List.length_singleton]; omega) (by omega) (ps_ls_snoc rfl h1) (fun i u hi => by
        have := h2 (i + 1) u hi
        rw [show x + 1 + i = x + (i + 1) by omega, pk_un (by omega)]
        exact this) (fun u hu => h3 u (List.mem_cons_of_mem _ hu))
      rw [ef]
      rw [List.append_assoc, List.singleton_append] at hb hw
      rw [List.length_append (as := KL) (bs := [v]), List.length_singleton] at hw
      refine ⟨b, hb, fun post HP f hf => ?_⟩
      rw [List.length_cons] at hf
      obtain ⟨f, rfl⟩ : ∃ g, f = g + 1 := ⟨f - 1, by omega⟩
      refine pk_le l x (fun z => absurd z (by omega)) (fun _ => ⟨pk_in x 24 (by omega), br_f ?_ ⟨pk_in x 24 (by omega), pk_in KL.length 24 (by omega), nm_r (e' := upd a9 KL.length (nI v)) (by rw [nI_clamp (n := KL.length) (by omega), e1]) (nm_r (nI_1 _) (nm_r (nI_1 x) (hw post HP f (by omega))))⟩⟩)
      rw [e1]
      exact fun z => hc ((nI_eq (by omega) (by omega)).mp z)
theorem ps_lvH2 {h p g : Nat} (hh : h < 8) (hp : p ≤ h) (ep : a8 p = nI g) (hne : ∀ i, i < p → a8 i ≠ nI g) {post : St1 → Prop} (HW : wX_leaveHeap_28 post (nI p) T J C (nI (h + 1)) K I a1 a2 a3 a4 a5 a6 a7 a8 a9 a10) :
    ∀ d i, i + d = p → ∀ f, d < f → wX_leaveHeap_2 post (nI g) T J C (nI (h + 1)) K I a1 a2 a3 a4 a5 a6 a7 a8 a9 a10 f (nI i) := by
  intro d
  induction d with
  | zero =>
    intro i hi f hf
    obtain ⟨f, rfl⟩ : ∃ g, f = g + 1 := ⟨f - 1, by omega⟩
    obtain rfl : i = p := by omega
    exact pk_le h i (fun _ => HW) (fun _ => ⟨pk_in i 8 (by omega), br_t (by rw [nI_clamp (by omega), ep]) HW⟩) (nI_pred h)
  | succ d ih =>
    intro i hi f hf
    obtain ⟨f, rfl⟩ : ∃ g, f = g + 1 := ⟨f - 1, by omega⟩
    exact pk_le h i (fun z => absurd z (by omega)) (fun _ => ⟨pk_in i 8 (by omega), br_f (by rw [nI_clamp (by omega)]; exact hne i (by omega)) (nm_r (nI_1 i) (ih (i + 1) (by omega) f (by omega)))⟩) (nI_pred h)
theorem ps_leaveHeap {h g : Nat} {S : Nat → Prop} (hh : h < 8) (hS : S g) (hp : ps_hp a8 (h + 1) S) :
    ∃ b, ps_hp b h (fun j => S j ∧ nI j ≠ nI g) ∧ ∀ post : St1 → Prop, post (T, J, C, nI h, K, I, a1, a2, a3, a4, a5, a6, a7, b, a9, a10) → wpX_leaveHeap post (T, J, C, nI (h + 1), K, I, a1, a2, a3, a4, a5, a6, a7, a8, a9, a10) (nI g) := by
  obtain ⟨_, p, hp1, ep⟩ := hp.2.1 g hS
  obtain ⟨b, hb, hto⟩ := ps_takeOut (T := T) (J := J) (C := C) (K := K) (I := I) (a1 := a1) (a2 := a2) (a3 := a3) (a4 := a4) (a5 := a5) (a6 := a6) (a7 := a7) (a9 := a9) (a10 := a10) hh (by omega : p ≤ h) hp
  rw [ep] at hb
  refine ⟨b, hb, fun post HP => ⟨p + 1, ps_lvH2 hh (by omega) ep (fun i hi z => ?_) ?_ p 0 (by omega) (p + 1) (by omega)⟩⟩
  · have := hp.2.2 i p (by omega) hp1 (by rw [z, ep])
    omega
  · unfold wX_leaveHeap_28
    exact hto _ HP
theorem ps_fil {L : List Nat} {q : Nat} (h : q ∉ L) : L.filter (· ≠ q) = L := by
  rw [List.filter_eq_self]
  intro a ha
  have : a ≠ q := fun z => h (z ▸ ha)
  simp [this]
theorem ps_c70 {q : Nat} {r : Int32} (hq : q < 24) {post : Int32 → St1 → Prop} (HP : post r (T, J, C, H, K, I, a1, a2, upd a3 q (nI 4), a4, a5, upd a6 q r, a7, a8, a9, a10)) : wX_cancel_70 post (nI q) r T J C H K I a1 a2 a3 a4 a5 a6 a7 a8 a9 a10 := by
  have iq : vp_in (nI q) 24 := pk_in q 24 (by omega)
  unfold wX_cancel_70
  rw [nI_clamp (by omega)]
  exact ⟨iq, nm_r (e' := upd a3 q (nI 4)) rfl ⟨iq, nm_e HP⟩⟩
theorem ps_cancel {s : St1} {q : Nat} (hq : q < 100) (V : ps_IV n sz ar 0 0 t s) : ∃ (r : Int32) (s' : St1), ps_IV n sz ar 0 0 t s' ∧ ∀ post : Int32 → St1 → Prop, post r s' → wpX_cancel post s (nI q) := by
  have V0 := V
  obtain ⟨c, h, st, ad, fi, M, LL, CL, a1, a2, a3, a4, a5, a6, a7, a8, a9, a10, rfl, hh, P, A, h9, h10, hp⟩ := V
  have hlen := ps_pi_len P
  have hn := P.1.1
  by_cases hqn : n ≤ q
  · refine ⟨-4, _, V0, fun post HP => ?_⟩
    unfold wpX_cancel
    exact ps_noJ1 hqn hq (br_f (by decide) HP)
  · have hq' : q < n := by omega
    have iq : vp_in (nI q) 24 := pk_in q 24 (by omega)
    have e3 : a3 (nI q).toNatClampNeg = nI (st q) := by rw [nI_clamp (by omega), (A q hq').2.2.1]
    have h6 := P.2.2.2.2.2.1 q hq'
    unfold ps_J at h6
    by_cases h3 : 3 ≤ st q
    · refine ⟨-5, _, V0, fun post HP => ?_⟩
      unfold wpX_cancel
      refine ps_noJ0 hq' (by omega) (br_t rfl ⟨iq, ?_⟩)
      rw [e3]
      exact pk_lt (st q) 3 (fun z => absurd z (by omega)) (fun _ => HP)
    · obtain ⟨r, hr⟩ := ps_had (T := nI t) (C := lN c) (H := nI h) (K := nI CL.length) (I := nI LL.length) (a1 := a1) (a2 := a2) (a3 := a3) (a4 := a4) (a5 := a5) (a6 := a6) (a7 := a7) (a8 := a8) (a9 := a9) (a10 := a10) hq' (by omega)
      have P' := ps_pu_can hq' (by omega) P
      have A' := ps_ma3 (j := q) (v := 4) A
      have hpn : st q ≠ 2 → ps_hp a8 h (fun j => j < n ∧ ps_u st q 4 j = 2) := fun z => ps_hp_ext (fun k => by
        by_cases hk : k = q
        · subst hk
          rw [ps_us]
          omega
        · rw [ps_un hk]) hp
      rcases (by omega : st q = 0 ∨ st q = 1 ∨ st q = 2) with z | z | z
      · have nL : q ∉ LL := fun y => by
          have := (P.2.2.1 q).mp y
          omega
        rw [ps_fil nL] at P'
        obtain ⟨b, hb, hw⟩ := ps_lvC (T := nI t) (J := nI n) (C := lN c) (H := nI h) (I := nI LL.length) (a1 := a1) (a2 := a2) (a3 := a3) (a4 := a4) (a5 := a5) (a6 := a6) (a7 := a7) (a8 := a8) (a10 := a10) (g := q) (l := CL.length) (by omega) (by omega) CL [] 0 a9 (Nat.le_refl 0) (by omega) (fun i v hi => absurd hi (by simp)) (fun i v hi => by rw [Nat.zero_add]; exact h9 i v hi) (fun v hv => by
          have := (P.2.2.2.1 v).mp hv
          omega)
        rw [List.nil_append] at hb hw
        refine ⟨r, _, ⟨c, h, ps_u st q 4, ad, fi, M, LL, CL.filter (· ≠ q), a1, a2, upd a3 q (nI 4), a4, a5, upd a6 q r, a7, a8, b, a10, rfl, hh, P', A', hb, h10, hpn (by omega)⟩, fun post HP => ?_⟩
        unfold wpX_cancel
        refine ps_noJ0 hq' (by omega) (br_t rfl ⟨iq, ?_⟩)
        rw [e3]
        refine pk_lt (st q) 3 (fun _ => hr _ ⟨iq, pk_eq (st q) 0 (fun _ => ?_) (fun y => absurd z y)⟩) (fun y => absurd y (by omega))
        exact ⟨CL.length + 1, hw _ (ps_c70 (by omega) HP) (CL.length + 1) (by omega)⟩
      · have nC : q ∉ CL := fun y => by
          have := (P.2.2.2.1 q).mp y
          omega
        rw [ps_fil nC] at P'
        obtain ⟨b, hb, hw⟩ := ps_lvL (T := nI t) (J := nI n) (C := lN c) (H := nI h) (K := nI CL.length) (a1 := a1) (a2 := a2) (a3 := a3) (a4 := a4) (a5 := a5) (a6 := a6) (a7 := a7) (a8 := a8) (a9 := a9) (g := q) (l := LL.length) (by omega) (by omega) LL [] 0 a10 (Nat.le_refl 0) (by omega) (fun i v hi => absurd hi (by simp)) (fun i v hi => by rw [Nat.zero_add]; exact h10 i v hi) (fun v hv => by
          have := (P.2.2.1 v).mp hv
          omega)
        rw [List.nil_append] at hb hw
        refine ⟨r, _, ⟨c, h, ps_u st q 4, ad, fi, M, LL.filter (· ≠ q), CL, a1, a2, upd a3 q (nI 4), a4, a5, upd a6 q r, a7, a8, a9, b, rfl, hh, P', A', h9, hb, hpn (by omega)⟩, fun post HP => ?_⟩
        unfold wpX_cancel
        refine ps_noJ0 hq' (by omega) (br_t rfl ⟨iq, ?_⟩)
        rw [e3]
        refine pk_lt (st q) 3 (fun _ => hr _ ⟨iq, pk_eq (st q) 0 (fun y => absurd y (by omega)) (fun _ => ⟨iq, pk_eq (st q) 1 (fun _ => ?_) (fun y => absurd z y)⟩)⟩) (fun y => absurd y (by omega))
        exact ⟨LL.length + 1, hw _ (ps_c70 (by omega) HP) (LL.length + 1) (by omega)⟩
      · have nL : q ∉ LL := fun y => by
          have := (P.2.2.1 q).mp y
          omega
        have nC : q ∉ CL := fun y => by
          have := (P.2.2.2.1 q).mp y
          omega
        rw [ps_fil nL, ps_fil nC] at P'
        obtain ⟨h', rfl⟩ : ∃ h', h = h' + 1 := by
          obtain ⟨_, k, hk, _⟩ := hp.2.1 q ⟨hq', z⟩
          exact ⟨h - 1, by omega⟩
        obtain ⟨b, hb, hw⟩ := ps_leaveHeap (T := nI t) (J := nI n) (C := lN c) (K := nI CL.length) (I := nI LL.length) (a1 := a1) (a2 := a2) (a3 := a3) (a4 := a4) (a5 := a5) (a6 := a6) (a7 := a7) (a9 := a9) (a10 := a10) (g := q) (by omega : h' < 8) ⟨hq', z⟩ hp
        refine ⟨r, _, ⟨c, h', ps_u st q 4, ad, fi, M, LL, CL, a1, a2, upd a3 q (nI 4), a4, a5, upd a6 q r, a7, b, a9, a10, rfl, by omega, P', A', h9, h10, ps_hp_ext (fun k => ?_) hb⟩, fun post HP => ?_⟩
        · by_cases hk : k = q
          · subst hk
            rw [ps_us]
            exact ⟨fun y => absurd rfl y.2, fun y => absurd y.2 (by omega)⟩
          · rw [ps_un hk]
            refine ⟨fun y => y.1, fun y => ⟨y, fun w => hk ?_⟩⟩
            exact (nI_eq (by omega) (by omega)).mp w
        · unfold wpX_cancel
          refine ps_noJ0 hq' (by omega) (br_t rfl ⟨iq, ?_⟩)
          rw [e3]
          refine pk_lt (st q) 3 (fun _ => hr _ ⟨iq, pk_eq (st q) 0 (fun y => absurd y (by omega)) (fun _ => ⟨iq, pk_eq (st q) 1 (fun y => absurd y (by omega)) (fun _ => ?_)⟩)⟩) (fun y => absurd y (by omega))
          exact hw _ (ps_c70 (by omega) HP)
end
end
section
/-- j jobs are handed in, none has come -/
def ps_SV (sz ar : Nat → Nat) (j : Nat) (s : St1) : Prop :=
  ∃ (CL : List Nat) (a1 a2 a3 a4 a5 a6 a8 a9 a10 : Nat → Int32), s = (nI 0, nI j, lN 0, nI 0, nI CL.length, nI 0, a1, a2, a3, a4, a5, a6, fun _ => 0, a8, a9, a10) ∧
    (∀ v, v < j → a1 v = nI (sz v) ∧ a2 v = nI (ar v) ∧ a3 v = 0 ∧ a4 v = -5 ∧ a5 v = -5) ∧ ps_ls a9 CL ∧ CL.Pairwise (ps_lt ar) ∧ (∀ v, v ∈ CL ↔ v < j)
theorem ps_SV_IV {sz ar : Nat → Nat} {n : Nat} {s : St1} (hn : n ≤ 16) (hz : ∀ j, j < n → 1 ≤ sz j ∧ sz j ≤ 4096 ∧ ar j ≤ 15) (V : ps_SV sz ar n s) : ps_IV n sz ar 0 0 0 s := by
  obtain ⟨CL, a1, a2, a3, a4, a5, a6, a8, a9, a10, rfl, h1, h2, h3, h4⟩ := V
  refine ⟨0, 0, fun _ => 0, fun _ => 0, fun _ => 0, fun _ => 0, [], CL, a1, a2, a3, a4, a5, a6, fun _ => 0, a8, a9, a10, rfl, by omega, ⟨⟨hn, by omega⟩, hz, fun v => ?_, fun v => ?_, h3, fun v hv => ?_, fun i v hi hv z => absurd z (Nat.not_succ_le_zero 0), fun v hv => Nat.zero_le _, fun v hv z => absurd (show (0 : Nat) = 2 from z) (by decide), fun v hv z => absurd (show (0 : Nat) = 3 from z) (by decide)⟩, fun v hv => ?_, h2, fun i v hi => absurd hi (by simp), ?_⟩
  · simp
  · rw [h4]
    simp
  · unfold ps_J
    dsimp only
    omega
  · obtain ⟨q1, q2, q3, q4, q5⟩ := h1 v hv
    exact ⟨q1, q2, q3, q4, q5, rfl⟩
  · exact ⟨fun i hi => absurd hi (by omega), fun v hv => absurd (show (0 : Nat) = 2 from hv.2) (by decide), fun i k hi => absurd hi (by omega)⟩
theorem ps_ls_ins {a : Nat → Int32} {KL RL : List Nat} {j : Nat} (h1 : ps_ls a KL) (h2 : ∀ i v, RL[i]? = some v → a (KL.length + 1 + i) = nI v) : ps_ls (upd a KL.length (nI j)) (KL ++ j :: RL) := by
  intro i v hi
  by_cases c1 : i < KL.length
  · rw [List.getElem?_append_left c1] at hi
    rw [pk_un (by omega)]
    exact h1 i v hi
  · rw [List.getElem?_append_right (by omega)] at hi
    by_cases c2 : i = KL.length
    · subst c2
      rw [Nat.sub_self] at hi
      have : j = v := Option.some.inj hi
      rw [pk_us, this]
    · obtain ⟨k, rfl⟩ : ∃ k, i = KL.length + 1 + k := ⟨i - KL.length - 1, by omega⟩
      rw [show KL.length + 1 + k - KL.length = k + 1 by omega, List.getElem?_cons_succ] at hi
      rw [pk_un (by omega)]
      exact h2 k v hi
section
variable {T J : Int32} {C : Int64} {H K I : Int32} {a1 a2 a3 a4 a5 a6 : Nat → Int32} {a7 : Nat → Int64} {a8 a9 a10 : Nat → Int32}
variable {sz ar : Nat → Nat}
theorem ps_s109 {j : Nat} (hj : j < 16) (A2 : ∀ v, v ≤ j → a2 v = nI (ar v)) (har : ∀ v, v ≤ j → ar v ≤ 15) : ∀ (d : Nat) (KL RL : List Nat) (a9 : Nat → Int32), KL.length = d → d + RL.length ≤ 16 → (KL ++ RL).Pairwise (ps_lt ar) → (∀ v, v ∈ KL ++ RL → v < j) → (∀ v, v ∈ RL → ar j < ar v) → ps_ls a9 KL → (∀ i v, RL[i]? = some v → a9 (d + 1 + i) = nI v) →
    ∃ (b : Nat → Int32) (CL : List Nat), ps_ls b CL ∧ CL.Pairwise (ps_lt ar) ∧ (∀ v, v ∈ CL ↔ v = j ∨ v ∈ KL ++ RL) ∧ CL.length = d + RL.length + 1 ∧
      ∀ post : Int32 → St1 → Prop, post (nI j) (T, J, C, H, nI (d + RL.length + 1), I, a1, a2, a3, a4, a5, a6, a7, a8, b, a10) → ∀ f, d < f → wX_submit_109 post (nI j) T J C H (nI (d + RL.length)) I f (nI d) a1 a2 a3 a4 a5 a6 a7 a8 a9 a10 := by
  intro d
  have fin : ∀ (KL RL : List Nat) (a9 : Nat → Int32), KL.length = d → (KL ++ RL).Pairwise (ps_lt ar) → (∀ v, v ∈ KL ++ RL → v < j) → (∀ v, v ∈ RL → ar j < ar v) → (∀ v, v ∈ KL → ar v ≤ ar j) → ps_ls a9 KL → (∀ i v, RL[i]? = some v → a9 (d + 1 + i) = nI v) →
      ps_ls (upd a9 d (nI j)) (KL ++ j :: RL) ∧ (KL ++ j :: RL).Pairwise (ps_lt ar) ∧ (∀ v, v ∈ KL ++ j :: RL ↔ v = j ∨ v ∈ KL ++ RL) ∧ (KL ++ j :: RL).length = d + RL.length + 1 := by
    intro KL RL a9 hd hP hv hR hK h9 hr
    subst hd
    obtain ⟨p1, p2, p3⟩ := List.pairwise_append.mp hP
    refine ⟨ps_ls_ins h9 hr, List.pairwise_append.mpr ⟨p1, List.pairwise_cons.mpr ⟨fun v vm => ?_, p2⟩, fun v vm w wm => ?_⟩, fun v => ?_, ?_⟩
    · have := hR v vm
      unfold ps_lt
      omega
    · rcases List.mem_cons.mp wm with z | z
      · subst z
        have h1 := hK v vm
        have h2 := hv v (List.mem_append.mpr (Or.inl vm))
        unfold ps_lt
        omega
      · exact p3 v vm w z
    · rw [List.mem_append, List.mem_cons, List.mem_append]
      exact ⟨fun z => z.elim (fun z => Or.inr (Or.inl z)) (fun z => z.elim Or.inl (fun z => Or.inr (Or.inr z))), fun z => z.elim (fun z => Or.inr (Or.inl z)) (fun z => z.elim Or.inl (fun z => Or.inr (Or.inr z)))⟩
    · rw [List.length_append, List.length_cons]
      omega
  induction d with
  | zero =>
    intro KL RL a9 hd hl hP hv hR h9 hr
    obtain rfl : KL = [] := List.eq_nil_of_length_eq_zero hd
    obtain ⟨f1, f2, f3, f4⟩ := fin [] RL a9 rfl hP hv hR (fun v vm => absurd vm (by simp)) h9 hr
    refine ⟨_, _, f1, f2, f3, f4, fun post HP f hf => ?_⟩
    obtain ⟨f, rfl⟩ : ∃ g, f = g + 1 := ⟨f - 1, by omega⟩
    refine pk_le 0 0 (fun _ => ?_) (fun z => absurd z (by omega))
    exact ⟨pk_in 0 24 (by omega), nm_e (nm_r (nI_1 _) HP)⟩
  | succ d ih =>
    intro KL RL a9 hd hl hP hv hR h9 hr
    have hne : KL ≠ [] := fun z => by
      rw [z, List.length_nil] at hd
      omega
    obtain ⟨KL', w, rfl⟩ : ∃ KL' w, KL = KL' ++ [w] := ⟨KL.dropLast, KL.getLast hne, (List.dropLast_concat_getLast hne).symm⟩
    have hd' : KL'.length = d := by
      rw [List.length_append, List.length_singleton] at hd
      omega
    have hw : w < j := hv w (by simp)
    have e9 : a9 d = nI w := h9 d w (by rw [List.getElem?_append_right (by omega), hd', Nat.sub_self]; rfl)
    have em : nI (d + 1) - 1 = nI d := nI_pred d
    have e4 : a9 (nI d).toNatClampNeg = nI w := by rw [nI_clamp (by omega), e9]
    have e5 : a2 (nI w).toNatClampNeg = nI (ar w) := by rw [nI_clamp (by omega), A2 w (by omega)]
    have e6 : a2 (nI j).toNatClampNeg = nI (ar j) := by rw [nI_clamp (by omega), A2 j (by omega)]
    have hw15 := har w (by omega)
    have hj15 := har j (by omega)
    by_cases hc : ar w ≤ ar j
    · obtain ⟨f1, f2, f3, f4⟩ := fin (KL' ++ [w]) RL a9 hd hP hv hR (fun v vm => by
        rcases List.mem_append.mp vm with z | z
        · have h1 := (List.pairwise_append.mp (List.pairwise_append.mp hP).1).2.2 v z w (by simp)
          have h2 := hv v (by simp [z])
          unfold ps_lt at h1
          omega
        · rw [List.mem_singleton.mp z]
          exact hc) h9 hr
      refine ⟨_, _, f1, f2, f3, f4, fun post HP f hf => ?_⟩
      obtain ⟨f, rfl⟩ : ∃ g, f = g + 1 := ⟨f - 1, by omega⟩
      refine pk_le (d + 1) 0 (fun z => absurd z (by omega)) (fun _ => ?_)
      rw [em, e4, e5, e6]
      refine ⟨pk_in d 24 (by omega), pk_in w 24 (by omega), pk_in j 24 (by omega), pk_le (ar w) (ar j) (fun _ => ?_) (fun z => absurd z (by omega))⟩
      exact ⟨pk_in (d + 1) 24 (by omega), nm_r (by rw [nI_clamp (by omega)]) (nm_r (nI_1 _) HP)⟩
    · have aux : ∀ v, v ∈ KL' ++ w :: RL ↔ v ∈ (KL' ++ [w]) ++ RL := fun v => by simp
      obtain ⟨b, CL, g1, g2, g3, g4, gw⟩ := ih (fun KL RL a9 hd hP hv hR hK h9 hr => by
          subst hd
          obtain ⟨p1, p2, p3⟩ := List.pairwise_append.mp hP
          refine ⟨ps_ls_ins h9 hr, List.pairwise_append.mpr ⟨p1, List.pairwise_cons.mpr ⟨fun v vm => ?_, p2⟩, fun v vm w wm => ?_⟩, fun v => ?_, ?_⟩
          · have := hR v vm
            unfold ps_lt
            omega
          · rcases List.mem_cons.mp wm with z | z
            · subst z
              have h1 := hK v vm
              have h2 := hv v (List.mem_append.mpr (Or.inl vm))
              unfold ps_lt
              omega
            · exact p3 v vm w z
          · rw [List.mem_append, List.mem_cons, List.mem_append]
            exact ⟨fun z => z.elim (fun z => Or.inr (Or.inl z)) (fun z => z.elim Or.inl (fun z => Or.inr (Or.inr z))), fun z => z.elim (fun z => Or.inr (Or.inl z)) (fun z => z.elim Or.inl (fun z => Or.inr (Or.inr z)))⟩
          · rw [List.length_append, List.length_cons]
            omega) KL' (w :: RL) (upd a9 (d + 1) (nI w)) hd' (by rw [List.length_cons]; omega) (by rw [List.append_assoc] at hP; exact hP) (fun v vm => hv v ((aux v).mp vm)) (fun v vm => by
          rcases List.mem_cons.mp vm with z | z
          · subst z
            omega
          · exact hR v z) (fun i v hi => by
          have hlt : i < KL'.length := by
            rcases Nat.lt_or_ge i KL'.length with z | z
            · exact z
            · rw [List.getElem?_eq_none z] at hi
              exact absurd hi.symm (Option.some_ne_none v)
          rw [pk_un (by omega)]
          exact h9 i v (by rw [List.getElem?_append_left hlt]; exact hi)) (fun i v hi => by
          cases i with
          | zero =>
            have : w = v := Option.some.inj hi
            rw [Nat.add_zero, pk_us, this]
          | succ i =>
            rw [List.getElem?_cons_succ] at hi
            rw [pk_un (by omega), show d + 1 + (i + 1) = d + 1 + 1 + i by omega]
            exact hr i v hi)
      rw [List.length_cons] at g4 gw
      refine ⟨b, CL, g1, g2, fun v => by rw [g3, aux], by omega, fun post HP f hf => ?_⟩
      obtain ⟨f, rfl⟩ : ∃ g, f = g + 1 := ⟨f - 1, by omega⟩
      have en : d + (RL.length + 1) = d + 1 + RL.length := by omega
      rw [en] at gw
      refine pk_le (d + 1) 0 (fun z => absurd z (by omega)) (fun _ => ?_)
      rw [em, e4, e5, e6]
      refine ⟨pk_in d 24 (by omega), pk_in w 24 (by omega), pk_in j 24 (by omega), pk_le (ar w) (ar j) (fun z => absurd z (by omega)) (fun _ => ⟨pk_in d 24 (by omega), pk_in (d + 1) 24 (by omega), nm_r (e' := upd a9 (d + 1) (nI w)) (by rw [nI_clamp (by omega)]) (nm_r (pk_m1 d) (gw post HP f (by omega)))⟩)⟩
theorem ps_submit {j : Nat} {s : St1} (hj : j < 16) (hz : 1 ≤ sz j ∧ sz j ≤ 4096) (har : ∀ v, v ≤ j → ar v ≤ 15) (V : ps_SV sz ar j s) : ∃ s', ps_SV sz ar (j + 1) s' ∧ ∀ post : Int32 → St1 → Prop, post (nI j) s' → wpX_submit post s (nI (sz j)) (nI (ar j)) := by
  obtain ⟨CL, a1, a2, a3, a4, a5, a6, a8, a9, a10, rfl, h1, h2, h3, h4⟩ := V
  have hl : CL.length ≤ j := ps_len h3 (fun v vm => (h4 v).mp vm)
  have hj15 := har j (by omega)
  obtain ⟨b, CL', g1, g2, g3, g4, gw⟩ := ps_s109 (T := nI 0) (J := nI (j + 1)) (C := lN 0) (H := nI 0) (I := nI 0) (a1 := upd a1 j (nI (sz j))) (a2 := upd a2 j (nI (ar j))) (a3 := upd a3 j 0) (a4 := upd a4 j (-5)) (a5 := upd a5 j (-5)) (a6 := upd a6 j 0) (a7 := fun _ => 0) (a8 := a8) (a10 := a10) (ar := ar) hj (fun v hv => by
      by_cases c : v = j
      · subst c
        rw [pk_us]
      · rw [pk_un c]
        exact (h1 v (by omega)).2.1) har CL.length CL [] a9 rfl (by rw [List.length_nil]; omega) (by rw [List.append_nil]; exact h3) (fun v vm => (h4 v).mp (by rw [List.append_nil] at vm; exact vm)) (fun v vm => absurd vm (by simp)) h2 (fun i v hi => absurd hi (by simp))
  rw [List.length_nil, Nat.add_zero] at g4 gw
  refine ⟨_, ⟨CL', upd a1 j (nI (sz j)), upd a2 j (nI (ar j)), upd a3 j 0, upd a4 j (-5), upd a5 j (-5), upd a6 j 0, a8, b, a10, rfl, fun v hv => ?_, g1, g2, fun v => ?_⟩, fun post HP => ?_⟩
  · by_cases c : v = j
    · subst c
      exact ⟨pk_us, pk_us, pk_us, pk_us, pk_us⟩
    · rw [pk_un c, pk_un c, pk_un c, pk_un c, pk_un c]
      exact h1 v (by omega)
  · rw [g3, List.append_nil, h4]
    omega
  · have ij : vp_in (nI j) 24 := pk_in j 24 (by omega)
    rw [g4] at HP
    refine pk_lt (sz j) 1 (fun z => absurd z (by omega)) (fun _ => pk_le (sz j) 100000 (fun _ => br_f (nI_pos (by omega)) (pk_le (ar j) 1000 (fun _ => pk_lt j 24 (fun _ => nm_r (nI_1 j) ?_) (fun z => absurd z (by omega))) (fun z => absurd z (by omega)))) (fun z => absurd z (by omega)))
    rw [nI_clamp (show j < 2 ^ 31 by omega)]
    exact ⟨ij, nm_e ⟨ij, nm_r (e' := upd a2 j (nI (ar j))) (by rw [nI_add, Nat.zero_add]) ⟨ij, nm_e ⟨ij, nm_e ⟨ij, nm_e ⟨ij, nm_e ⟨CL.length + 1, gw post HP (CL.length + 1) (by omega)⟩⟩⟩⟩⟩⟩⟩
end
end
section
def ps_ce (L : Nat) (xs : Nat → Int32) (k : Nat) : Int32 := if k < L then xs k else 0
def ps_sz (L : Nat) (xs : Nat → Int32) (j : Nat) : Nat := 1 + (ps_ce L xs (1 + 2 * j)).toBitVec.toNat % 2 ^ 12
def ps_ar (L : Nat) (xs : Nat → Int32) (j : Nat) : Nat := (ps_ce L xs (2 + 2 * j)).toBitVec.toNat % 2 ^ 4
theorem ps_zb (L : Nat) (xs : Nat → Int32) (j : Nat) : 1 ≤ ps_sz L xs j ∧ ps_sz L xs j ≤ 4096 ∧ ps_ar L xs j ≤ 15 := by
  unfold ps_sz ps_ar
  have h1 := Nat.mod_lt (ps_ce L xs (1 + 2 * j)).toBitVec.toNat (show 0 < 2 ^ 12 by decide)
  have h2 := Nat.mod_lt (ps_ce L xs (2 + 2 * j)).toBitVec.toNat (show 0 < 2 ^ 4 by decide)
  omega
section
variable {L : Nat} {xs : Nat → Int32}
theorem ps_cell {k : Nat} {u : St2} (hL : L ≤ 260) (hk : k < 1000) {post : Int32 → Prop} (HP : post (ps_ce L xs k)) : wpL_cell post L xs u (nI k) := by
  refine pk_le L k (fun z => ?_) (fun z => ⟨pk_in k L z, ?_⟩)
  · unfold ps_ce at HP
    rw [if_neg (by omega)] at HP
    exact HP
  · unfold ps_ce at HP
    rw [if_pos z] at HP
    rw [nI_clamp (by omega)]
    exact HP
theorem ps_size {j : Nat} {u : St2} (hL : L ≤ 260) (hj : j < 100) {post : Int32 → Prop} (HP : post (nI (ps_sz L xs j))) : wpL_size post L xs u (nI j) := by
  have e : (1 : Int32) + 2 * nI j = nI (1 + 2 * j) := by
    rw [← nI_add, ← pk_mul]
    rfl
  unfold wpL_size
  rw [e]
  refine ps_cell hL (by omega) ?_
  show post (1 + (ps_ce L xs (1 + 2 * j) &&& 4095))
  rw [pk_and (ps_ce L xs (1 + 2 * j)) 12 (by decide)]
  have e2 : (1 : Int32) + nI ((ps_ce L xs (1 + 2 * j)).toBitVec.toNat % 2 ^ 12) = nI (ps_sz L xs j) := by
    unfold ps_sz
    rw [← nI_add]
    rfl
  rw [e2]
  exact HP
theorem ps_arrv {j : Nat} {u : St2} (hL : L ≤ 260) (hj : j < 100) {post : Int32 → Prop} (HP : post (nI (ps_ar L xs j))) : wpL_arrival post L xs u (nI j) := by
  have e : (2 : Int32) + 2 * nI j = nI (2 + 2 * j) := by
    rw [← nI_add, ← pk_mul]
    rfl
  unfold wpL_arrival
  rw [e]
  refine ps_cell hL (by omega) ?_
  show post (ps_ce L xs (2 + 2 * j) &&& 15)
  rw [pk_and (ps_ce L xs (2 + 2 * j)) 4 (by decide)]
  exact HP
end
section
variable {T J : Int32} {C : Int64} {H K I : Int32} {a1 a2 a3 a4 a5 a6 : Nat → Int32} {a7 : Nat → Int64} {a8 a9 a10 : Nat → Int32}
variable {n L : Nat} {xs : Nat → Int32}
theorem ps_same {q : Nat} (hq : q < n) (hn : n ≤ 24) {post : Int32 → Prop} (HP : post 1) :
    wpL_same post (T, nI n, C, H, K, I, a1, a2, a3, a4, a5, a6, a7, a8, a9, a10, T, nI n, C, H, K, I, a1, a2, a3, a4, a5, a6, a7, a8, a9, a10) (nI q) := by
  obtain ⟨r, hr⟩ := ps_had (T := T) (C := C) (H := H) (K := K) (I := I) (a1 := a1) (a2 := a2) (a3 := a3) (a4 := a4) (a5 := a5) (a6 := a6) (a7 := a7) (a8 := a8) (a9 := a9) (a10 := a10) hq hn
  unfold wpL_same
  exact ps_state hq hn (ps_state hq hn (br_t rfl (hr _ (hr _ (br_t rfl (ps_admitted hq hn (ps_admitted hq hn (br_t rfl (ps_finished hq hn (ps_finished hq hn (br_t rfl HP)))))))))))
variable {e g t c : Nat} {st ad fi M : Nat → Nat} {LL CL : List Nat}
theorem ps_o38 {i j : Nat} (ht : t ≤ 100000) (hi : i < n) (hj : j < n) (P : ps_PI n (ps_sz L xs) (ps_ar L xs) 0 0 t c st ad fi M LL CL) (A : ps_MA n (ps_sz L xs) (ps_ar L xs) st ad fi M a1 a2 a3 a4 a5 a7) (hlt : ps_lt (ps_ar L xs) i j) {post : Int32 → Prop} (HP : post 1) :
    wL_ordered_38 post L xs (nI i) (nI j) 1 T (nI n) C H K I a1 a2 a3 a4 a5 a6 a7 a8 a9 a10 := by
  have hn := P.1.1
  obtain ⟨_, _, s3, s4, s5, _⟩ := A i hi
  obtain ⟨_, _, _, r4, _, _⟩ := A j hj
  have h6 := P.2.2.2.2.2.1 i hi
  have h6j := P.2.2.2.2.2.1 j hj
  unfold ps_J at h6 h6j
  unfold wL_ordered_38
  refine ps_admitted hj (by omega) (br_f (by decide) ?_)
  rw [r4]
  by_cases c1 : ad j = 0
  · rw [c1]
    exact br_f (by decide) HP
  · have h7 := P.2.2.2.2.2.2.1 i j hi hj (by omega) hlt
    rw [ps_dcp (by omega)]
    refine br_t (nI_pos' (by omega)) (ps_admitted hi (by omega) ?_)
    rw [s4]
    by_cases c2 : ad i = 0
    · rw [c2]
      refine br_f (by decide) (ps_state hi (by omega) ?_)
      rw [s3]
      exact pk_eq (st i) 4 (fun _ => HP) (fun z => absurd z (by omega))
    · rw [ps_dcp (by omega)]
      exact br_t (nI_pos' (by omega)) (pk_lt (ad j - 1) (ad i - 1) (fun z => absurd z (by omega)) (fun _ => HP))
theorem ps_ordered {i j : Nat} (hL : L ≤ 260) (ht : t ≤ 100000) (hi : i < n) (hj : j < n) (P : ps_PI n (ps_sz L xs) (ps_ar L xs) 0 0 t c st ad fi M LL CL) (A : ps_MA n (ps_sz L xs) (ps_ar L xs) st ad fi M a1 a2 a3 a4 a5 a7) {post : Int32 → Prop} (HP : post 1) :
    wpL_ordered post L xs (T, nI n, C, H, K, I, a1, a2, a3, a4, a5, a6, a7, a8, a9, a10) (nI i) (nI j) := by
  have hn := P.1.1
  have zi := (ps_zb L xs i).2.2
  have zj := (ps_zb L xs j).2.2
  have h37 : wL_ordered_37 post L xs (nI i) (nI j) T (nI n) C H K I a1 a2 a3 a4 a5 a6 a7 a8 a9 a10 := by
    unfold wL_ordered_37 wL_ordered_38
    exact ps_admitted hj (by omega) (br_t rfl HP)
  have h33 : ps_lt (ps_ar L xs) i j → wL_ordered_33 post L xs (nI i) (nI j) T (nI n) C H K I a1 a2 a3 a4 a5 a6 a7 a8 a9 a10 := by
    intro hlt
    unfold wL_ordered_33
    exact ps_o38 ht hi hj P A hlt HP
  unfold wpL_ordered
  refine ps_arrv hL (by omega) (ps_arrv hL (by omega) ?_)
  refine pk_lt (ps_ar L xs i) (ps_ar L xs j) (fun z => h33 ?_) (fun z => pk_eq (ps_ar L xs i) (ps_ar L xs j) (fun y => pk_le j i (fun _ => h37) (fun w => h33 ?_)) (fun _ => h37))
  · unfold ps_lt
    omega
  · unfold ps_lt
    omega
theorem ps_meets {i j : Nat} (ht : t ≤ 100000) (hi : i < n) (hj : j < n) (h3 : st i = 3) (P : ps_PI n (ps_sz L xs) (ps_ar L xs) 0 0 t c st ad fi M LL CL) (A : ps_MA n (ps_sz L xs) (ps_ar L xs) st ad fi M a1 a2 a3 a4 a5 a7) {post : Int32 → Prop}
    (H1 : (1 ≤ ad j ∧ ad j ≤ fi i ∧ (fi j = 0 ∨ ad i ≤ fi j)) → post 1) (H0 : ¬ (1 ≤ ad j ∧ ad j ≤ fi i ∧ (fi j = 0 ∨ ad i ≤ fi j)) → post 0) : wpL_meets post (T, nI n, C, H, K, I, a1, a2, a3, a4, a5, a6, a7, a8, a9, a10) (nI i) (nI j) := by
  have hn := P.1.1
  obtain ⟨_, _, _, s4, s5, _⟩ := A i hi
  obtain ⟨_, _, _, r4, r5, _⟩ := A j hj
  have h6 := P.2.2.2.2.2.1 i hi
  have h6j := P.2.2.2.2.2.1 j hj
  unfold ps_J at h6 h6j
  unfold wpL_meets
  refine ps_admitted hj (by omega) ?_
  rw [r4]
  by_cases c1 : ad j = 0
  · rw [c1]
    exact br_f (by decide) (H0 (by omega))
  · rw [ps_dcp (t := ad j) (by omega)]
    refine br_t (nI_pos' (by omega)) (ps_admitted hi (by omega) (ps_finished hi (by omega) ?_))
    rw [s4, s5, ps_dcp (t := ad i) (by omega), ps_dcp (t := fi i) (by omega)]
    refine pk_le (ad j - 1) (fi i - 1) (fun z => ps_finished hj (by omega) ?_) (fun z => H0 (by omega))
    rw [r5]
    by_cases c2 : fi j = 0
    · rw [c2]
      exact br_t (by decide) (H1 (by omega))
    · rw [ps_dcp (t := fi j) (by omega)]
      exact br_f (nI_pos (by omega)) (pk_lt (fi j - 1) (ad i - 1) (fun y => H0 (by omega)) (fun y => H1 (by omega)))
theorem ps_al2 {i : Nat} (ht : t ≤ 100000) (hi : i < n) (h3 : st i = 3) (P : ps_PI n (ps_sz L xs) (ps_ar L xs) 0 0 t c st ad fi M LL CL) (A : ps_MA n (ps_sz L xs) (ps_ar L xs) st ad fi M a1 a2 a3 a4 a5 a7) {post : Int32 → Prop}
    (H1 : ps_AL n ad fi i → post 1) (H0 : post 0) : ∀ d x, x + d = n → (∀ k, k < x → k ≠ i → ¬ (1 ≤ ad k ∧ ad k ≤ fi i ∧ (fi k = 0 ∨ ad i ≤ fi k))) → ∀ f, d < f → wL_alone_2 post (nI i) (nI n) T (nI n) C H K I a1 a2 a3 a4 a5 a6 a7 a8 a9 a10 f (nI x) := by
  have hn := P.1.1
  intro d
  induction d with
  | zero =>
    intro x hx hk f hf
    obtain ⟨f, rfl⟩ : ∃ g, f = g + 1 := ⟨f - 1, by omega⟩
    obtain rfl : x = n := by omega
    exact pk_le x x (fun _ => H1 hk) (fun z => absurd z (by omega))
  | succ d ih =>
    intro x hx hk f hf
    obtain ⟨f, rfl⟩ : ∃ g, f = g + 1 := ⟨f - 1, by omega⟩
    refine pk_le n x (fun z => absurd z (by omega)) (fun _ => pk_eq x i (fun z => nm_r (nI_1 x) (ih (x + 1) (by omega) (fun k h1 h2 => hk k (by omega) h2) f (by omega))) (fun z => ps_meets ht hi (by omega) h3 P A (fun m => br_f (by decide) H0) (fun m => br_t rfl (nm_r (nI_1 x) (ih (x + 1) (by omega) (fun k h1 h2 => ?_) f (by omega))))))
    by_cases c1 : k = x
    · subst c1
      exact m
    · exact hk k (by omega) h2
theorem ps_j56 {i : Nat} (hL : L ≤ 260) (ht : t ≤ 100000) (hi : i < n) (P : ps_PI n (ps_sz L xs) (ps_ar L xs) 0 0 t c st ad fi M LL CL) (A : ps_MA n (ps_sz L xs) (ps_ar L xs) st ad fi M a1 a2 a3 a4 a5 a7) {post : Int32 → Prop} (HP : post 1) :
    ∀ d x, x + d = n → ∀ f, d < f → wL_job_56 post L xs (nI i) (nI n) T (nI n) C H K I a1 a2 a3 a4 a5 a6 a7 a8 a9 a10 f (nI x) := by
  have hn := P.1.1
  intro d
  induction d with
  | zero =>
    intro x hx f hf
    obtain ⟨f, rfl⟩ : ∃ g, f = g + 1 := ⟨f - 1, by omega⟩
    exact pk_le n x (fun _ => HP) (fun z => absurd z (by omega))
  | succ d ih =>
    intro x hx f hf
    obtain ⟨f, rfl⟩ : ∃ g, f = g + 1 := ⟨f - 1, by omega⟩
    exact pk_le n x (fun z => absurd z (by omega)) (fun _ => ps_ordered hL ht hi (by omega) P A (br_f (by decide) (nm_r (nI_1 x) (ih (x + 1) (by omega) f (by omega)))))
theorem ps_job {i : Nat} (hL : L ≤ 260) (ht : t ≤ 100000) (hi : i < n) (P : ps_PI n (ps_sz L xs) (ps_ar L xs) 0 0 t c st ad fi M LL CL) (A : ps_MA n (ps_sz L xs) (ps_ar L xs) st ad fi M a1 a2 a3 a4 a5 a7) {post : Int32 → Prop} (HP : post 1) :
    wpL_job post L xs (T, nI n, C, H, K, I, a1, a2, a3, a4, a5, a6, a7, a8, a9, a10) (nI i) (nI n) := by
  have hn := P.1.1
  obtain ⟨_, _, s3, s4, s5, _⟩ := A i hi
  have h6 := P.2.2.2.2.2.1 i hi
  unfold ps_J at h6
  have zz := ps_zb L xs i
  have h56 : ∃ f, wL_job_56 post L xs (nI i) (nI n) T (nI n) C H K I a1 a2 a3 a4 a5 a6 a7 a8 a9 a10 f 0 := ⟨n + 1, ps_j56 hL ht hi P A HP n 0 (by omega) (n + 1) (by omega)⟩
  unfold wpL_job
  refine ps_state hi (by omega) ?_
  rw [s3]
  refine pk_eq (st i) 3 (fun z => ?_) (fun _ => h56)
  have e1 : (nI (ps_sz L xs i) - 1) / 840 = nI ((ps_sz L xs i - 1) / 840) := by
    have : nI (ps_sz L xs i) - 1 = nI (ps_sz L xs i - 1) := pk_sub (b := 1) (by omega)
    rw [this]
    exact pk_div (d := 840) (by omega) (by omega) (by omega)
  refine ⟨n + 1, ps_al2 ht hi z P A (fun al => ?_) ?_ n 0 (by omega) (fun k hk => absurd hk (by omega)) (n + 1) (by omega)⟩
  · refine ps_admitted hi (by omega) (ps_size hL (by omega) ⟨by decide, ?_⟩)
    rw [e1, s4, ps_dcp (by omega), nI_add]
    refine nm_e (br_f (by decide) (ps_finished hi (by omega) (br_t ?_ h56)))
    rw [s5, ps_dcp (by omega)]
    have h10 := P.2.2.2.2.2.2.2.2.2 i hi z al
    rw [h10]
    exact congrArg nI (by omega)
  · refine ps_admitted hi (by omega) (ps_size hL (by omega) ⟨by decide, ?_⟩)
    exact nm_e (br_t rfl h56)
end
end
section
section
variable {n L kc ks : Nat} {xs : Nat → Int32}
theorem ps_jobs {e g t : Nat} {sz ar : Nat → Nat} {T J : Int32} {C : Int64} {H K I : Int32} {a1 a2 a3 a4 a5 a6 : Nat → Int32} {a7 : Nat → Int64} {a8 a9 a10 : Nat → Int32} (V : ps_IV n sz ar e g t (T, J, C, H, K, I, a1, a2, a3, a4, a5, a6, a7, a8, a9, a10)) : J = nI n ∧ n ≤ 16 := by
  obtain ⟨c, h, st, ad, fi, M, LL, CL, b1, b2, b3, b4, b5, b6, b7, b8, b9, b10, ee, hh, P, A, h9, h10, hp⟩ := V
  exact ⟨congrArg (fun s : St1 => s.2.1) ee, P.1.1⟩
theorem ps_jobI {t : Nat} (hL : L ≤ 260) (ht : t ≤ 100000) {s : St1} (V : ps_IV n (ps_sz L xs) (ps_ar L xs) 0 0 t s) {i : Nat} (hi : i < n) {post : Int32 → Prop} (HP : post 1) : wpL_job post L xs s (nI i) (nI n) := by
  obtain ⟨c, h, st, ad, fi, M, LL, CL, b1, b2, b3, b4, b5, b6, b7, b8, b9, b10, rfl, hh, P, A, h9, h10, hp⟩ := V
  exact ps_job hL ht hi P A HP
theorem ps_l277 {t : Nat} (hL : L ≤ 260) (ht : t ≤ 100000) {T J : Int32} {C : Int64} {H K I : Int32} {a1 a2 a3 a4 a5 a6 : Nat → Int32} {a7 : Nat → Int64} {a8 a9 a10 : Nat → Int32} (V : ps_IV n (ps_sz L xs) (ps_ar L xs) 0 0 t (T, J, C, H, K, I, a1, a2, a3, a4, a5, a6, a7, a8, a9, a10)) {post : Int32 → Prop} (HP : post 1) :
    ∀ d x, x + d = n → ∀ f, d < f → wL_law_277 post L xs (nI n) kc ks T J C H K I a1 a2 a3 a4 a5 a6 a7 a8 a9 a10 T J C H K I a1 a2 a3 a4 a5 a6 a7 a8 a9 a10 f (nI x) := by
  obtain ⟨rfl, hn⟩ := ps_jobs V
  intro d
  induction d with
  | zero =>
    intro x hx f hf
    obtain ⟨f, rfl⟩ : ∃ g, f = g + 1 := ⟨f - 1, by omega⟩
    exact pk_le n x (fun _ => HP) (fun z => absurd z (by omega))
  | succ d ih =>
    intro x hx f hf
    obtain ⟨f, rfl⟩ : ∃ g, f = g + 1 := ⟨f - 1, by omega⟩
    exact pk_le n x (fun z => absurd z (by omega)) (fun _ => ps_same (by omega) (by omega) (ps_jobI hL ht V (by omega) (br_f (by decide) (br_f (by decide) (nm_r (nI_1 x) (ih (x + 1) (by omega) f (by omega)))))))
theorem ps_l250 {t : Nat} (hL : L ≤ 260) (ht : t ≤ 1000) {T J : Int32} {C : Int64} {H K I : Int32} {a1 a2 a3 a4 a5 a6 : Nat → Int32} {a7 : Nat → Int64} {a8 a9 a10 : Nat → Int32} (V : ps_IV n (ps_sz L xs) (ps_ar L xs) 0 0 t (T, J, C, H, K, I, a1, a2, a3, a4, a5, a6, a7, a8, a9, a10)) {post : Int32 → Prop} (HP : post 1) :
    wL_law_250 post L xs (nI n) kc ks T J C H K I a1 a2 a3 a4 a5 a6 a7 a8 a9 a10 T J C H K I a1 a2 a3 a4 a5 a6 a7 a8 a9 a10 := by
  have V1 := ps_tN_s 2500 (by omega) V
  have V2 := ps_tN_s 2500 (by omega) V1
  have e := ps_tN_add (n := n) (sz := ps_sz L xs) (ar := ps_ar L xs) (t := t) (s := (T, J, C, H, K, I, a1, a2, a3, a4, a5, a6, a7, a8, a9, a10)) 2500 2500
  unfold wL_law_250
  refine ps_run (N := 2500) (by omega) (by omega) V ?_
  generalize ps_tN n (ps_sz L xs) (ps_ar L xs) t 2500 (T, J, C, H, K, I, a1, a2, a3, a4, a5, a6, a7, a8, a9, a10) = p1 at V1 V2 e ⊢
  obtain ⟨r1, s1⟩ := p1
  obtain ⟨T1, J1, C1, H1, K1, I1, b1, b2, b3, b4, b5, b6, b7, b8, b9, b10⟩ := s1
  refine ps_run (N := 2500) (by omega) (by omega) V1 ?_
  dsimp only at V2 e ⊢
  generalize ps_tN n (ps_sz L xs) (ps_ar L xs) (t + 2500) 2500 (T1, J1, C1, H1, K1, I1, b1, b2, b3, b4, b5, b6, b7, b8, b9, b10) = p2 at V2 e ⊢
  obtain ⟨r2, s2⟩ := p2
  obtain ⟨T2, J2, C2, H2, K2, I2, c1, c2, c3, c4, c5, c6, c7, c8, c9, c10⟩ := s2
  refine ps_run (N := 5000) (by omega) (by omega) V ?_
  have e' : ps_tN n (ps_sz L xs) (ps_ar L xs) t 5000 (T, J, C, H, K, I, a1, a2, a3, a4, a5, a6, a7, a8, a9, a10) = (r1 + r2, (T2, J2, C2, H2, K2, I2, c1, c2, c3, c4, c5, c6, c7, c8, c9, c10)) := e
  rw [e']
  exact ⟨n + 1, ps_l277 hL (by omega) V2 HP n 0 (by omega) (n + 1) (by omega)⟩
theorem ps_l175 {i t : Nat} (hL : L ≤ 260) (hi : i + 2 < L) {T J : Int32} {C : Int64} {H K I : Int32} {a1 a2 a3 a4 a5 a6 : Nat → Int32} {a7 : Nat → Int64} {a8 a9 a10 : Nat → Int32} (V : ps_IV n (ps_sz L xs) (ps_ar L xs) 0 0 t (T, J, C, H, K, I, a1, a2, a3, a4, a5, a6, a7, a8, a9, a10)) {post : Int32 → Prop}
    {Jf : Int32 → Int32 → Int32 → Int64 → Int32 → Int32 → Int32 → (Nat → Int32) → (Nat → Int32) → (Nat → Int32) → (Nat → Int32) → (Nat → Int32) → (Nat → Int32) → (Nat → Int64) → (Nat → Int32) → (Nat → Int32) → (Nat → Int32) → Int32 → Int32 → Int64 → Int32 → Int32 → Int32 → (Nat → Int32) → (Nat → Int32) → (Nat → Int32) → (Nat → Int32) → (Nat → Int32) → (Nat → Int32) → (Nat → Int64) → (Nat → Int32) → (Nat → Int32) → (Nat → Int32) → Prop}
    (hJ : ∀ (T J : Int32) (C : Int64) (H K I : Int32) (a1 a2 a3 a4 a5 a6 : Nat → Int32) (a7 : Nat → Int64) (a8 a9 a10 : Nat → Int32), ps_IV n (ps_sz L xs) (ps_ar L xs) 0 0 t (T, J, C, H, K, I, a1, a2, a3, a4, a5, a6, a7, a8, a9, a10) → Jf (nI (i + 3)) T J C H K I a1 a2 a3 a4 a5 a6 a7 a8 a9 a10 T J C H K I a1 a2 a3 a4 a5 a6 a7 a8 a9 a10) :
    ∀ d x, x + d = n → ∀ f, d < f → wL_law_175 post L xs Jf (nI n) (nI i) kc ks T J C H K I a1 a2 a3 a4 a5 a6 a7 a8 a9 a10 T J C H K I a1 a2 a3 a4 a5 a6 a7 a8 a9 a10 f (nI x) := by
  obtain ⟨rfl, hn⟩ := ps_jobs V
  have i2 : vp_in (nI i + 2) L := pk_in (i + 2) L hi (nI_add i 2)
  have e3 : nI i + 3 = nI (i + 3) := nI_add i 3
  intro d
  induction d with
  | zero =>
    intro x hx f hf
    obtain ⟨f, rfl⟩ : ∃ g, f = g + 1 := ⟨f - 1, by omega⟩
    refine pk_le n x (fun _ => ⟨i2, br_c (fun _ => ⟨i2, nm_r (pk_and _ 4 (by decide)) ?_⟩) (fun _ => nm_r e3 (hJ _ _ _ _ _ _ _ _ _ _ _ _ _ _ _ _ V))⟩) (fun z => absurd z (by omega))
    have hg := Nat.mod_lt (xs (nI i + 2).toNatClampNeg >>> ((2 : Int32) &&& 31)).toBitVec.toNat (show 0 < 2 ^ 4 by decide)
    obtain ⟨r, s', V', hw⟩ := ps_cancel (q := (xs (nI i + 2).toNatClampNeg >>> ((2 : Int32) &&& 31)).toBitVec.toNat % 2 ^ 4) (by omega) V
    obtain ⟨T1, J1, C1, H1, K1, I1, b1, b2, b3, b4, b5, b6, b7, b8, b9, b10⟩ := s'
    exact hw _ (hw _ (br_t rfl (nm_r e3 (hJ _ _ _ _ _ _ _ _ _ _ _ _ _ _ _ _ V'))))
  | succ d ih =>
    intro x hx f hf
    obtain ⟨f, rfl⟩ : ∃ g, f = g + 1 := ⟨f - 1, by omega⟩
    exact pk_le n x (fun z => absurd z (by omega)) (fun _ => ps_same (by omega) (by omega) (br_f (by decide) (nm_r (nI_1 x) (ih (x + 1) (by omega) f (by omega)))))
theorem ps_l95 (hL : L ≤ 260) (hn : n ≤ 16) {post : Int32 → Prop} (HP : post 1) : ∀ (d i t : Nat) (T J : Int32) (C : Int64) (H K I : Int32) (a1 a2 a3 a4 a5 a6 : Nat → Int32) (a7 : Nat → Int64) (a8 a9 a10 : Nat → Int32),
    L + 3 ≤ i + d → 1 + 2 * n ≤ i → i ≤ 1 + 2 * n + 39 → t ≤ 10 * (i - (1 + 2 * n)) → ps_IV n (ps_sz L xs) (ps_ar L xs) 0 0 t (T, J, C, H, K, I, a1, a2, a3, a4, a5, a6, a7, a8, a9, a10) → ∀ f, d < f → wL_law_95 post L xs (nI n) kc ks f (nI i) T J C H K I a1 a2 a3 a4 a5 a6 a7 a8 a9 a10 T J C H K I a1 a2 a3 a4 a5 a6 a7 a8 a9 a10 := by
  intro d
  have e36 : ((1 : Int32) + 2 * nI n) + 36 = nI (1 + 2 * n + 36) := by
    rw [← nI_add, ← nI_add, ← pk_mul]
    rfl
  have cmp : ∀ i : Nat, i < 1000 → ((Int32.ofNat L) - 3 < nI i ↔ L < i + 3) := by
    intro i hi
    have e : ((Int32.ofNat L) - 3).toInt = (L : Int) - 3 := pk_sub_toInt (a := L) (b := 3) (by omega) (by omega)
    rw [Int32.lt_iff_toInt_lt, e, nI_toInt (by omega)]
    omega
  induction d with
  | zero =>
    intro i t T J C H K I a1 a2 a3 a4 a5 a6 a7 a8 a9 a10 h1 h2 h3 h4 V f hf
    obtain ⟨f, rfl⟩ : ∃ g, f = g + 1 := ⟨f - 1, by omega⟩
    exact br_t ((cmp i (by omega)).mpr (by omega)) (ps_l250 hL (by omega) V HP)
  | succ d ih =>
    intro i t T J C H K I a1 a2 a3 a4 a5 a6 a7 a8 a9 a10 h1 h2 h3 h4 V f hf
    obtain ⟨f, rfl⟩ : ∃ g, f = g + 1 := ⟨f - 1, by omega⟩
    by_cases c1 : L < i + 3
    · exact br_t ((cmp i (by omega)).mpr c1) (ps_l250 hL (by omega) V HP)
    · refine br_f (fun z => c1 ((cmp i (by omega)).mp z)) (pk_le (1 + 2 * n + 36) i (fun _ => ps_l250 hL (by omega) V HP) (fun c2 => ?_) e36)
      refine ⟨pk_in i L (by omega), nm_r (pk_and _ 4 (by decide)) ⟨pk_in (i + 1) L (by omega) (nI_add i 1), nm_r (pk_and _ 4 (by decide)) ?_⟩⟩
      have ga := Nat.mod_lt (xs (nI i).toNatClampNeg).toBitVec.toNat (show 0 < 2 ^ 4 by decide)
      have gb := Nat.mod_lt (xs (nI i + 1).toNatClampNeg).toBitVec.toNat (show 0 < 2 ^ 4 by decide)
      generalize (xs (nI i).toNatClampNeg).toBitVec.toNat % 2 ^ 4 = a at ga ⊢
      generalize (xs (nI i + 1).toNatClampNeg).toBitVec.toNat % 2 ^ 4 = b at gb ⊢
      have V1 := ps_tN_s a (by omega) V
      have V2 := ps_tN_s b (by omega) V1
      have e := ps_tN_add (n := n) (sz := ps_sz L xs) (ar := ps_ar L xs) (t := t) (s := (T, J, C, H, K, I, a1, a2, a3, a4, a5, a6, a7, a8, a9, a10)) a b
      refine ps_run (N := a) (by omega) (by omega) V ?_
      generalize ps_tN n (ps_sz L xs) (ps_ar L xs) t a (T, J, C, H, K, I, a1, a2, a3, a4, a5, a6, a7, a8, a9, a10) = p1 at V1 V2 e ⊢
      obtain ⟨r1, s1⟩ := p1
      obtain ⟨T1, J1, C1, H1, K1, I1, b1, b2, b3, b4, b5, b6, b7, b8, b9, b10⟩ := s1
      refine ps_run (N := b) (by omega) (by omega) V1 ?_
      dsimp only at V2 e ⊢
      generalize ps_tN n (ps_sz L xs) (ps_ar L xs) (t + a) b (T1, J1, C1, H1, K1, I1, b1, b2, b3, b4, b5, b6, b7, b8, b9, b10) = p2 at V2 e ⊢
      obtain ⟨r2, s2⟩ := p2
      obtain ⟨T2, J2, C2, H2, K2, I2, c1, c2, c3, c4, c5, c6, c7, c8, c9, c10⟩ := s2
      rw [nI_add a b]
      refine ps_run (N := a + b) (by omega) (by omega) V ?_
      have e' : ps_tN n (ps_sz L xs) (ps_ar L xs) t (a + b) (T, J, C, H, K, I, a1, a2, a3, a4, a5, a6, a7, a8, a9, a10) = (r1 + r2, (T2, J2, C2, H2, K2, I2, c1, c2, c3, c4, c5, c6, c7, c8, c9, c10)) := e
      rw [e']
      have V2' : ps_IV n (ps_sz L xs) (ps_ar L xs) 0 0 (t + a + b) (T2, J2, C2, H2, K2, I2, c1, c2, c3, c4, c5, c6, c7, c8, c9, c10) := V2
      exact br_t rfl ⟨n + 1, ps_l175 hL (by omega) V2' (fun T J C H K I a1 a2 a3 a4 a5 a6 a7 a8 a9 a10 V3 => ih (i + 3) (t + a + b) T J C H K I a1 a2 a3 a4 a5 a6 a7 a8 a9 a10 (by omega) (by omega) (by omega) (by omega) V3 f (by omega)) n 0 (by omega) (n + 1) (by omega)⟩
theorem ps_l30 (hL : L ≤ 260) (hn : n ≤ 16) {post : Int32 → Prop} (HP : post 1) : ∀ (d j : Nat) (T J : Int32) (C : Int64) (H K I : Int32) (a1 a2 a3 a4 a5 a6 : Nat → Int32) (a7 : Nat → Int64) (a8 a9 a10 : Nat → Int32),
    j + d = n → ps_SV (ps_sz L xs) (ps_ar L xs) j (T, J, C, H, K, I, a1, a2, a3, a4, a5, a6, a7, a8, a9, a10) → ∀ f, d < f → wL_law_30 post L xs (nI n) kc ks f (nI j) T J C H K I a1 a2 a3 a4 a5 a6 a7 a8 a9 a10 T J C H K I a1 a2 a3 a4 a5 a6 a7 a8 a9 a10 := by
  intro d
  induction d with
  | zero =>
    intro j T J C H K I a1 a2 a3 a4 a5 a6 a7 a8 a9 a10 hj V f hf
    obtain ⟨f, rfl⟩ : ∃ g, f = g + 1 := ⟨f - 1, by omega⟩
    obtain rfl : j = n := by omega
    have e : (1 : Int32) + 2 * nI j = nI (1 + 2 * j) := by
      rw [← nI_add, ← pk_mul]
      rfl
    exact pk_le j j (fun _ => nm_r e ⟨L + 4, ps_l95 hL hn HP (L + 3) (1 + 2 * j) 0 T J C H K I a1 a2 a3 a4 a5 a6 a7 a8 a9 a10 (by omega) (by omega) (by omega) (by omega) (ps_SV_IV hn (fun v _ => ps_zb L xs v) V) (L + 4) (by omega)⟩) (fun z => absurd z (by omega))
  | succ d ih =>
    intro j T J C H K I a1 a2 a3 a4 a5 a6 a7 a8 a9 a10 hj V f hf
    obtain ⟨f, rfl⟩ : ∃ g, f = g + 1 := ⟨f - 1, by omega⟩
    have zz := ps_zb L xs j
    obtain ⟨s', V', hw⟩ := ps_submit (by omega) ⟨zz.1, zz.2.1⟩ (fun v _ => (ps_zb L xs v).2.2) V
    obtain ⟨T1, J1, C1, H1, K1, I1, b1, b2, b3, b4, b5, b6, b7, b8, b9, b10⟩ := s'
    exact pk_le n j (fun z => absurd z (by omega)) (fun _ => ps_size hL (by omega) (ps_arrv hL (by omega) (hw _ (br_t rfl (hw _ (br_t rfl (nm_r (nI_1 j) (ih (j + 1) T1 J1 C1 H1 K1 I1 b1 b2 b3 b4 b5 b6 b7 b8 b9 b10 (by omega) V' f (by omega)))))))))
end
theorem i_vc (xs : Nat → Int32) (L : Nat) (hL : L ≤ 260) : wpL_law (fun r => r = 1) L xs := by
  refine ⟨10, 224, by omega, by omega, ?_⟩
  refine ⟨by omega, by omega, by omega, by omega, by omega, by omega, by omega, by omega, by omega, by omega, by omega, by omega, by omega, by omega, by omega, by omega, by omega, by omega, by omega, by omega, ?_⟩
  refine ⟨by omega, by omega, 10, 224, by omega, by omega, ?_⟩
  refine ⟨by omega, by omega, by omega, by omega, by omega, by omega, by omega, by omega, by omega, by omega, by omega, by omega, by omega, by omega, by omega, by omega, by omega, by omega, by omega, by omega, ?_⟩
  refine ps_cell (k := 0) hL (by omega) ?_
  have e : (1 : Int32) + (ps_ce L xs 0 &&& 15) = nI (1 + (ps_ce L xs 0).toBitVec.toNat % 2 ^ 4) := by
    rw [pk_and (ps_ce L xs 0) 4 (by decide), ← nI_add]
    rfl
  have hg := Nat.mod_lt (ps_ce L xs 0).toBitVec.toNat (show 0 < 2 ^ 4 by decide)
  refine nm_r e ?_
  generalize (ps_ce L xs 0).toBitVec.toNat % 2 ^ 4 = m at hg
  refine ⟨1 + m + 1, ps_l30 (n := 1 + m) (post := fun r => r = 1) hL (by omega) rfl (1 + m) 0 _ _ _ _ _ _ _ _ _ _ _ _ _ _ _ _ (by omega) ?_ (1 + m + 1) (by omega)⟩
  exact ⟨[], _, _, _, _, _, _, _, _, _, rfl, fun v hv => absurd hv (by omega), fun i v hi => absurd hi (by simp), List.Pairwise.nil, fun v => ⟨fun z => absurd z (by simp), fun z => absurd z (by omega)⟩⟩
end
