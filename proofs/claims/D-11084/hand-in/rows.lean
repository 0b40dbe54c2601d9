section
/-- the graph of the law: first, second; the end's own way; ways on; bases -/
def pp_f (b : Nat) : Int32 := if b = 0 then 1 else if b < 3 then 3 else -1
def pp_s (b : Nat) : Int32 := if b = 0 then 2 else -1
def pp_e (b : Nat) : Int32 := if b < 3 then 0 else 1
def pp_w (b : Nat) : Int32 := if b = 0 then 2 else 1
def pp_b (b : Nat) : Int32 := if b = 0 then 0 else -4
def pp_wt (b : Nat) (x : Int32) : Int32 := if x ≤ nI b then 0 else pp_w x.toNatClampNeg
/-- the arrays hold the graph -/
def pp_G (a1 a2 : Nat → Int32) : Prop := ∀ b, b < 9 → a1 b = pp_f b ∧ a2 b = pp_s b
/-- the arrays hold the numbering -/
def pp_N (a3 a4 : Nat → Int32) : Prop := ∀ b, b < 9 → a3 b = pp_w b ∧ a4 b = pp_b b
abbrev pp_fw (b : Nat) (x : Int32) : Prop := x ≤ nI b ∨ (¬ x ≤ nI b ∧ ¬ x < 0 ∧ b < x.toNatClampNeg ∧ x.toNatClampNeg < 9)
theorem pp_tf : ∀ b, b < 9 → (pp_f b < 0 ∨ nI b < pp_f b) ∧ (pp_s b < 0 ∨ nI b < pp_s b) ∧ (b < 3 → ¬ pp_f b < 0) ∧ (3 ≤ b → pp_f b < 0) := by decide +kernel
theorem pp_tw : ∀ b, b < 9 → pp_fw b (pp_f b) ∧ pp_fw b (pp_s b) ∧ pp_e b + pp_wt b (pp_f b) + pp_wt b (pp_s b) = pp_w b := by decide +kernel
theorem pp_e1 {b : Nat} (h : ¬ pp_e b = 0) : pp_e b = 1 := by
  unfold pp_e at h ⊢
  split at h
  · exact absurd rfl h
  · rename_i g
    exact if_neg g
theorem pp_v9 {b : Nat} (hb : b < 9) : vp_in (nI b) 9 := vp_in_nI hb (by decide)
theorem pp_cl {b : Nat} (hb : b < 9) : (nI b).toNatClampNeg = b := nI_clamp (by omega)
section
variable {f0 f1 f2 f3 : Int32} {a1 a2 a3 a4 a5 a6 a7 : Nat → Int32}
theorem pp_bad0 {post : Int32 → Prop} {b : Nat} (hb : b < 9) (hp : post 0) : wpX_bad post (f0, f1, f2, f3, a1, a2, a3, a4, a5, a6, a7) (nI b) :=
  br_f (nI_pos (by omega)) (br_t (nI_lt (b := 9) hb (by decide)) hp)
theorem pp_back {post : Int32 → Prop} {p0 p1 : Int32} (h : p1 < 0 ∨ p0 < p1) (hp : post 0) : wpX_back post (f0, f1, f2, f3, a1, a2, a3, a4, a5, a6, a7) p0 p1 :=
  br_c (fun _ => hp) (fun n => br_t (h.resolve_left n) hp)
theorem pp_isEnd {post : Int32 → Prop} (hG : pp_G a1 a2) {b : Nat} (hb : b < 9) (hp : post (pp_e b)) : wpX_isEnd post (f0, f1, f2, f3, a1, a2, a3, a4, a5, a6, a7) (nI b) := by
  have hv := pp_v9 hb
  have t := pp_tf b hb
  have g := hG b hb
  unfold wpX_isEnd
  dsimp only
  rw [pp_cl hb, g.1, g.2]
  refine ⟨hv, ?_⟩
  by_cases h : b < 3
  · have e : pp_e b = 0 := if_pos h
    rw [e] at hp
    exact br_f (t.2.2.1 h) ⟨hv, pp_back t.1 (br_t rfl ⟨hv, pp_back t.2.1 (br_t rfl hp)⟩)⟩
  · have e : pp_e b = 1 := if_neg h
    rw [e] at hp
    exact br_t (t.2.2.2 (by omega)) hp
theorem pp_waysTo {post : Int32 → Prop} {b : Nat} (h3 : ∀ j, b < j → j < 9 → a3 j = pp_w j) {x : Int32} (hx : pp_fw b x) (hp : post (pp_wt b x)) : wpX_waysTo post (f0, f1, f2, f3, a1, a2, a3, a4, a5, a6, a7) (nI b) x := by
  rcases hx with h | ⟨h, h0, h1, h2⟩
  · have e : pp_wt b x = 0 := if_pos h
    rw [e] at hp
    exact br_t h hp
  · have e : pp_wt b x = pp_w x.toNatClampNeg := if_neg h
    rw [e, ← h3 _ h1 h2] at hp
    have hv : vp_in x 9 := fun z => z.elim h0 (fun z => absurd h2 (by omega))
    exact br_f h ⟨hv, hp⟩
theorem pp_added {post : Int32 → Prop} (hG : pp_G a1 a2) (hN : pp_N a3 a4) {b : Nat} (hb : b < 9) {c q : Int32} (hq : (c = pp_f b ∧ q = pp_e b) ∨ (¬ c = pp_f b ∧ q = pp_e b + pp_wt b (pp_f b))) (hp : post q) : wpX_added post (f0, f1, f2, f3, a1, a2, a3, a4, a5, a6, a7) (nI b) c := by
  have key : ∀ z, z = pp_e b → wX_added_13 post (nI b) c z f0 f1 f2 f3 a1 a2 a3 a4 a5 a6 a7 := by
    intro z hz
    have hv := pp_v9 hb
    unfold wX_added_13
    rw [pp_cl hb, (hG b hb).1]
    refine ⟨hv, ?_⟩
    rcases hq with ⟨h, e⟩ | ⟨h, e⟩
    · rw [e, ← hz] at hp
      exact br_t h hp
    · rw [e, ← hz] at hp
      exact br_f h ⟨hv, pp_waysTo (fun j _ hj => (hN j hj).1) (pp_tw b hb).1 hp⟩
  unfold wpX_added
  dsimp only
  refine pp_isEnd hG hb ?_
  exact br_c (fun h => key 0 h.symm) (fun h => key 1 (pp_e1 h).symm)
theorem pp_succ {post : Int32 → Prop} {b : Nat} (hb : b < 9) (hp : ∀ r, post r) : wpX_successors post (f0, f1, f2, f3, a1, a2, a3, a4, a5, a6, a7) (nI b) := by
  have hv := pp_v9 hb
  unfold wpX_successors
  dsimp only
  exact pp_bad0 hb (br_t rfl ⟨hv, br_c (fun _ => ⟨hv, br_c (fun _ => hp _) (fun _ => hp _)⟩) (fun _ => hp _)⟩)
end
end
section
theorem pp_fill {f : Nat → Int32} {i k : Nat} {x : Int32} {s : Nat → Int32} (hk : k = i) (h : ∀ j, j < i → s j = f j) (hx : x = f i) : ∀ j, j < i + 1 → upd s k x j = f j := by
  intro j hj
  rw [hk]
  by_cases e : j = i
  · rw [e, pk_us, hx]
  · rw [pk_un e]
    exact h j (by omega)
theorem pp_init {post : St2 → Prop} {mc ms : Nat} {f0 f1 f2 f3 : Int32} (h7 : 7 ≤ mc) (h3 : 365 ≤ ms)
    (hp : ∀ a1 a2 : Nat → Int32, (∀ k, k < 9 → a1 k = -1 ∧ a2 k = -1) → post (f0, f1, f2, f3, a1, a2, (fun _ => 0), (fun _ => 0), (fun _ => 0), (fun _ => 0), (fun _ => 0))) : wpX_init post mc ms (f0, f1, f2, f3) :=
  ⟨by omega, by omega, by omega, by omega, by omega, by omega, by omega, by omega, by omega, by omega, by omega, by omega, by omega, by omega,
    pk_loop (fun n i (s : (Nat → Int32) × (Nat → Int32)) => wX_init_64 post mc ms 7 365 f0 f1 f2 f3 n (nI i) s.1 s.2 (fun _ => 0) (fun _ => 0) (fun _ => 0) (fun _ => 0) (fun _ => 0))
      (fun i (s : (Nat → Int32) × (Nat → Int32)) => (∀ k, k < i → s.1 k = (fun _ => -1 : Nat → Int32) k) ∧ (∀ k, k < i → s.2 k = (fun _ => -1 : Nat → Int32) k)) 9 0 ((fun _ => 0), (fun _ => 0)) (by omega) ⟨fun j hj => absurd hj (by omega), fun j hj => absurd hj (by omega)⟩
      (fun n s h => pk_le 9 9 (fun _ => hp s.1 s.2 (fun k hk => ⟨h.1 k hk, h.2 k hk⟩)) (fun z => absurd z (by omega)))
      (fun n i s hi h hw => pk_le 9 i (fun z => absurd z (by omega)) (fun _ => ⟨pp_v9 hi, nm_e ⟨pp_v9 hi, nm_e (nm_r (nI_1 i) (hw (_, _) ⟨pp_fill (pp_cl hi) h.1 rfl, pp_fill (pp_cl hi) h.2 rfl⟩))⟩⟩))⟩
section
variable {f0 f1 f2 f3 : Int32} {a1 a2 a3 a4 a5 a6 a7 : Nat → Int32}
theorem pp_l105 {post : Int32 → St2 → Prop} {r : Int32} (hp : ∀ s : Nat → Int32, (∀ k, k < 160 → s k = 0) → post r (f0, f1, f2, f3, a1, a2, a3, a4, s, a6, a7)) : ∃ n, wX_lead_105 post r f0 f1 f2 f3 n 0 a1 a2 a3 a4 a5 a6 a7 :=
  pk_loop (fun n i s => wX_lead_105 post r f0 f1 f2 f3 n (nI i) a1 a2 a3 a4 s a6 a7) (fun i (s : Nat → Int32) => ∀ k, k < i → s k = (fun _ => 0 : Nat → Int32) k) 160 0 a5 (by omega) (fun j hj => absurd hj (by omega))
    (fun n s h => pk_le 160 160 (fun _ => hp s h) (fun z => absurd z (by omega)))
    (fun n i s hi h hw => pk_le 160 i (fun z => absurd z (by omega)) (fun _ => ⟨pk_in i 160 hi, nm_e (nm_r (nI_1 i) (hw _ (pp_fill (nI_clamp (by omega)) h rfl)))⟩))
theorem pp_lead {post : Int32 → St2 → Prop} {b : Nat} {c d : Int32} (hb : b < 9) (hc : ¬ c < -1) (hc9 : ¬ 9 ≤ c) (hd : ¬ d < -1) (hd9 : d < 9) (hcd : ¬ c = d) (hc0 : 0 ≤ c) (hn : ¬ a1 b = c)
    (hp : ∀ (r : Int32) (s : Nat → Int32), (∀ k, k < 160 → s k = 0) → post r (0, f1, 0, f3, upd a1 b c, upd a2 b d, a3, a4, s, a6, a7)) : wpX_lead post (f0, f1, f2, f3, a1, a2, a3, a4, a5, a6, a7) (nI b) c d := by
  have hv := pp_v9 hb
  unfold wpX_lead
  dsimp only
  refine pp_bad0 hb (br_t rfl (br_f hc (br_f hc9 (br_f hd (br_t hd9 (br_f hcd ?_))))))
  unfold wX_lead_41
  refine br_t hc0 ?_
  unfold wX_lead_51
  rw [pp_cl hb]
  refine pp_succ hb (fun r => ⟨hv, br_f hn ?_⟩)
  unfold wX_lead_78
  rw [pp_cl hb]
  exact ⟨hv, nm_e ⟨hv, nm_e (pp_l105 (hp r))⟩⟩
theorem pp_n28 {post : St2 → Prop} {J : Int32 → (Nat → Int32) → (Nat → Int32) → (Nat → Int32) → (Nat → Int32) → (Nat → Int32) → (Nat → Int32) → (Nat → Int32) → Prop} (hG : pp_G a1 a2) {b : Nat} (hb : b < 9) (h3 : ∀ j, b < j → j < 9 → a3 j = pp_w j) {z : Int32} (hz : z = pp_e b)
    (hp : J (nI b + (-1)) a1 a2 (upd a3 b (pp_w b)) (upd a4 b (-4)) a5 a6 a7) : wX_number_28 post J (nI b) z f0 f1 f2 f3 a1 a2 a3 a4 a5 a6 a7 := by
  have hv := pp_v9 hb
  have t := pp_tw b hb
  unfold wX_number_28
  rw [pp_cl hb, (hG b hb).1, (hG b hb).2]
  refine ⟨hv, pp_waysTo h3 t.1 ⟨hv, pp_waysTo h3 t.2.1 ⟨hv, nm_r ?_ ⟨hv, nm_e (nm_e hp)⟩⟩⟩⟩
  rw [hz, t.2.2]
theorem pp_n11 {post : St2 → Prop} (hG : pp_G a1 a2) (hp : ∀ s3 s4 : Nat → Int32, (∀ j, j < 9 → s3 j = pp_w j ∧ s4 j = -4) → ∃ fu, wX_number_83 post f0 f1 f2 f3 fu 0 a1 a2 s3 (upd s4 0 0) a5 a6 a7) : ∃ fu, wX_number_11 post f0 f1 f2 f3 fu 8 a1 a2 a3 a4 a5 a6 a7 := by
  have h := pk_loopD (fun n i (s : (Nat → Int32) × (Nat → Int32)) => wX_number_11 post f0 f1 f2 f3 n (nI i + (-1)) a1 a2 s.1 s.2 a5 a6 a7)
    (fun i (s : (Nat → Int32) × (Nat → Int32)) => i ≤ 9 ∧ ∀ j, i ≤ j → j < 9 → s.1 j = pp_w j ∧ s.2 j = -4)
    (fun n s h => br_t (by decide) (nm_e (hp s.1 s.2 (fun j hj => h.2 j (by omega) hj))))
    (fun n i s h hw => by
      have hi : i < 9 := by omega
      have hs : ∀ j, i < j → j < 9 → s.1 j = pp_w j := fun j h1 h2 => (h.2 j (by omega) h2).1
      have hn : wX_number_11 post f0 f1 f2 f3 n (nI i + (-1)) a1 a2 (upd s.1 i (pp_w i)) (upd s.2 i (-4)) a5 a6 a7 := hw (upd s.1 i (pp_w i), upd s.2 i (-4)) ⟨by omega, fun j h1 h2 => by
        show upd s.1 i (pp_w i) j = pp_w j ∧ upd s.2 i (-4) j = -4
        by_cases e : j = i
        · rw [e, pk_us, pk_us]
          exact ⟨rfl, rfl⟩
        · rw [pk_un e, pk_un e]
          exact h.2 j (by omega) h2⟩
      show wX_number_11 post f0 f1 f2 f3 (n + 1) (nI (i + 1) + (-1)) a1 a2 s.1 s.2 a5 a6 a7
      rw [pk_m1]
      refine br_f (nI_pos (by omega)) (pp_isEnd hG hi ?_)
      exact br_c (fun h => pp_n28 hG hi hs h.symm hn) (fun h => pp_n28 hG hi hs (pp_e1 h).symm hn))
    9 (a3, a4) ⟨by omega, fun j h1 h2 => absurd h1 (by omega)⟩
  have h' : wX_number_11 post f0 f1 f2 f3 10 (nI 9 + (-1)) a1 a2 a3 a4 a5 a6 a7 := h
  rw [pk_m1 8] at h'
  exact ⟨10, h'⟩
theorem pp_n83 {post : St2 → Prop} (hG : pp_G a1 a2) (hp : ∃ fu, wX_number_154 post f0 f2 f3 fu 0 0 a1 a2 a3 a4 a5 a6 a7) : ∃ fu, wX_number_83 post f0 f1 f2 f3 fu 0 a1 a2 a3 a4 a5 a6 a7 :=
  pk_loop (σ := Unit) (fun n i _ => wX_number_83 post f0 f1 f2 f3 n (nI i) a1 a2 a3 a4 a5 a6 a7) (fun _ _ => True) 9 0 () (by omega) trivial
    (fun n _ _ => pk_le 9 9 (fun _ => hp) (fun z => absurd z (by omega)))
    (fun n i _ hi _ hw => pk_le 9 i (fun z => absurd z (by omega)) (fun _ => ⟨pp_v9 hi, by
      have t := pp_tf i hi
      rw [pp_cl hi, (hG i hi).1]
      refine pp_back t.1 (br_t rfl ?_)
      unfold wX_number_115
      rw [pp_cl hi, (hG i hi).2]
      exact ⟨pp_v9 hi, pp_back t.2.1 (br_t rfl (nm_r (nI_1 i) (hw () trivial)))⟩⟩))
theorem pp_n154 {post : St2 → Prop} (h3 : ∀ j, j < 9 → a3 j = pp_w j) (h40 : a4 0 = 0) (h4 : ∀ j, 0 < j → j < 9 → a4 j = -4)
    (hp : ∀ s4 : Nat → Int32, pp_N a3 s4 → post (1, 2, f2, f3, a1, a2, a3, s4, a5, a6, a7)) : ∃ fu, wX_number_154 post f0 f2 f3 fu 0 0 a1 a2 a3 a4 a5 a6 a7 := by
  have hs : ∀ j, 0 < j → j < 9 → upd a4 0 0 j = -4 := fun j h0 hj => by
    rw [pk_un (by omega)]
    exact h4 j h0 hj
  have hN : pp_N a3 (upd a4 0 0) := fun j hj => ⟨h3 j hj, by
    by_cases e : j = 0
    · rw [e, pk_us]
      rfl
    · rw [hs j (by omega) hj]
      exact (if_neg e).symm⟩
  have h := pk_loop (σ := Unit) (fun n i _ => wX_number_154 post f0 f2 f3 n (nI i) 2 a1 a2 a3 (upd a4 0 0) a5 a6 a7) (fun i _ => 1 ≤ i) 9 1 () (by omega) (by omega)
    (fun n _ _ => pk_le 9 9 (fun _ => hp _ hN) (fun z => absurd z (by omega)))
    (fun n i _ hi h1 hw => pk_le 9 i (fun z => absurd z (by omega)) (fun _ => ⟨pp_v9 hi, br_t (by rw [pp_cl hi]; exact hs i h1 hi) (nm_r (nI_1 i) (hw () (by omega)))⟩))
  obtain ⟨n, hn⟩ := h
  have v0 : vp_in 0 9 := pp_v9 (b := 0) (by decide)
  refine ⟨n + 1, br_f (by decide) ⟨v0, br_f ?_ ⟨v0, nm_e ⟨v0, nm_r ?_ (nm_e hn)⟩⟩⟩⟩
  · show ¬ a4 0 = -4
    rw [h40]
    decide
  · show 0 + a3 0 = 2
    rw [h3 0 (by decide)]
    decide
theorem pp_number {post : St2 → Prop} (hG : pp_G a1 a2) (hp : ∀ s3 s4 : Nat → Int32, pp_N s3 s4 → post (1, 2, f2, f3, a1, a2, s3, s4, a5, a6, a7)) : wpX_number post (0, f1, f2, f3, a1, a2, a3, a4, a5, a6, a7) :=
  br_t rfl (pp_n11 hG (fun s3 s4 h => pp_n83 hG (pp_n154 (fun j hj => (h j hj).1) pk_us (fun j h0 hj => by
    rw [pk_un (by omega)]
    exact (h j hj).2) (hp s3))))
theorem pp_number1 {post : St2 → Prop} (hp : post (1, f1, f2, f3, a1, a2, a3, a4, a5, a6, a7)) : wpX_number post (1, f1, f2, f3, a1, a2, a3, a4, a5, a6, a7) :=
  br_f (by decide) hp
end
end
section
theorem pp_c0 : (0 : Int32).toNatClampNeg = 0 := by decide
theorem pp_c3 : (3 : Int32).toNatClampNeg = 3 := by decide
theorem pp_tk : ∀ k, k < 2 → pp_f (k + 1) = nI 3 ∧ pp_s (k + 1) < 0 ∧ nI 3 = pp_f (k + 1) ∧ (0 : Int32) = pp_e (k + 1) := by decide +kernel
section
variable {f0 f1 f2 f3 : Int32} {a1 a2 a3 a4 a5 a6 a7 : Nat → Int32}
theorem pp_r129 {post : Int32 → St2 → Prop} {J : Int32 → Int32 → Int32 → Int32 → Int32 → Int32 → Int32 → (Nat → Int32) → (Nat → Int32) → (Nat → Int32) → (Nat → Int32) → (Nat → Int32) → (Nat → Int32) → (Nat → Int32) → Prop} (hG : pp_G a1 a2) (hN : pp_N a3 a4) (b c : Nat) (hbc : b < c) (hc : c < 9) {x4 x5 x6 x7 x9 q y4 y8 : Int32}
    (hq : (nI c = pp_f b ∧ q = pp_e b) ∨ (¬ nI c = pp_f b ∧ q = pp_e b + pp_wt b (pp_f b))) (h4 : x4 + q = y4) (h8 : (if pp_f c < 0 then (0 : Int32) else 1) = y8)
    (hp : J (nI c) y4 x5 x6 (x7 + 1) y8 (x9 + 1) a1 a2 a3 a4 a5 a6 a7) : wX_run_129 post J (nI b) x4 x5 x6 x7 1 x9 (nI c) f0 f1 f2 f3 a1 a2 a3 a4 a5 a6 a7 := by
  unfold wX_run_129
  refine br_f (by decide) (nm_e (pp_back (Or.inr (nI_lt hbc (by omega))) (br_t rfl (pp_added hG hN (by omega) hq (nm_r h4 ?_)))))
  unfold wX_run_187
  rw [pp_cl hc, (hG c hc).1]
  refine ⟨pp_v9 hc, ?_⟩
  by_cases h : pp_f c < 0
  · rw [if_pos h] at h8
    subst h8
    exact br_t h (nm_e hp)
  · rw [if_neg h] at h8
    subst h8
    exact br_f h (nm_e hp)
theorem pp_r54 {post : Int32 → St2 → Prop} (hG : pp_G a1 a2) (hN : pp_N a3 a4) {m ch : Int32} (hm : ¬ m ≤ 0) {k : Nat} (hk : k < 2) (hc : ch &&& 1 = nI k)
    (hp : post 2 (f0, f1, f2, f3, a1, a2, a3, a4, upd a5 k (a5 k + 1), a6, a7)) : ∃ fu, wX_run_54 post f0 f1 f2 f3 fu 0 0 m ch 0 1 0 a1 a2 a3 a4 a5 a6 a7 := by
  have v0 : vp_in 0 9 := pp_v9 (b := 0) (by decide)
  have e10 : a1 0 = nI 1 := (hG 0 (by decide)).1
  have e20 : a2 0 = nI 2 := (hG 0 (by decide)).2
  have hk9 : k + 1 < 9 := by omega
  have t := pp_tk k hk
  have it3 : ∀ (n : Nat) (x5 x6 : Int32), wX_run_54 post f0 f1 f2 f3 (n + 1) (nI 3) (nI k) x5 x6 (0 + 1 + 1) 0 (0 + 1 + 1) a1 a2 a3 a4 a5 a6 a7 := by
    intro n x5 x6
    refine br_f (by decide) (br_t rfl ?_)
    unfold wX_run_212
    rw [nI_clamp (show k < 2 ^ 31 by omega), pp_cl (b := 3) (by decide), (hG 3 (by decide)).1]
    exact ⟨pp_v9 (b := 3) (by decide), br_f (by decide) ⟨pk_in k 160 (by omega), pk_in k 160 (by omega), nm_e (by rw [show (0 + 1 + 1 : Int32) = 2 by decide]; exact hp)⟩⟩
  have it2 : ∀ (n : Nat) (x5 x6 : Int32), wX_run_54 post f0 f1 f2 f3 (n + 1 + 1) (nI (k + 1)) (nI k) x5 x6 (0 + 1) 1 (0 + 1) a1 a2 a3 a4 a5 a6 a7 := by
    intro n x5 x6
    refine br_f (by decide) (br_f (by decide) ⟨pp_v9 hk9, nm_r (e' := nI 3) ?_ ⟨pp_v9 hk9, br_t ?_ ?_⟩⟩)
    · rw [pp_cl hk9, (hG _ hk9).1]
      exact t.1
    · rw [pp_cl hk9, (hG _ hk9).2]
      exact t.2.1
    · exact pp_r129 hG hN (k + 1) 3 (by omega) (by decide) (q := 0) (y4 := nI k) (y8 := 0) (Or.inl ⟨t.2.2.1, t.2.2.2⟩) (Int32.add_zero _) (by decide) (it3 n _ _)
  refine ⟨0 + 1 + 1 + 1, br_f (by decide) (br_f (by decide) ⟨v0, nm_e ⟨v0, br_f ?_ (br_f hm ?_)⟩⟩)⟩
  · rw [pp_c0, e20]
    decide
  · unfold wX_run_93
    rw [pp_c0, e10, e20]
    have hkk : k = 0 ∨ k = 1 := by omega
    rcases hkk with rfl | rfl
    · refine br_f (by rw [hc]; decide) ⟨v0, ?_⟩
      unfold wX_run_118
      exact nm_e (nm_e (pp_r129 hG hN 0 1 (by decide) (by decide) (q := 0) (y4 := nI 0) (y8 := 1) (Or.inl ⟨by decide, by decide⟩) (by decide) (by decide) (it2 0 _ _)))
    · refine br_t (by rw [hc]; decide) ⟨v0, ?_⟩
      unfold wX_run_118
      exact nm_e (nm_e (pp_r129 hG hN 0 2 (by decide) (by decide) (q := 1) (y4 := nI 1) (y8 := 1) (Or.inr ⟨by decide, by decide⟩) (by decide) (by decide) (it2 0 _ _)))
theorem pp_r0 {post : Int32 → St2 → Prop} (hG : pp_G a1 a2) {ch : Int32} (hp : post 0 (f0, f1, f2 + 1, f3, a1, a2, a3, a4, a5, a6, a7)) : ∃ fu, wX_run_54 post f0 f1 f2 f3 fu 0 0 0 ch 0 1 0 a1 a2 a3 a4 a5 a6 a7 := by
  have v0 : vp_in 0 9 := pp_v9 (b := 0) (by decide)
  have e10 : a1 0 = nI 1 := (hG 0 (by decide)).1
  have e20 : a2 0 = nI 2 := (hG 0 (by decide)).2
  have it2 : ∀ (n : Nat) (x5 x6 : Int32), wX_run_54 post f0 f1 f2 f3 (n + 1) 0 0 x5 x6 0 0 (0 + 1) a1 a2 a3 a4 a5 a6 a7 := by
    intro n x5 x6
    refine br_f (by decide) (br_t rfl ?_)
    unfold wX_run_212
    rw [pp_c0, e10]
    exact ⟨v0, br_t (by decide) (nm_e hp)⟩
  have r118 : ∀ z : Int32, wX_run_118 post (wX_run_54 post f0 f1 f2 f3 (0 + 1)) 0 0 0 ch 0 0 0 z f0 f1 f2 f3 a1 a2 a3 a4 a5 a6 a7 := by
    intro z
    unfold wX_run_118
    refine nm_e (nm_e ?_)
    unfold wX_run_129
    exact br_t rfl (nm_e (it2 0 _ _))
  refine ⟨0 + 1 + 1, br_f (by decide) (br_f (by decide) ⟨v0, nm_e ⟨v0, br_f ?_ (br_t (by decide) ?_)⟩⟩)⟩
  · rw [pp_c0, e20]
    decide
  · unfold wX_run_93
    exact br_c (fun _ => ⟨v0, r118 _⟩) (fun _ => ⟨v0, r118 _⟩)
/-- the first run: it numbers too -/
theorem pp_runA {post : Int32 → St2 → Prop} (hG : pp_G a1 a2) {m ch : Int32} (hm : ¬ m ≤ 0) (hm0 : ¬ m < 0) (hm24 : m ≤ 24) {k : Nat} (hk : k < 2) (hc : ch &&& 1 = nI k)
    (hp : ∀ s3 s4 : Nat → Int32, pp_N s3 s4 → post 2 (1, 2, f2, f3, a1, a2, s3, s4, upd a5 k (a5 k + 1), a6, a7)) : wpX_run post (0, f1, f2, f3, a1, a2, a3, a4, a5, a6, a7) ch m :=
  br_f hm0 (br_t hm24 (pp_number hG (fun s3 s4 hN => nm_r (hN 0 (by decide)).2 (br_f (by rw [(hG 0 (by decide)).1]; decide) (pp_r54 hG hN hm hk hc (hp s3 s4 hN))))))
theorem pp_runB {post : Int32 → St2 → Prop} (hG : pp_G a1 a2) (hN : pp_N a3 a4) {m ch : Int32} (hm : ¬ m ≤ 0) (hm0 : ¬ m < 0) (hm24 : m ≤ 24) {k : Nat} (hk : k < 2) (hc : ch &&& 1 = nI k)
    (hp : post 2 (1, f1, f2, f3, a1, a2, a3, a4, upd a5 k (a5 k + 1), a6, a7)) : wpX_run post (1, f1, f2, f3, a1, a2, a3, a4, a5, a6, a7) ch m :=
  br_f hm0 (br_t hm24 (pp_number1 (nm_r (hN 0 (by decide)).2 (br_f (by rw [(hG 0 (by decide)).1]; decide) (pp_r54 hG hN hm hk hc hp)))))
theorem pp_runC {post : Int32 → St2 → Prop} (hG : pp_G a1 a2) (hN : pp_N a3 a4) {ch : Int32} (hp : post 0 (1, f1, f2 + 1, f3, a1, a2, a3, a4, a5, a6, a7)) : wpX_run post (1, f1, f2, f3, a1, a2, a3, a4, a5, a6, a7) ch 0 :=
  br_f (by decide) (br_t (by decide) (pp_number1 (nm_r (hN 0 (by decide)).2 (br_f (by rw [(hG 0 (by decide)).1]; decide) (pp_r0 hG hp)))))
end
end
section
/-- the arcs on from a block, and what an arc adds -/
abbrev pp_nx (b j : Nat) : Prop := (b = 0 ∧ (j = 1 ∨ j = 2)) ∨ ((b = 1 ∨ b = 2) ∧ j = 3)
def pp_ad (b j : Nat) : Int32 := if nI j = pp_f b then pp_e b else pp_e b + pp_wt b (pp_f b)
theorem pp_tn0 : ∀ b : Fin 9, ∀ j : Fin 9, b.val < j.val → ((nI j.val = pp_f b.val → pp_nx b.val j.val) ∧ (nI j.val = pp_s b.val → pp_nx b.val j.val)) := by decide +kernel
theorem pp_tn (b : Nat) (hb : b < 9) (j : Nat) (hj : j < 9) (h : b < j) : (nI j = pp_f b → pp_nx b j) ∧ (nI j = pp_s b → pp_nx b j) := pp_tn0 ⟨b, hb⟩ ⟨j, hj⟩ h
theorem pp_tq (b j : Nat) : (nI j = pp_f b ∧ pp_ad b j = pp_e b) ∨ (¬ nI j = pp_f b ∧ pp_ad b j = pp_e b + pp_wt b (pp_f b)) := by
  by_cases h : nI j = pp_f b
  · exact Or.inl ⟨h, if_pos h⟩
  · exact Or.inr ⟨h, if_neg h⟩
theorem pp_dig {c w : Nat} (hc : c < 2 ^ 31) (h0 : 0 < w) (hw : w < 2 ^ 31) : ((nI c / nI w) - (nI c / nI w) / 10 * 10) - 1 = nI (c / w % 10) - 1 := by
  rw [pk_div hc h0 hw]
  have h : c / w < 2 ^ 31 := Nat.lt_of_le_of_lt (Nat.div_le_self c w) hc
  have e : nI (c / w) - nI (c / w) / 10 * 10 = nI (c / w % 10) := pk_rem (d := 10) h (by decide) (by decide)
  rw [e]
section
variable {f0 f1 f2 f3 : Int32} {a1 a2 a3 a4 a5 a6 a7 : Nat → Int32}
theorem pp_o129 {post : Int32 → Prop} {J : Int32 → Int32 → Int32 → Prop} (hG : pp_G a1 a2) (hN : pp_N a3 a4) {b j w : Nat} (hb : b < 9) (hw : w < 2 ^ 31) {x1 x4 : Int32} (hp : J (nI j) (x4 + pp_ad b j) (nI (w / 10))) :
    wX_numberOf_129 post J x1 (nI b) x4 (nI w) (nI j) f0 f1 f2 f3 a1 a2 a3 a4 a5 a6 a7 := by
  unfold wX_numberOf_129
  exact pp_added hG hN hb (pp_tq b j) (nm_e ⟨by decide, nm_r (pk_div (d := 10) hw (by decide) (by decide)) hp⟩)
theorem pp_s82e {post : Int32 → Prop} (hG : pp_G a1 a2) {b n : Nat} (hb : b < 9) {x1 x4 : Int32} (h4 : pp_e b = 0 → post (-4)) (h1 : ¬ pp_e b = 0 → post x4) : wX_numberOf_82 post x1 f0 f1 f2 f3 a1 a2 a3 a4 a5 a6 a7 (n + 1) (nI b) x4 (nI 0) :=
  br_t (by decide) (pp_isEnd hG hb (br_c h4 h1))
theorem pp_s82 {post : Int32 → Prop} (hG : pp_G a1 a2) (hN : pp_N a3 a4) {b n c w : Nat} (hb : b < 9) (hc : c < 2 ^ 31) (h0 : 0 < w) (hw : w < 2 ^ 31) {x4 : Int32}
    (hgo : ∀ j, pp_nx b j → c / w % 10 = j + 1 → wX_numberOf_82 post (nI c) f0 f1 f2 f3 a1 a2 a3 a4 a5 a6 a7 n (nI j) (x4 + pp_ad b j) (nI (w / 10)))
    (h4 : (∀ j, pp_nx b j → ¬ c / w % 10 = j + 1) → post (-4)) : wX_numberOf_82 post (nI c) f0 f1 f2 f3 a1 a2 a3 a4 a5 a6 a7 (n + 1) (nI b) x4 (nI w) := by
  refine br_f (nI_nle h0 hw) ⟨nI_ne0 h0 hw, by decide, nm_r (pp_dig hc h0 hw) ?_⟩
  have hd : c / w % 10 < 10 := Nat.mod_lt _ (by decide)
  generalize c / w % 10 = d at hgo h4 hd
  rcases d with _ | j
  · refine br_t ?_ (h4 (fun j _ => by omega))
    exact Int32.le_trans (show nI 0 - 1 ≤ 0 by decide) (nI_pos' (by omega))
  · have hj : j < 9 := by omega
    rw [nI_pred, pp_cl hb, (hG b hb).1, (hG b hb).2]
    refine pk_le j b (fun z => h4 (fun i hi e => ?_)) (fun z => ⟨pp_v9 hb, br_c (fun g => ?_) (fun g => ⟨pp_v9 hb, br_c (fun g2 => ?_) (fun g2 => h4 (fun i hi e => ?_))⟩)⟩)
    · rcases hi with hi | hi <;> omega
    · exact pp_o129 hG hN hb hw (hgo j ((pp_tn b hb j hj z).1 g) rfl)
    · exact pp_o129 hG hN hb hw (hgo j ((pp_tn b hb j hj z).2 g2) rfl)
    · have ei : i = j := by omega
      subst ei
      rcases hi with ⟨hi, hi' | hi'⟩ | ⟨hi | hi, hi'⟩ <;> subst hi <;> subst hi'
      · exact g (by decide)
      · exact g2 (by decide)
      · exact g (by decide)
      · exact g (by decide)
theorem pp_82 {post : Int32 → Prop} (hG : pp_G a1 a2) (hN : pp_N a3 a4) {c W : Nat} (hc : c < 2 ^ 31) (hWb : W < 2 ^ 31) (hd : c / W % 10 = 1) (k0 : c = 124 → post 0) (k1 : c = 134 → post 1) (k4 : ¬ c = 124 → ¬ c = 134 → post (-4))
    (hW : (W = 1 ∧ c < 10) ∨ (W = 10 ∧ c < 100) ∨ (W = 100 ∧ 100 ≤ c ∧ c < 1000) ∨ (1000 ≤ W ∧ 1000 ≤ c)) : ∃ fu, wX_numberOf_82 post (nI c) f0 f1 f2 f3 a1 a2 a3 a4 a5 a6 a7 fu (nI 0) 0 (nI (W / 10)) := by
  refine ⟨0 + 1 + 1 + 1 + 1, ?_⟩
  rcases hW with ⟨rfl, h⟩ | ⟨rfl, h⟩ | ⟨rfl, h, h'⟩ | ⟨h, h'⟩
  · exact pp_s82e hG (by decide) (fun _ => k4 (by omega) (by omega)) (fun z => absurd (show pp_e 0 = 0 by decide) z)
  · have q := k4 (by omega) (by omega)
    refine pp_s82 (w := 1) hG hN (by decide) hc (by decide) (by decide) (fun j hj _ => ?_) (fun _ => q)
    rcases hj with ⟨_, rfl | rfl⟩ | ⟨hj | hj, _⟩
    · exact pp_s82e hG (by decide) (fun _ => q) (fun z => absurd (show pp_e 1 = 0 by decide) z)
    · exact pp_s82e hG (by decide) (fun _ => q) (fun z => absurd (show pp_e 2 = 0 by decide) z)
    · omega
    · omega
  · refine pp_s82 (w := 10) hG hN (by decide) hc (by decide) (by decide) (fun j hj ej => ?_) (fun z => k4 (fun e => ?_) (fun e => ?_))
    · rcases hj with ⟨_, rfl | rfl⟩ | ⟨hj | hj, _⟩
      · refine pp_s82 (w := 1) hG hN (by decide) hc (by decide) (by decide) (fun i hi ei => ?_) (fun z => k4 (fun e => ?_) (fun e => ?_))
        · rcases hi with ⟨hi, _⟩ | ⟨_, rfl⟩
          · omega
          · exact pp_s82e hG (by decide) (fun z => absurd z (by decide)) (fun _ => k0 (by omega))
        · subst e
          exact z 3 (by decide) (by decide)
        · subst e
          exact absurd ej (by decide)
      · refine pp_s82 (w := 1) hG hN (by decide) hc (by decide) (by decide) (fun i hi ei => ?_) (fun z => k4 (fun e => ?_) (fun e => ?_))
        · rcases hi with ⟨hi, _⟩ | ⟨_, rfl⟩
          · omega
          · exact pp_s82e hG (by decide) (fun z => absurd z (by decide)) (fun _ => k1 (by omega))
        · subst e
          exact absurd ej (by decide)
        · subst e
          exact z 3 (by decide) (by decide)
      · omega
      · omega
    · subst e
      exact z 1 (by decide) (by decide)
    · subst e
      exact z 2 (by decide) (by decide)
  · have q := k4 (by omega) (by omega)
    have s3 : ∀ x4 : Int32, wX_numberOf_82 post (nI c) f0 f1 f2 f3 a1 a2 a3 a4 a5 a6 a7 (0 + 1 + 1) (nI 3) x4 (nI (W / 10 / 10 / 10)) := fun x4 =>
      pp_s82 hG hN (by decide) hc (by omega) (by omega) (fun j hj _ => by rcases hj with hj | hj <;> omega) (fun _ => q)
    have s1 : ∀ (b : Nat) (x4 : Int32), b = 1 ∨ b = 2 → wX_numberOf_82 post (nI c) f0 f1 f2 f3 a1 a2 a3 a4 a5 a6 a7 (0 + 1 + 1 + 1) (nI b) x4 (nI (W / 10 / 10)) := fun b x4 hb =>
      pp_s82 hG hN (by omega) hc (by omega) (by omega) (fun j hj _ => by
        have ej : j = 3 := by rcases hj with hj | hj <;> omega
        subst ej
        exact s3 _) (fun _ => q)
    exact pp_s82 hG hN (by decide) hc (by omega) (by omega) (fun j hj _ => s1 j _ (by rcases hj with hj | hj <;> omega)) (fun _ => q)
theorem pp_37 {post : Int32 → Prop} (hG : pp_G a1 a2) (hN : pp_N a3 a4) {c W : Nat} (hc : c < 2 ^ 31) (hWb : W < 2 ^ 31) (k0 : c = 124 → post 0) (k1 : c = 134 → post 1) (k4 : ¬ c = 124 → ¬ c = 134 → post (-4))
    (hW : (W = 1 ∧ c < 10) ∨ (W = 10 ∧ c < 100) ∨ (W = 100 ∧ 100 ≤ c ∧ c < 1000) ∨ (1000 ≤ W ∧ 1000 ≤ c)) : wX_numberOf_37 post (nI c) (nI W) f0 f1 f2 f3 a1 a2 a3 a4 a5 a6 a7 := by
  have hW0 : 0 < W := by omega
  have q : ¬ c / W % 10 = 1 → post (-4) := by
    intro z
    rcases hW with ⟨rfl, h⟩ | ⟨rfl, h⟩ | ⟨rfl, h, h'⟩ | ⟨h, h'⟩ <;> exact k4 (by omega) (by omega)
  have g : c / W % 10 = 1 → ∃ fu, wX_numberOf_82 post (nI c) f0 f1 f2 f3 a1 a2 a3 a4 a5 a6 a7 fu (nI 0) 0 (nI (W / 10)) := fun z => pp_82 hG hN hc hWb z k0 k1 k4 hW
  unfold wX_numberOf_37
  refine ⟨nI_ne0 hW0 hWb, by decide, nm_r (pp_dig hc hW0 hWb) ?_⟩
  have hd : c / W % 10 < 10 := Nat.mod_lt _ (by decide)
  generalize c / W % 10 = d at q g hd
  rcases d with _ | j
  · exact br_t (show nI 0 - 1 < 0 by decide) (br_f (by decide) (q (by omega)))
  · have hj : j < 9 := by omega
    rw [nI_pred, pp_cl hj, (hN j hj).2]
    refine pp_bad0 hj (br_t rfl ⟨pp_v9 hj, ?_⟩)
    by_cases e : j = 0
    · subst e
      exact br_f (by decide) ⟨pp_v9 hj, nm_r (e' := 0) (by decide) ⟨by decide, nm_r (pk_div (d := 10) hWb (by decide) (by decide)) (g rfl)⟩⟩
    · exact br_t (if_neg e) (q (by omega))
theorem pp_12 {post : Int32 → Prop} {c K : Nat} (hc : c < 2 ^ 31) (hK : K ≤ 9) (h1 : 10 ^ K ≤ c) (h2 : c < 10 ^ K * 10) (hp : wX_numberOf_37 post (nI c) (nI (10 ^ K)) f0 f1 f2 f3 a1 a2 a3 a4 a5 a6 a7) : ∃ fu, wX_numberOf_12 post (nI c) f0 f1 f2 f3 a1 a2 a3 a4 a5 a6 a7 fu 1 0 := by
  have ed : nI c / 10 = nI (c / 10) := pk_div (d := 10) hc (by decide) (by decide)
  exact pk_loop (σ := Unit) (fun n i _ => wX_numberOf_12 post (nI c) f0 f1 f2 f3 a1 a2 a3 a4 a5 a6 a7 n (nI (10 ^ i)) (nI i)) (fun _ _ => True) K 0 () (by omega) trivial
    (fun n _ _ => br_c (fun _ => hp) (fun _ => ⟨by decide, br_t (by rw [ed]; exact nI_lt (by omega) (by omega)) hp⟩))
    (fun n i _ hi _ hw => pk_le 9 i (fun z => absurd z (by omega)) (fun _ => ⟨by decide, br_f (by
      have hp : 10 ^ (i + 1) ≤ 10 ^ K := Nat.pow_le_pow_right (by decide) hi
      rw [Nat.pow_succ] at hp
      rw [ed]
      exact nI_nlt (by omega) (by omega)) (nm_r (pk_mul (10 ^ i) 10) (nm_r (nI_1 i) (hw () trivial)))⟩))
theorem pp_numberOf {post : Int32 → Prop} (hG : pp_G a1 a2) (hN : pp_N a3 a4) (x : Int32) (k0 : x = 124 → post 0) (k1 : x = 134 → post 1) (k4 : ¬ x = 124 → ¬ x = 134 → post (-4)) : wpX_numberOf post (f0, f1, f2, f3, a1, a2, a3, a4, a5, a6, a7) x := by
  refine br_c (fun h => ?_) (fun h => k4 (fun e => h (by rw [e]; decide)) (fun e => h (by rw [e]; decide)))
  have hx : ¬ x < 0 := Int32.not_lt.mpr (Int32.le_trans (show (0 : Int32) ≤ 1 by decide) h)
  obtain ⟨c, hc, rfl⟩ := nI_of hx
  have hc1 : 1 ≤ c := (nI_leI (a := 1) (by decide) hc).mp h
  have e0 : nI c = 124 ↔ c = 124 := nI_eq (b := 124) hc (by decide)
  have e1 : nI c = 134 ↔ c = 134 := nI_eq (b := 134) hc (by decide)
  have r0 : c = 124 → post 0 := fun e => k0 (e0.mpr e)
  have r1 : c = 134 → post 1 := fun e => k1 (e1.mpr e)
  have r4 : ¬ c = 124 → ¬ c = 134 → post (-4) := fun a b => k4 (fun e => a (e0.mp e)) (fun e => b (e1.mp e))
  have fin : ∀ K, K ≤ 9 → 10 ^ K ≤ c → c < 10 ^ K * 10 → ((10 ^ K = 1 ∧ c < 10) ∨ (10 ^ K = 10 ∧ c < 100) ∨ (10 ^ K = 100 ∧ 100 ≤ c ∧ c < 1000) ∨ (1000 ≤ 10 ^ K ∧ 1000 ≤ c)) → ∃ fu, wX_numberOf_12 post (nI c) f0 f1 f2 f3 a1 a2 a3 a4 a5 a6 a7 fu 1 0 :=
    fun K hK g1 g2 hW => pp_12 hc hK g1 g2 (pp_37 hG hN hc (by omega) r0 r1 r4 hW)
  by_cases l1 : c < 10
  · exact fin 0 (by decide) (by omega) (by omega) (by omega)
  by_cases l2 : c < 100
  · exact fin 1 (by decide) (by omega) (by omega) (by omega)
  by_cases l3 : c < 1000
  · exact fin 2 (by decide) (by omega) (by omega) (by omega)
  by_cases l4 : c < 10000
  · exact fin 3 (by decide) (by omega) (by omega) (by omega)
  by_cases l5 : c < 100000
  · exact fin 4 (by decide) (by omega) (by omega) (by omega)
  by_cases l6 : c < 1000000
  · exact fin 5 (by decide) (by omega) (by omega) (by omega)
  by_cases l7 : c < 10000000
  · exact fin 6 (by decide) (by omega) (by omega) (by omega)
  by_cases l8 : c < 100000000
  · exact fin 7 (by decide) (by omega) (by omega) (by omega)
  by_cases l9 : c < 1000000000
  · exact fin 8 (by decide) (by omega) (by omega) (by omega)
  · exact fin 9 (by decide) (by omega) (by omega) (by omega)
theorem pp_times {post : Int32 → St2 → Prop} (hG : pp_G a1 a2) (hN : pp_N a3 a4) (x : Int32) (k0 : x = 124 → post (a5 0) (1, f1, f2, f3, a1, a2, a3, a4, a5, a6, a7)) (k1 : x = 134 → post (a5 1) (1, f1, f2, f3, a1, a2, a3, a4, a5, a6, a7))
    (k4 : ¬ x = 124 → ¬ x = 134 → post (-4) (1, f1, f2, f3, a1, a2, a3, a4, a5, a6, a7)) : wpX_times post (1, f1, f2, f3, a1, a2, a3, a4, a5, a6, a7) x := by
  unfold wpX_times
  refine pp_number1 (pp_numberOf hG hN x (fun e => br_t (by decide) ⟨pk_in 0 160 (by decide), ?_⟩) (fun e => br_t (by decide) ⟨pk_in 1 160 (by decide), ?_⟩) (fun e e' => br_f (by decide) (k4 e e')))
  · rw [show (0 : Int32).toNatClampNeg = 0 by decide]
    exact k0 e
  · rw [show (1 : Int32).toNatClampNeg = 1 by decide]
    exact k1 e
end
end
section
/-- the list of the path with number k: 0, k + 1, 3 -/
def pp_L (s : Nat → Int32) (k : Nat) : Prop := s 0 = nI 0 ∧ s 1 = nI (k + 1) ∧ s 2 = nI 3
theorem pp_t3 : ∀ b, b < 3 → pp_e b = 0 ∧ pp_wt b (pp_f b) = 1 := by decide +kernel
section
variable {f0 f1 f2 f3 : Int32} {a1 a2 a3 a4 a5 a6 a7 : Nat → Int32}
theorem pp_s100 {post : St2 → Prop} {J : Int32 → Int32 → Int32 → Int32 → Int32 → (Nat → Int32) → (Nat → Int32) → (Nat → Int32) → (Nat → Int32) → (Nat → Int32) → (Nat → Int32) → (Nat → Int32) → Prop} (hG : pp_G a1 a2) (hN : pp_N a3 a4) {b c : Nat} (hb : b < 3) {r r' x4 x5 : Int32} {z : Nat} (hz : z < 9) (h0 : 0 ≤ r)
    (hch : (¬ 1 ≤ r ∧ pp_f b = nI c ∧ r = r') ∨ (1 ≤ r ∧ pp_s b = nI c ∧ r - 1 = r')) (hp : J (nI c) r' x4 (x5 + 1) (nI (z + 1)) a1 a2 a3 a4 a5 (upd a6 z (nI c)) a7) : wX_spread_100 post J (nI b) r x4 x5 0 f0 f1 f2 (nI z) a1 a2 a3 a4 a5 a6 a7 := by
  have hb9 : b < 9 := by omega
  have t := pp_t3 b hb
  have s160 : ∀ q, q = r' → wX_spread_160 post J (nI c) q x4 x5 f0 f1 f2 (nI z) a1 a2 a3 a4 a5 a6 a7 := by
    intro q hq
    subst hq
    unfold wX_spread_160
    rw [pp_cl hz]
    exact ⟨pp_v9 hz, nm_e (nm_r (nI_1 z) (nm_e hp))⟩
  unfold wX_spread_100
  rw [pp_cl hb9, (hG b hb9).1, (hG b hb9).2]
  refine br_t h0 (nm_r (Int32.sub_zero r) ⟨pp_v9 hb9, pp_waysTo (fun j _ hj => (hN j hj).1) (pp_tw b hb9).1 ?_⟩)
  rw [t.2]
  rcases hch with ⟨h, e, e'⟩ | ⟨h, e, e'⟩
  · exact br_f h ⟨pp_v9 hb9, nm_r e (s160 _ e')⟩
  · exact br_t h (nm_r e' ⟨pp_v9 hb9, nm_r e (s160 _ rfl)⟩)
theorem pp_s75 {post : St2 → Prop} {n : Nat} (hG : pp_G a1 a2) (hN : pp_N a3 a4) {b c : Nat} (hb : b < 3) {r r' x5 : Int32} {z : Nat} (hz : z < 9) (h0 : 0 ≤ r) (h5 : ¬ 9 ≤ x5)
    (hch : (¬ 1 ≤ r ∧ pp_f b = nI c ∧ r = r') ∨ (1 ≤ r ∧ pp_s b = nI c ∧ r - 1 = r')) (hp : wX_spread_75 post f0 f1 f2 n (nI c) r' 1 (x5 + 1) (nI (z + 1)) a1 a2 a3 a4 a5 (upd a6 z (nI c)) a7) : wX_spread_75 post f0 f1 f2 (n + 1) (nI b) r 1 x5 (nI z) a1 a2 a3 a4 a5 a6 a7 :=
  br_f h5 (br_f (by decide) (pp_isEnd hG (by omega) (br_t (pp_t3 b hb).1 (pp_s100 hG hN hb hz h0 hch hp))))
theorem pp_spread {post : St2 → Prop} (hG : pp_G a1 a2) (hN : pp_N a3 a4) {k : Nat} (hk : k < 2) (hp : ∀ s : Nat → Int32, pp_L s k → post (f0, f1, f2, 3, a1, a2, a3, a4, a5, s, a7)) : wpX_spread post (f0, f1, f2, f3, a1, a2, a3, a4, a5, a6, a7) (nI k) := by
  have v0 : vp_in 0 9 := pp_v9 (b := 0) (by decide)
  have e40 : a4 0 = 0 := (hN 0 (by decide)).2
  have e30 : a3 0 = 2 := (hN 0 (by decide)).1
  have s75 : ∃ fu, wX_spread_75 post f0 f1 f2 fu (nI 0) (nI k) 1 0 (nI 1) a1 a2 a3 a4 a5 (upd a6 0 (nI 0)) a7 := by
    have hL : pp_L (upd (upd (upd a6 0 (nI 0)) 1 (nI (k + 1))) 2 (nI 3)) k := ⟨rfl, rfl, rfl⟩
    have it3 : ∀ n, wX_spread_75 post f0 f1 f2 (n + 1 + 1) (nI 3) 0 1 (0 + 1 + 1) (nI 3) a1 a2 a3 a4 a5 (upd (upd (upd a6 0 (nI 0)) 1 (nI (k + 1))) 2 (nI 3)) a7 := fun n =>
      br_f (by decide) (br_f (by decide) (pp_isEnd hG (by decide) (br_f (by decide) (br_f (by decide) (nm_e (br_f (by decide) (br_t rfl (hp _ hL))))))))
    have it2 : ∀ n, wX_spread_75 post f0 f1 f2 (n + 1 + 1 + 1) (nI (k + 1)) 0 1 (0 + 1) (nI 2) a1 a2 a3 a4 a5 (upd (upd a6 0 (nI 0)) 1 (nI (k + 1))) a7 := fun n =>
      pp_s75 hG hN (by omega) (by decide) (by decide) (by decide) (Or.inl ⟨by decide, (pp_tk k hk).1, rfl⟩) (it3 n)
    refine ⟨0 + 1 + 1 + 1 + 1, ?_⟩
    have hkk : k = 0 ∨ k = 1 := by omega
    rcases hkk with rfl | rfl
    · exact pp_s75 hG hN (by decide) (by decide) (by decide) (by decide) (Or.inl ⟨by decide, by decide, by decide⟩) (it2 0)
    · exact pp_s75 hG hN (by decide) (by decide) (by decide) (by decide) (Or.inr ⟨by decide, by decide, by decide⟩) (it2 0)
  exact pk_loop (σ := Unit) (fun n i _ => wX_spread_4 post (nI k) f0 f1 f2 f3 a1 a2 a3 a4 a5 a6 a7 n (nI 0) (nI i)) (fun _ _ => True) 9 0 () (by omega) trivial
    (fun n _ _ => pk_le 9 9 (fun _ => ⟨v0, nm_r (e' := nI k) (by rw [pp_cl (b := 0) (by decide), e40]; exact Int32.sub_zero _) (nm_e s75)⟩) (fun z => absurd z (by omega)))
    (fun n i _ hi _ hw => pk_le 9 i (fun z => absurd z (by omega)) (fun _ => ⟨pp_v9 hi, by
      rw [pp_cl hi, (hN i hi).2, (hN i hi).1]
      by_cases e : i = 0
      · subst e
        exact br_f (by decide) ⟨v0, br_f (by decide) ⟨v0, br_f (nI_pos (by omega)) (nm_r (nI_1 0) (hw () trivial))⟩⟩
      · exact br_t (if_neg e) (nm_r (nI_1 i) (hw () trivial))⟩))
theorem pp_codeOf {post : Int32 → St2 → Prop} (hG : pp_G a1 a2) (hN : pp_N a3 a4) {k : Nat} (hk : k < 2) (hp : ∀ s : Nat → Int32, pp_L s k → post (nI (124 + 10 * k)) (f0, f1, f2, 3, a1, a2, a3, a4, a5, s, a7)) : wpX_codeOf post (f0, f1, f2, f3, a1, a2, a3, a4, a5, a6, a7) (nI k) := by
  unfold wpX_codeOf
  refine pp_spread hG hN hk (fun s hL => ?_)
  have p := hp s hL
  obtain ⟨l0, l1, l2⟩ := hL
  have t : ∀ k, k < 2 → (((nI 1 * 10) + nI (k + 1)) + 1 = nI (12 + k) ∧ ((nI (12 + k) * 10) + nI 3) + 1 = nI (124 + 10 * k)) := by decide +kernel
  refine ⟨0 + 1 + 1 + 1 + 1, br_f (by decide) ⟨pp_v9 (b := 0) (by decide), nm_r (e' := nI 1) ?_ (nm_r (e' := nI 1) (by decide) (br_f (by decide) ⟨pp_v9 (by decide), nm_r (e' := nI (12 + k)) ?_ (nm_r (nI_1 1) (br_f (by decide) ⟨pp_v9 (by decide), nm_r (e' := nI (124 + 10 * k)) ?_ (nm_r (nI_1 2) (br_t (by decide) p))⟩))⟩))⟩⟩
  · rw [pp_c0, l0]
    decide
  · rw [pp_cl (b := 1) (by decide), l1]
    exact (t k hk).1
  · rw [pp_cl (b := 2) (by decide), l2]
    exact (t k hk).2
theorem pp_hasArc0 {post : Int32 → Prop} (hL : pp_L a6 0) (hp : post 1) : wpX_hasArc post (f0, f1, f2, 3, a1, a2, a3, a4, a5, a6, a7) 0 1 := by
  obtain ⟨l0, l1, l2⟩ := hL
  have c : (1 - 1 : Int32).toNatClampNeg = 0 := by decide
  have c1 : (1 : Int32).toNatClampNeg = 1 := by decide
  have v : vp_in (1 - 1) 9 := vp_in_iff.mpr (by decide)
  refine ⟨0 + 1 + 1 + 1, br_f (by decide) (br_t rfl ⟨v, br_t ?_ ⟨pp_v9 (b := 1) (by decide), br_t ?_ (nm_e (br_f (by decide) (br_f (by decide) (nm_e (br_t (by decide) ⟨rfl, hp⟩)))))⟩⟩)⟩
  · rw [c, l0]
    decide
  · rw [c1, l1]
    decide
theorem pp_hasArc1 {post : Int32 → Prop} (hL : pp_L a6 1) (hp : post 0) : wpX_hasArc post (f0, f1, f2, 3, a1, a2, a3, a4, a5, a6, a7) 0 1 := by
  obtain ⟨l0, l1, l2⟩ := hL
  have c : (1 - 1 : Int32).toNatClampNeg = 0 := by decide
  have c1 : (1 : Int32).toNatClampNeg = 1 := by decide
  have c2 : (1 + 1 - 1 : Int32).toNatClampNeg = 1 := by decide
  have v : vp_in (1 - 1) 9 := vp_in_iff.mpr (by decide)
  have v2 : vp_in (1 + 1 - 1) 9 := vp_in_iff.mpr (by decide)
  refine ⟨0 + 1 + 1 + 1, br_f (by decide) (br_t rfl ⟨v, br_t ?_ ⟨pp_v9 (b := 1) (by decide), br_f ?_ (nm_e (br_f (by decide) (br_t rfl ⟨v2, br_f ?_ (nm_e (br_t (by decide) ⟨rfl, hp⟩))⟩)))⟩⟩)⟩
  · rw [c, l0]
    decide
  · rw [c1, l1]
    decide
  · rw [c2, l1]
    decide
end
end
section
section
variable {f0 f1 f2 f3 : Int32} {a1 a2 a3 a4 a5 a6 a7 : Nat → Int32}
theorem pp_h0 {post : Int32 → St2 → Prop} {n k : Nat} (hk : k < 2) {x1 x2 : Int32} (h : a5 k ≤ 0) (hp : wX_hottest_11 post n x1 x2 (nI (k + 1)) f0 2 f2 f3 a1 a2 a3 a4 a5 a6 a7) : wX_hottest_11 post (n + 1) x1 x2 (nI k) f0 2 f2 f3 a1 a2 a3 a4 a5 a6 a7 :=
  br_f (nI_ge (b := 2) hk (by decide)) ⟨pk_in k 160 (by omega), br_t (by rw [nI_clamp (show k < 2 ^ 31 by omega)]; exact h) (nm_r (nI_1 k) hp)⟩
theorem pp_h1 {post : Int32 → St2 → Prop} (hG : pp_G a1 a2) (hN : pp_N a3 a4) {n k : Nat} (hk : k < 2) {x1 x2 : Int32} (h : ¬ a5 k ≤ 0) (h' : ¬ a5 k < x2)
    (hA : x2 < a5 k ∨ ¬ x1 ≤ nI (124 + 10 * k) → ∀ s : Nat → Int32, wX_hottest_11 post n (nI (124 + 10 * k)) (a5 k) (nI (k + 1)) f0 2 f2 3 a1 a2 a3 a4 a5 s a7)
    (hB : ¬ x2 < a5 k → x1 ≤ nI (124 + 10 * k) → ∀ s : Nat → Int32, wX_hottest_11 post n x1 x2 (nI (k + 1)) f0 2 f2 3 a1 a2 a3 a4 a5 s a7) : wX_hottest_11 post (n + 1) x1 x2 (nI k) f0 2 f2 f3 a1 a2 a3 a4 a5 a6 a7 := by
  have e : (nI k).toNatClampNeg = k := nI_clamp (by omega)
  have v : vp_in (nI k) 160 := pk_in k 160 (by omega)
  have h61 : ∀ s : Nat → Int32, (x2 < a5 k ∨ ¬ x1 ≤ nI (124 + 10 * k)) → wX_hottest_61 post (wX_hottest_11 post n) (nI k) (nI (124 + 10 * k)) f0 2 f2 3 a1 a2 a3 a4 a5 s a7 := by
    intro s hs
    unfold wX_hottest_61
    rw [e]
    exact ⟨v, nm_e (nm_r (nI_1 k) (hA hs s))⟩
  refine br_f (nI_ge (b := 2) hk (by decide)) ⟨v, ?_⟩
  rw [e]
  refine br_f h ⟨v, br_f h' (pp_codeOf hG hN hk (fun s _ => ⟨v, br_c (fun g => h61 s (Or.inl g)) (fun g => br_c (fun g2 => nm_r (nI_1 k) (hB g g2 s)) (fun g2 => h61 s (Or.inr g2)))⟩))⟩
theorem pp_h2 {post : Int32 → St2 → Prop} {n : Nat} {x1 x2 : Int32} (hp : post x1 (f0, 2, f2, f3, a1, a2, a3, a4, a5, a6, a7)) : wX_hottest_11 post (n + 1) x1 x2 (nI 2) f0 2 f2 f3 a1 a2 a3 a4 a5 a6 a7 :=
  br_t (by decide) hp
/-- the counts: two runs, each the one way or the other -/
def pp_C (a5 : Nat → Int32) (c : Int32) : Prop := (c = 2 ∧ a5 0 = 2 ∧ a5 1 = 0) ∨ (c = 1 ∧ a5 0 = 1 ∧ a5 1 = 1) ∨ (c = 0 ∧ a5 0 = 0 ∧ a5 1 = 2)
theorem pp_hottest {post : Int32 → St2 → Prop} (hG : pp_G a1 a2) (hN : pp_N a3 a4) {c : Int32} (hC : pp_C a5 c) (hp : ∀ (r f : Int32) (s : Nat → Int32), r = (if c ≤ 0 then 134 else 124) → post r (1, 2, f2, f, a1, a2, a3, a4, a5, s, a7)) : wpX_hottest post (1, 2, f2, f3, a1, a2, a3, a4, a5, a6, a7) := by
  unfold wpX_hottest
  refine pp_number1 ⟨0 + 1 + 1 + 1, ?_⟩
  rcases hC with ⟨e, e0, e1⟩ | ⟨e, e0, e1⟩ | ⟨e, e0, e1⟩
  · refine pp_h1 (k := 0) hG hN (by decide) (by rw [e0]; decide) (by rw [e0]; decide) (fun _ s => ?_) (fun g => absurd (show 0 < a5 0 by rw [e0]; decide) g)
    exact pp_h0 (k := 1) (by decide) (by rw [e1]; decide) (pp_h2 (hp _ _ _ (by rw [e]; decide)))
  · refine pp_h1 (k := 0) hG hN (by decide) (by rw [e0]; decide) (by rw [e0]; decide) (fun _ s => ?_) (fun g => absurd (show 0 < a5 0 by rw [e0]; decide) g)
    refine pp_h1 (k := 1) hG hN (by decide) (by rw [e1]; decide) (by rw [e0, e1]; decide) (fun g => ?_) (fun _ _ s => pp_h2 (hp _ _ _ (by rw [e]; decide)))
    rw [e0, e1] at g
    exact absurd g (by decide)
  · refine pp_h0 (k := 0) (by decide) (by rw [e0]; decide) ?_
    exact pp_h1 (k := 1) hG hN (by decide) (by rw [e1]; decide) (by rw [e1]; decide) (fun _ s => pp_h2 (hp _ _ _ (by rw [e]; decide))) (fun g => absurd (show 0 < a5 1 by rw [e1]; decide) g)
theorem pp_a0 {post : Int32 → St2 → Prop} {n k : Nat} (hk : k < 2) {x1 x2 x3 : Int32} (h : a5 k ≤ 0) (hp : wX_arc_9 post x1 x2 n x3 (nI (k + 1)) f0 2 f2 f3 a1 a2 a3 a4 a5 a6 a7) : wX_arc_9 post x1 x2 (n + 1) x3 (nI k) f0 2 f2 f3 a1 a2 a3 a4 a5 a6 a7 :=
  br_f (nI_ge (b := 2) hk (by decide)) ⟨pk_in k 160 (by omega), br_t (by rw [nI_clamp (show k < 2 ^ 31 by omega)]; exact h) (nm_r (nI_1 k) hp)⟩
theorem pp_aA {post : Int32 → St2 → Prop} (hG : pp_G a1 a2) (hN : pp_N a3 a4) {n : Nat} {x3 : Int32} (h : ¬ a5 0 ≤ 0) (hp : ∀ s : Nat → Int32, wX_arc_9 post 0 1 n (x3 + a5 0) (nI 1) f0 2 f2 3 a1 a2 a3 a4 a5 s a7) : wX_arc_9 post 0 1 (n + 1) x3 (nI 0) f0 2 f2 f3 a1 a2 a3 a4 a5 a6 a7 := by
  have v : vp_in (nI 0) 160 := pk_in 0 160 (by decide)
  refine br_f (by decide) ⟨v, ?_⟩
  rw [nI_clamp (show 0 < 2 ^ 31 by decide)]
  exact br_f h (pp_spread hG hN (by decide) (fun s hL => pp_hasArc0 hL (br_f (by decide) ⟨v, nm_e (nm_r (nI_1 0) (hp s))⟩)))
theorem pp_aB {post : Int32 → St2 → Prop} (hG : pp_G a1 a2) (hN : pp_N a3 a4) {n : Nat} {x3 : Int32} (h : ¬ a5 1 ≤ 0) (hp : ∀ s : Nat → Int32, wX_arc_9 post 0 1 n x3 (nI 2) f0 2 f2 3 a1 a2 a3 a4 a5 s a7) : wX_arc_9 post 0 1 (n + 1) x3 (nI 1) f0 2 f2 f3 a1 a2 a3 a4 a5 a6 a7 := by
  have v : vp_in (nI 1) 160 := pk_in 1 160 (by decide)
  refine br_f (by decide) ⟨v, ?_⟩
  rw [nI_clamp (show 1 < 2 ^ 31 by decide)]
  exact br_f h (pp_spread hG hN (by decide) (fun s hL => pp_hasArc1 hL (br_t rfl (nm_r (nI_1 1) (hp s)))))
theorem pp_a2 {post : Int32 → St2 → Prop} {n : Nat} {x1 x2 x3 : Int32} (hp : post x3 (f0, 2, f2, f3, a1, a2, a3, a4, a5, a6, a7)) : wX_arc_9 post x1 x2 (n + 1) x3 (nI 2) f0 2 f2 f3 a1 a2 a3 a4 a5 a6 a7 :=
  br_t (by decide) hp
theorem pp_arc {post : Int32 → St2 → Prop} (hG : pp_G a1 a2) (hN : pp_N a3 a4) {c : Int32} (hC : pp_C a5 c) (hp : ∀ (r f : Int32) (s : Nat → Int32), r = c → post r (1, 2, f2, f, a1, a2, a3, a4, a5, s, a7)) : wpX_arc post (1, 2, f2, f3, a1, a2, a3, a4, a5, a6, a7) 0 1 := by
  unfold wpX_arc
  refine pp_number1 ⟨0 + 1 + 1 + 1, ?_⟩
  rcases hC with ⟨e, e0, e1⟩ | ⟨e, e0, e1⟩ | ⟨e, e0, e1⟩
  · refine pp_aA hG hN (by rw [e0]; decide) (fun s => ?_)
    exact pp_a0 (k := 1) (by decide) (by rw [e1]; decide) (pp_a2 (hp _ _ _ (by rw [e, e0]; decide)))
  · refine pp_aA hG hN (by rw [e0]; decide) (fun s => ?_)
    exact pp_aB hG hN (by rw [e1]; decide) (fun s => pp_a2 (hp _ _ _ (by rw [e, e0]; decide)))
  · refine pp_a0 (k := 0) (by decide) (by rw [e0]; decide) ?_
    exact pp_aB hG hN (by rw [e1]; decide) (fun s => pp_a2 (hp _ _ _ (by rw [e])))
theorem pp_possible {post : Int32 → St2 → Prop} (hp : post 2 (1, 2, f2, f3, a1, a2, a3, a4, a5, a6, a7)) : wpX_possible post (1, 2, f2, f3, a1, a2, a3, a4, a5, a6, a7) := by
  unfold wpX_possible
  exact pp_number1 hp
end
end
section
theorem pp_times2 {post : Int32 → St2 → Prop} {f1 f2 f3 : Int32} {a1 a2 a3 a4 a5 a6 a7 : Nat → Int32} (hG : pp_G a1 a2) (hN : pp_N a3 a4) (x : Int32) (hp : ∀ r, r = (if x = 124 then a5 0 else if x = 134 then a5 1 else -4) → post r (1, f1, f2, f3, a1, a2, a3, a4, a5, a6, a7)) :
    wpX_times post (1, f1, f2, f3, a1, a2, a3, a4, a5, a6, a7) x :=
  pp_times hG hN x (fun e => hp _ (if_pos e).symm) (fun e => hp _ (by rw [if_neg (by rw [e]; decide), if_pos e])) (fun e e' => hp _ (by rw [if_neg e, if_neg e']))
theorem pp_Ce {a5 : Nat → Int32} {c : Int32} (h : pp_C a5 c) : a5 0 = c ∧ a5 1 = 2 - c := by
  rcases h with ⟨e, e0, e1⟩ | ⟨e, e0, e1⟩ | ⟨e, e0, e1⟩ <;> rw [e, e0, e1] <;> decide
theorem pp_cnt {s : Nat → Int32} (h0 : s 0 = 0) (h1 : s 1 = 0) {k l : Nat} (hk : k < 2) (hl : l < 2) : pp_C (upd (upd s k (s k + 1)) l (upd s k (s k + 1) l + 1)) ((2 - nI k) - nI l) := by
  have hkk : k = 0 ∨ k = 1 := by omega
  have hll : l = 0 ∨ l = 1 := by omega
  rcases hkk with rfl | rfl <;> rcases hll with rfl | rfl
  · refine Or.inl ⟨by decide, ?_, ?_⟩
    · rw [pk_us, pk_us, h0]
      decide
    · rw [pk_un (by decide), pk_un (by decide), h1]
  · refine Or.inr (Or.inl ⟨by decide, ?_, ?_⟩)
    · rw [pk_un (by decide), pk_us, h0]
      decide
    · rw [pk_us, pk_un (by decide), h1]
      decide
  · refine Or.inr (Or.inl ⟨by decide, ?_, ?_⟩)
    · rw [pk_us, pk_un (by decide), h0]
      decide
    · rw [pk_un (by decide), pk_us, h1]
      decide
  · refine Or.inr (Or.inr ⟨by decide, ?_, ?_⟩)
    · rw [pk_un (by decide), pk_un (by decide), h0]
    · rw [pk_us, pk_us, h1]
      decide
theorem pp_graph {a1 a2 : Nat → Int32} (h : ∀ k, k < 9 → a1 k = -1 ∧ a2 k = -1) : pp_G (upd (upd (upd a1 0 1) 1 3) 2 3) (upd (upd (upd a2 0 2) 1 (-1)) 2 (-1)) := by
  intro b hb
  by_cases e2 : b = 2
  · subst e2
    exact ⟨rfl, rfl⟩
  by_cases e1 : b = 1
  · subst e1
    exact ⟨rfl, rfl⟩
  by_cases e0 : b = 0
  · subst e0
    exact ⟨rfl, rfl⟩
  rw [pk_un e2, pk_un e1, pk_un e0, pk_un e2, pk_un e1, pk_un e0, (h b hb).1, (h b hb).2]
  unfold pp_f pp_s
  rw [if_neg e0, if_neg (show ¬ b < 3 by omega), if_neg e0]
  exact ⟨rfl, rfl⟩
theorem pp_140 {post : Int32 → St0 → Prop} {mc ms kc ks : Nat} {x8 x9 x10 x11 z0 z1 : Int32} (hz : z1 = z0) (h8 : x8 = if x11 ≤ 0 then 134 else 124) (h9 : x9 = x11) (h10 : x10 = 2) (hp : post 1 ()) : wL_lawOf_140 post mc ms x8 x9 x10 x11 z0 z1 kc ks := by
  unfold wL_lawOf_140
  refine br_t hz (br_c (fun g => ?_) (fun g => ?_))
  · rw [if_pos g] at h8
    exact br_t h8 (br_t h9 (br_t h10 hp))
  · rw [if_neg g] at h8
    exact br_t h8 (br_t h9 (br_t h10 hp))
theorem pp_lawOf {post : Int32 → St0 → Prop} {mc ms : Nat} (hmc : 8 ≤ mc) (hms : 376 ≤ ms) (p0 p1 p2 : Int32) (hp : post 1 ()) : wpL_lawOf post mc ms () p0 p1 p2 := by
  obtain ⟨k, hk, ek⟩ := pk_andE p0 (m := 1) 1 (by decide)
  obtain ⟨l, hl, el⟩ := pk_andE p1 (m := 1) 1 (by decide)
  refine ⟨by omega, by omega, 7, 365, by omega, by omega, pp_init (by decide) (by decide) (fun a1 a2 hI => ?_)⟩
  have hG := pp_graph hI
  refine pp_lead (b := 0) (by decide) (by decide) (by decide) (by decide) (by decide) (by decide) (by decide) (by rw [(hI 0 (by decide)).1]; decide) (fun _ _ _ => ?_)
  refine pp_lead (b := 1) (by decide) (by decide) (by decide) (by decide) (by decide) (by decide) (by decide) (by rw [pk_un (by decide), (hI 1 (by decide)).1]; decide) (fun _ _ _ => ?_)
  refine pp_lead (b := 2) (by decide) (by decide) (by decide) (by decide) (by decide) (by decide) (by decide) (by rw [pk_un (by decide), pk_un (by decide), (hI 2 (by decide)).1]; decide) (fun _ s hs => ?_)
  have hC := pp_cnt (hs 0 (by decide)) (hs 1 (by decide)) hk hl
  rw [← ek, ← el] at hC
  have hE := pp_Ce hC
  refine pp_runA hG (by decide) (by decide) (by decide) hk ek (fun s3 s4 hN => ?_)
  refine pp_runB hG hN (by decide) (by decide) (by decide) hl el ?_
  refine pp_runC hG hN ?_
  refine pp_times2 hG hN p2 (fun r1 q1 => ?_)
  rw [hE.1, hE.2] at q1
  refine pp_hottest hG hN hC (fun r2 _ _ q2 => ?_)
  refine pp_arc hG hN hC (fun r3 _ _ q3 => ?_)
  refine pp_possible (nm_e (br_t rfl (br_t rfl (br_t rfl (br_c (fun g => ?_) (fun g => br_c (fun g' => ?_) (fun g' => ?_)))))))
  · rw [if_pos g] at q1
    exact pp_140 q1 q2 q3 rfl hp
  · rw [if_neg g, if_pos g'] at q1
    exact pp_140 q1 q2 q3 rfl hp
  · rw [if_neg g, if_neg g'] at q1
    exact pp_140 q1 q2 q3 rfl hp
theorem pp_cell {post : Int32 → Prop} {L : Nat} (hL : L ≤ 3) {xs : Nat → Int32} {x : Int32} (hx : ¬ x < 0) (hp : ∀ r, post r) : wpL_cellAt post L xs () x :=
  br_c (fun _ => hp _) (fun h => by
    obtain ⟨j, hj, e, _⟩ := pk_mu hx h (by omega)
    exact ⟨pk_in j L hj e, hp _⟩)
theorem i_vc (xs : Nat → Int32) (L : Nat) (hL : L ≤ 3) : wpL_law (fun r => r = 1) L xs := by
  unfold wpL_law
  exact pp_cell hL (by decide) (fun r1 => pp_cell hL (by decide) (fun r2 => pp_cell hL (by decide) (fun r3 => ⟨206, 3296, by decide, by decide, pp_lawOf (by decide) (by decide) r1 r2 r3 rfl⟩)))
end
