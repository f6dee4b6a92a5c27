section
section
/-- the opposite literal; also the other watcher of a clause -/
def zb_ng (l : Nat) : Nat := if l % 2 = 0 then l + 1 else l - 1
theorem zb_ng_ng (l : Nat) : zb_ng (zb_ng l) = l := by
  unfold zb_ng
  split <;> split <;> omega
theorem zb_ng_ne (l : Nat) : zb_ng l ≠ l := by
  unfold zb_ng
  split <;> omega
theorem zb_ng_half (l : Nat) : zb_ng l / 2 = l / 2 := by
  unfold zb_ng
  split <;> omega
theorem zb_ng_lt {l n : Nat} (h : l < 2 * n) : zb_ng l < 2 * n := by
  unfold zb_ng
  split <;> omega
theorem zb_ng_e {l : Nat} (h : l % 2 = 0) : zb_ng l = l + 1 := by
  unfold zb_ng
  rw [if_pos h]
theorem zb_ng_o {l : Nat} (h : l % 2 = 1) : zb_ng l = l - 1 := by
  unfold zb_ng
  rw [if_neg (by omega)]
theorem zb_ng_iff {a b : Nat} (h : a / 2 = b / 2) : b = a ∨ b = zb_ng a := by
  unfold zb_ng
  split <;> omega
theorem zb_xor : ∀ l, l < 1000 → nI l ^^^ 1 = nI (zb_ng l) := by decide +kernel
theorem zb_shr : ∀ l, l < 1000 → nI l >>> ((1 : Int32) &&& 31) = nI (l / 2) := by decide +kernel
theorem zb_and1 : ∀ l, l < 1000 → nI l &&& 1 = nI (l % 2) := by decide +kernel
theorem zb_as : ∀ l, l < 1000 → 1 - (nI l &&& 1) = nI (1 - l % 2) := by decide +kernel
theorem zb_add {x y : Int32} {a b : Int} (hx : x.toInt = a) (hy : y.toInt = b) (h1 : -2147483648 ≤ a + b) (h2 : a + b < 2147483648) : (x + y).toInt = a + b := by
  rw [Int32.toInt_add, hx, hy]
  exact Int.bmod_eq_of_le (by omega) (by omega)
theorem zb_sub {x y : Int32} {a b : Int} (hx : x.toInt = a) (hy : y.toInt = b) (h1 : -2147483648 ≤ a - b) (h2 : a - b < 2147483648) : (x - y).toInt = a - b := by
  rw [Int32.toInt_sub, hx, hy]
  exact Int.bmod_eq_of_le (by omega) (by omega)
theorem zb_neg {x : Int32} {a : Int} (hx : x.toInt = a) (h1 : -2147483648 ≤ -a) (h2 : -a < 2147483648) : (-x).toInt = -a := by
  rw [Int32.toInt_neg, hx]
  exact Int.bmod_eq_of_le (by omega) (by omega)
theorem zb_le {x y : Int32} {a b : Int} (hx : x.toInt = a) (hy : y.toInt = b) : x ≤ y ↔ a ≤ b := by
  rw [Int32.le_iff_toInt_le, hx, hy]
theorem zb_lt {x y : Int32} {a b : Int} (hx : x.toInt = a) (hy : y.toInt = b) : x < y ↔ a < b := by
  rw [Int32.lt_iff_toInt_lt, hx, hy]
theorem zb_nar1 : narrow .boolean (.int (1 : Int32)) = .int 1 := by decide
theorem zb_nar0 : narrow .boolean (.int (0 : Int32)) = .int 0 := by decide
theorem zb_fit1 : fits .boolean (.int (1 : Int32)) = true := by decide
theorem zb_fit0 : fits .boolean (.int (0 : Int32)) = true := by decide
theorem zb_pig : ∀ (n : Nat) (l : List Nat), l.Nodup → (∀ x, x ∈ l → x < n) → l.length ≤ n
  | 0, [], _, _ => Nat.le_refl 0
  | 0, a :: t, _, h => absurd (h a List.mem_cons_self) (by omega)
  | n + 1, l, hd, h => by
    by_cases hn : n ∈ l
    · have h1 := zb_pig n (l.erase n) (hd.erase n) (fun x hx => by
        have h2 := (List.Nodup.mem_erase_iff hd).mp hx
        have h3 := h x h2.2
        have h4 := h2.1
        omega)
      rw [List.length_erase_of_mem hn] at h1
      omega
    · have h1 := zb_pig n l hd (fun x hx => by
        have h2 := h x hx
        have h3 : x ≠ n := fun e => hn (e ▸ hx)
        omega)
      omega
theorem zb_inj : ∀ {τ : List Nat}, (τ.map (fun l => l / 2)).Nodup → ∀ a, a ∈ τ → ∀ b, b ∈ τ → a / 2 = b / 2 → a = b
  | [], _, a, ha, _, _, _ => absurd ha List.not_mem_nil
  | x :: t, hd, a, ha, b, hb, e => by
    rw [List.map_cons, List.nodup_cons] at hd
    have hx : ∀ y, y ∈ t → x / 2 ≠ y / 2 := fun y hy z => hd.1 (List.mem_map.mpr ⟨y, hy, z.symm⟩)
    rcases List.mem_cons.mp ha with h1 | h1 <;> rcases List.mem_cons.mp hb with h2 | h2
    · rw [h1, h2]
    · rw [h1] at e
      exact absurd e (hx b h2)
    · rw [h2] at e
      exact absurd e.symm (hx a h1)
    · exact zb_inj hd.2 a h1 b h2 e
theorem zb_app {τ : List Nat} {l i x : Nat} (h : (τ ++ [l])[i]? = some x) : τ[i]? = some x ∨ (i = τ.length ∧ x = l) := by
  rw [List.getElem?_append] at h
  split at h
  · exact Or.inl h
  · next hi =>
    rcases Nat.lt_or_ge (i - τ.length) 1 with g | g
    · have e : i - τ.length = 0 := by omega
      rw [e] at h
      exact Or.inr ⟨by omega, by simpa using h.symm⟩
    · rw [List.getElem?_eq_none (by simpa using g)] at h
      exact absurd h (by simp)
theorem zb_appL {τ : List Nat} {l i x : Nat} (h : τ[i]? = some x) : (τ ++ [l])[i]? = some x := by
  have hi : i < τ.length := by
    rcases Nat.lt_or_ge i τ.length with g | g
    · exact g
    · rw [List.getElem?_eq_none g] at h
      exact absurd h (by simp)
  rw [List.getElem?_append_left hi]
  exact h
theorem zb_get {τ : List Nat} {i : Nat} (h : i < τ.length) : ∃ l, τ[i]? = some l ∧ l ∈ τ := ⟨τ[i], List.getElem?_eq_getElem h, List.getElem_mem h⟩
theorem zb_lt_of {τ : List Nat} {i x : Nat} (h : τ[i]? = some x) : i < τ.length := by
  rcases Nat.lt_or_ge i τ.length with g | g
  · exact g
  · rw [List.getElem?_eq_none g] at h
    exact absurd h (by simp)
theorem zb_mem_of {τ : List Nat} {i x : Nat} (h : τ[i]? = some x) : x ∈ τ := List.mem_iff_getElem?.mpr ⟨i, h⟩
/-- what assigned[v] holds -/
def zb_va (τ : List Nat) (v : Nat) : Int32 := if 2 * v ∈ τ then 1 else if 2 * v + 1 ∈ τ then 0 else -1
/-- the trail: literals of n variables, each variable once; trail and assigned hold it -/
def zb_tr (n : Nat) (τ : List Nat) (as tr : Nat → Int32) : Prop :=
  (∀ l, l ∈ τ → l < 2 * n) ∧ (τ.map (fun l => l / 2)).Nodup ∧ (∀ i l, τ[i]? = some l → tr i = nI l) ∧ (∀ v, v < n → as v = zb_va τ v)
theorem zb_tr_con {n : Nat} {τ : List Nat} {as tr : Nat → Int32} (h : zb_tr n τ as tr) {l : Nat} (h1 : l ∈ τ) : zb_ng l ∉ τ :=
  fun h2 => zb_ng_ne l (zb_inj h.2.1 _ h2 _ h1 (zb_ng_half l))
theorem zb_tr_con' {n : Nat} {τ : List Nat} {as tr : Nat → Int32} (h : zb_tr n τ as tr) {l : Nat} (h1 : zb_ng l ∈ τ) : l ∉ τ :=
  fun h2 => zb_tr_con h h2 h1
theorem zb_tr_len {n : Nat} {τ : List Nat} {as tr : Nat → Int32} (h : zb_tr n τ as tr) : τ.length ≤ n := by
  have h1 := zb_pig n (τ.map (fun l => l / 2)) h.2.1 (fun x hx => by
    obtain ⟨y, hy, rfl⟩ := List.mem_map.mp hx
    have := h.1 y hy
    omega)
  rwa [List.length_map] at h1
theorem zb_half_mem {τ : List Nat} {v : Nat} : v ∈ τ.map (fun l => l / 2) ↔ 2 * v ∈ τ ∨ 2 * v + 1 ∈ τ := by
  constructor
  · intro h
    obtain ⟨y, hy, e⟩ := List.mem_map.mp h
    have e' : y / 2 = v := e
    rcases Nat.mod_two_eq_zero_or_one y with g | g
    · exact Or.inl (by rw [show 2 * v = y by omega]; exact hy)
    · exact Or.inr (by rw [show 2 * v + 1 = y by omega]; exact hy)
  · intro h
    rcases h with h | h
    · exact List.mem_map.mpr ⟨_, h, by show 2 * v / 2 = v; omega⟩
    · exact List.mem_map.mpr ⟨_, h, by show (2 * v + 1) / 2 = v; omega⟩
theorem zb_un {τ : List Nat} {l : Nat} (h1 : l ∉ τ) (h2 : zb_ng l ∉ τ) : l / 2 ∉ τ.map (fun l => l / 2) := by
  intro h
  obtain ⟨y, hy, e⟩ := List.mem_map.mp h
  have e' : y / 2 = l / 2 := e
  rcases zb_ng_iff (a := l) (b := y) e'.symm with g | g
  · exact h1 (g ▸ hy)
  · exact h2 (g ▸ hy)
theorem zb_tr_lt {n : Nat} {τ : List Nat} {as tr : Nat → Int32} (h : zb_tr n τ as tr) {l : Nat} (hl : l < 2 * n) (h1 : l ∉ τ) (h2 : zb_ng l ∉ τ) : τ.length < n := by
  have h3 := zb_pig n (l / 2 :: τ.map (fun l => l / 2)) (List.nodup_cons.mpr ⟨zb_un h1 h2, h.2.1⟩) (fun x hx => by
    rcases List.mem_cons.mp hx with g | g
    · omega
    · obtain ⟨y, hy, rfl⟩ := List.mem_map.mp g
      have := h.1 y hy
      omega)
  rw [List.length_cons, List.length_map] at h3
  omega
theorem zb_va_un {τ : List Nat} {v : Nat} : zb_va τ v = -1 ↔ (2 * v ∉ τ ∧ 2 * v + 1 ∉ τ) := by
  unfold zb_va
  by_cases h1 : 2 * v ∈ τ
  · rw [if_pos h1]
    exact ⟨fun z => absurd z (by decide), fun z => absurd h1 z.1⟩
  · rw [if_neg h1]
    by_cases h2 : 2 * v + 1 ∈ τ
    · rw [if_pos h2]
      exact ⟨fun z => absurd z (by decide), fun z => absurd h2 z.2⟩
    · rw [if_neg h2]
      exact ⟨fun _ => ⟨h1, h2⟩, fun _ => rfl⟩
theorem zb_tr_push {n : Nat} {τ : List Nat} {as tr : Nat → Int32} (h : zb_tr n τ as tr) {l : Nat} (hl : l < 2 * n) (h1 : l ∉ τ) (h2 : zb_ng l ∉ τ) :
    zb_tr n (τ ++ [l]) (upd as (l / 2) (nI (1 - l % 2))) (upd tr τ.length (nI l)) := by
  refine ⟨fun x hx => ?_, ?_, fun i x hx => ?_, fun v hv => ?_⟩
  · rcases List.mem_append.mp hx with g | g
    · exact h.1 x g
    · rw [List.mem_singleton.mp g]
      exact hl
  · rw [List.map_append, List.nodup_append]
    refine ⟨h.2.1, by simp, fun a ha b hb => ?_⟩
    rw [List.map_cons, List.map_nil, List.mem_singleton] at hb
    rw [hb]
    intro e
    exact zb_un h1 h2 (e ▸ ha)
  · rcases zb_app hx with g | ⟨g, g'⟩
    · have := zb_lt_of g
      rw [pk_un (by omega)]
      exact h.2.2.1 i x g
    · rw [g, pk_us, g']
  · by_cases e : v = l / 2
    · rw [e, pk_us]
      unfold zb_va
      rcases Nat.mod_two_eq_zero_or_one l with g | g
      · rw [if_pos (by rw [show 2 * (l / 2) = l by omega]; simp), g]
        rfl
      · have e2 : zb_ng l = 2 * (l / 2) := by rw [zb_ng_o g]; omega
        rw [if_neg (by
          rw [← e2]
          intro z
          rcases List.mem_append.mp z with z | z
          · exact h2 z
          · exact zb_ng_ne l (List.mem_singleton.mp z)), if_pos (by rw [show 2 * (l / 2) + 1 = l by omega]; simp), g]
        rfl
    · rw [pk_un e, h.2.2.2 v hv]
      unfold zb_va
      have a1 : (2 * v ∈ τ ++ [l]) ↔ 2 * v ∈ τ := by
        rw [List.mem_append, List.mem_singleton]
        exact ⟨fun z => z.elim id (fun z => absurd z (by omega)), Or.inl⟩
      have a2 : (2 * v + 1 ∈ τ ++ [l]) ↔ 2 * v + 1 ∈ τ := by
        rw [List.mem_append, List.mem_singleton]
        exact ⟨fun z => z.elim id (fun z => absurd z (by omega)), Or.inl⟩
      simp only [a1, a2]
end
section
variable {f0_atomCount f0_clauseCount f0_drafted f0_opened f0_variables f0_stock f0_stored f0_hopeless f0_trailSize f0_nextWatch f0_nextEdge f0_depth f0_bump f0_conflictSize f0_learnedSize f0_assumed f0_counted : Int32} {a1 a2 a3 a4 a5 a6 a7 a8 a9 a10 a11 a12 a13 a14 a15 a16 a17 a18 a19 a20 a21 a22 a23 a24 a25 a26 a27 a28 a29 a30 a31 a32 a33 a34 a35 a36 a37 a38 : Nat → Int32}
theorem zb_truth {post : Int32 → Prop} {n : Nat} {τ : List Nat} {l : Nat} (hT : zb_tr n τ a18 a21) (hn : n ≤ 21) (hl : l < 2 * n) (h1 : l ∈ τ → post 1) (h0 : zb_ng l ∈ τ → post 0) (hN : l ∉ τ → zb_ng l ∉ τ → post (-1)) :
    wpX_truth post (f0_atomCount, f0_clauseCount, f0_drafted, f0_opened, f0_variables, f0_stock, f0_stored, f0_hopeless, f0_trailSize, f0_nextWatch, f0_nextEdge, f0_depth, f0_bump, f0_conflictSize, f0_learnedSize, f0_assumed, f0_counted, a1, a2, a3, a4, a5, a6, a7, a8, a9, a10, a11, a12, a13, a14, a15, a16, a17, a18, a19, a20, a21, a22, a23, a24, a25, a26, a27, a28, a29, a30, a31, a32, a33, a34, a35, a36, a37, a38) (nI l) := by
  have ev := hT.2.2.2 (l / 2) (by omega)
  unfold wpX_truth
  dsimp only
  rw [zb_shr l (by omega), nI_clamp (show l / 2 < 2 ^ 31 by omega), zb_and1 l (by omega)]
  refine ⟨vp_in_nI (by omega) (by decide), nm_r ev ?_⟩
  have hc := zb_tr_con hT (l := l)
  unfold zb_va
  rcases Nat.mod_two_eq_zero_or_one l with g | g
  · have e1 : 2 * (l / 2) = l := by omega
    have e2 : l + 1 = zb_ng l := (zb_ng_e g).symm
    rw [e1, e2, g]
    by_cases c1 : l ∈ τ
    · rw [if_pos c1]
      exact br_f (by decide) (h1 c1)
    · rw [if_neg c1]
      by_cases c2 : zb_ng l ∈ τ
      · rw [if_pos c2]
        exact br_f (by decide) (h0 c2)
      · rw [if_neg c2]
        exact br_t rfl (hN c1 c2)
  · have e1 : 2 * (l / 2) + 1 = l := by omega
    have e2 : 2 * (l / 2) = zb_ng l := by rw [zb_ng_o g]; omega
    rw [e1, e2, g]
    by_cases c2 : zb_ng l ∈ τ
    · rw [if_pos c2]
      exact br_f (by decide) (h0 c2)
    · rw [if_neg c2]
      by_cases c1 : l ∈ τ
      · rw [if_pos c1]
        exact br_f (by decide) (h1 c1)
      · rw [if_neg c1]
        exact br_t rfl (hN c1 c2)
theorem zb_assign {post : St2 → Prop} {n : Nat} {τ : List Nat} {l : Nat} {why : Int32} (hT : zb_tr n τ a18 a21) (hn : n ≤ 21) (hl : l < 2 * n) (h1 : l ∉ τ) (h2 : zb_ng l ∉ τ)
    (H : ∀ b18 b19 b20 b21, zb_tr n (τ ++ [l]) b18 b21 → post (f0_atomCount, f0_clauseCount, f0_drafted, f0_opened, f0_variables, f0_stock, f0_stored, f0_hopeless, nI (τ ++ [l]).length, f0_nextWatch, f0_nextEdge, f0_depth, f0_bump, f0_conflictSize, f0_learnedSize, f0_assumed, f0_counted, a1, a2, a3, a4, a5, a6, a7, a8, a9, a10, a11, a12, a13, a14, a15, a16, a17, b18, b19, b20, b21, a22, a23, a24, a25, a26, a27, a28, a29, a30, a31, a32, a33, a34, a35, a36, a37, a38)) :
    wpX_assign post (f0_atomCount, f0_clauseCount, f0_drafted, f0_opened, f0_variables, f0_stock, f0_stored, f0_hopeless, nI τ.length, f0_nextWatch, f0_nextEdge, f0_depth, f0_bump, f0_conflictSize, f0_learnedSize, f0_assumed, f0_counted, a1, a2, a3, a4, a5, a6, a7, a8, a9, a10, a11, a12, a13, a14, a15, a16, a17, a18, a19, a20, a21, a22, a23, a24, a25, a26, a27, a28, a29, a30, a31, a32, a33, a34, a35, a36, a37, a38) (nI l) why := by
  have hlen := zb_tr_lt hT hl h1 h2
  have hp := zb_tr_push hT hl h1 h2
  unfold wpX_assign
  dsimp only
  refine nm_r (zb_shr l (by omega)) ?_
  rw [nI_clamp (show l / 2 < 2 ^ 31 by omega), nI_clamp (show τ.length < 2 ^ 31 by omega), zb_as l (by omega)]
  refine ⟨vp_in_nI (by omega) (by decide), nm_e ⟨vp_in_nI (by omega) (by decide), nm_e ⟨vp_in_nI (by omega) (by decide), nm_e ⟨vp_in_nI (by omega) (by decide), nm_e (nm_r (e' := nI (τ ++ [l]).length) ?_ (H _ _ _ _ hp))⟩⟩⟩⟩
  rw [nI_1, List.length_append]
  rfl
theorem zb_watch {post : St2 → Prop} {w l : Nat} (hw : w < 800) (hl : l < 42) (H : post (f0_atomCount, f0_clauseCount, f0_drafted, f0_opened, f0_variables, f0_stock, f0_stored, f0_hopeless, f0_trailSize, f0_nextWatch, f0_nextEdge, f0_depth, f0_bump, f0_conflictSize, f0_learnedSize, f0_assumed, f0_counted, a1, a2, a3, a4, a5, a6, a7, a8, a9, a10, a11, a12, a13, a14, upd a15 l (nI w), upd a16 w (a15 l), upd a17 w (nI l), a18, a19, a20, a21, a22, a23, a24, a25, a26, a27, a28, a29, a30, a31, a32, a33, a34, a35, a36, a37, a38)) :
    wpX_watch post (f0_atomCount, f0_clauseCount, f0_drafted, f0_opened, f0_variables, f0_stock, f0_stored, f0_hopeless, f0_trailSize, f0_nextWatch, f0_nextEdge, f0_depth, f0_bump, f0_conflictSize, f0_learnedSize, f0_assumed, f0_counted, a1, a2, a3, a4, a5, a6, a7, a8, a9, a10, a11, a12, a13, a14, a15, a16, a17, a18, a19, a20, a21, a22, a23, a24, a25, a26, a27, a28, a29, a30, a31, a32, a33, a34, a35, a36, a37, a38) (nI w) (nI l) := by
  unfold wpX_watch
  dsimp only
  rw [nI_clamp (show w < 2 ^ 31 by omega), nI_clamp (show l < 2 ^ 31 by omega)]
  exact ⟨vp_in_nI hw (by decide), nm_e ⟨vp_in_nI hl (by decide), vp_in_nI hw (by decide), nm_e ⟨vp_in_nI hl (by decide), nm_e H⟩⟩⟩
theorem zb_deeper {post : St2 → Prop} {d : Nat} (hd : d < 25) (H : post (f0_atomCount, f0_clauseCount, f0_drafted, f0_opened, f0_variables, f0_stock, f0_stored, f0_hopeless, f0_trailSize, f0_nextWatch, f0_nextEdge, nI (d + 1), f0_bump, f0_conflictSize, f0_learnedSize, f0_assumed, f0_counted, a1, a2, a3, a4, a5, a6, a7, a8, a9, a10, a11, a12, a13, a14, a15, a16, a17, a18, a19, a20, a21, upd a22 (d + 1) f0_trailSize, a23, a24, a25, a26, a27, a28, a29, a30, a31, a32, a33, a34, a35, a36, a37, a38)) :
    wpX_deeper post (f0_atomCount, f0_clauseCount, f0_drafted, f0_opened, f0_variables, f0_stock, f0_stored, f0_hopeless, f0_trailSize, f0_nextWatch, f0_nextEdge, nI d, f0_bump, f0_conflictSize, f0_learnedSize, f0_assumed, f0_counted, a1, a2, a3, a4, a5, a6, a7, a8, a9, a10, a11, a12, a13, a14, a15, a16, a17, a18, a19, a20, a21, a22, a23, a24, a25, a26, a27, a28, a29, a30, a31, a32, a33, a34, a35, a36, a37, a38) := by
  unfold wpX_deeper
  dsimp only
  refine nm_r (nI_1 d) ?_
  rw [nI_clamp (show d + 1 < 2 ^ 31 by omega)]
  exact ⟨vp_in_nI (by omega) (by decide), nm_e H⟩
theorem zb_assume {post : St2 → Prop} {k : Nat} {l : Int32} (hk : k < 12) (H : post (f0_atomCount, f0_clauseCount, f0_drafted, f0_opened, f0_variables, f0_stock, f0_stored, f0_hopeless, f0_trailSize, f0_nextWatch, f0_nextEdge, f0_depth, f0_bump, f0_conflictSize, f0_learnedSize, nI (k + 1), f0_counted, a1, a2, a3, a4, a5, a6, a7, a8, a9, a10, a11, a12, a13, a14, a15, a16, a17, a18, a19, a20, a21, a22, a23, a24, a25, a26, a27, a28, a29, a30, a31, a32, a33, a34, a35, a36, a37, upd a38 k l)) :
    wpX_assume post (f0_atomCount, f0_clauseCount, f0_drafted, f0_opened, f0_variables, f0_stock, f0_stored, f0_hopeless, f0_trailSize, f0_nextWatch, f0_nextEdge, f0_depth, f0_bump, f0_conflictSize, f0_learnedSize, nI k, f0_counted, a1, a2, a3, a4, a5, a6, a7, a8, a9, a10, a11, a12, a13, a14, a15, a16, a17, a18, a19, a20, a21, a22, a23, a24, a25, a26, a27, a28, a29, a30, a31, a32, a33, a34, a35, a36, a37, a38) l := by
  unfold wpX_assume
  dsimp only
  rw [nI_clamp (show k < 2 ^ 31 by omega)]
  exact ⟨vp_in_nI hk (by decide), nm_e (nm_r (nI_1 k) H)⟩
theorem zb_variable {post : Int32 → St2 → Prop} {v : Nat} {p q r : Int32} (hv : v < 21)
    (H : post (nI v) (f0_atomCount, f0_clauseCount, f0_drafted, f0_opened, nI (v + 1), f0_stock, f0_stored, f0_hopeless, f0_trailSize, f0_nextWatch, f0_nextEdge, f0_depth, f0_bump, f0_conflictSize, f0_learnedSize, f0_assumed, f0_counted, a1, a2, a3, a4, a5, a6, a7, a8, upd a9 v p, upd a10 v q, upd a11 v r, a12, a13, a14, a15, a16, a17, upd a18 v (-1), a19, a20, a21, a22, upd a23 v 0, upd a24 v 0, a25, a26, a27, a28, a29, a30, a31, a32, a33, a34, a35, a36, a37, a38)) :
    wpX_variable post (f0_atomCount, f0_clauseCount, f0_drafted, f0_opened, nI v, f0_stock, f0_stored, f0_hopeless, f0_trailSize, f0_nextWatch, f0_nextEdge, f0_depth, f0_bump, f0_conflictSize, f0_learnedSize, f0_assumed, f0_counted, a1, a2, a3, a4, a5, a6, a7, a8, a9, a10, a11, a12, a13, a14, a15, a16, a17, a18, a19, a20, a21, a22, a23, a24, a25, a26, a27, a28, a29, a30, a31, a32, a33, a34, a35, a36, a37, a38) p q r := by
  unfold wpX_variable
  dsimp only
  rw [nI_clamp (show v < 2 ^ 31 by omega)]
  have i := vp_in_nI (n := v) (N := 21) hv (by decide)
  exact ⟨i, nm_e ⟨i, nm_e ⟨i, nm_e ⟨i, nm_e ⟨i, nm_e ⟨i, nm_e (nm_r (nI_1 v) H)⟩⟩⟩⟩⟩⟩
theorem zb_explainAlone {post : St2 → Prop} {l : Nat} (hl : l < 42) (H : post (f0_atomCount, f0_clauseCount, f0_drafted, f0_opened, f0_variables, f0_stock, f0_stored, f0_hopeless, f0_trailSize, f0_nextWatch, f0_nextEdge, f0_depth, f0_bump, f0_conflictSize, f0_learnedSize, f0_assumed, f0_counted, a1, a2, a3, a4, a5, a6, a7, a8, a9, a10, a11, a12, a13, a14, a15, a16, a17, a18, a19, a20, a21, a22, a23, a24, upd a25 (l / 2) 1, upd a26 (24 * (l / 2)) (nI l), a27, a28, a29, a30, a31, a32, a33, a34, a35, a36, a37, a38)) :
    wpX_explainAlone post (f0_atomCount, f0_clauseCount, f0_drafted, f0_opened, f0_variables, f0_stock, f0_stored, f0_hopeless, f0_trailSize, f0_nextWatch, f0_nextEdge, f0_depth, f0_bump, f0_conflictSize, f0_learnedSize, f0_assumed, f0_counted, a1, a2, a3, a4, a5, a6, a7, a8, a9, a10, a11, a12, a13, a14, a15, a16, a17, a18, a19, a20, a21, a22, a23, a24, a25, a26, a27, a28, a29, a30, a31, a32, a33, a34, a35, a36, a37, a38) (nI l) := by
  unfold wpX_explainAlone
  dsimp only
  rw [zb_shr l (by omega), show (24 : Int32) * nI (l / 2) = nI (24 * (l / 2)) from pk_mul 24 (l / 2), nI_clamp (show l / 2 < 2 ^ 31 by omega), nI_clamp (show 24 * (l / 2) < 2 ^ 31 by omega)]
  exact ⟨vp_in_nI (by omega) (by decide), nm_e ⟨vp_in_nI (by omega) (by decide), nm_e H⟩⟩
/-- with all activities 0: the lowest unassigned variable -/
theorem zb_choice {post : Int32 → Prop} {n : Nat} {τ : List Nat} (hT : zb_tr n τ a18 a21) (hn : n ≤ 21) (ha : ∀ v, v < n → a24 v = 0)
    (hA : (∀ v, v < n → 2 * v ∈ τ ∨ 2 * v + 1 ∈ τ) → post (-1))
    (hU : ∀ v, v < n → 2 * v ∉ τ → 2 * v + 1 ∉ τ → (∀ k, k < v → 2 * k ∈ τ ∨ 2 * k + 1 ∈ τ) → post (nI v)) :
    wpX_choice post (f0_atomCount, f0_clauseCount, f0_drafted, f0_opened, nI n, f0_stock, f0_stored, f0_hopeless, f0_trailSize, f0_nextWatch, f0_nextEdge, f0_depth, f0_bump, f0_conflictSize, f0_learnedSize, f0_assumed, f0_counted, a1, a2, a3, a4, a5, a6, a7, a8, a9, a10, a11, a12, a13, a14, a15, a16, a17, a18, a19, a20, a21, a22, a23, a24, a25, a26, a27, a28, a29, a30, a31, a32, a33, a34, a35, a36, a37, a38) := by
  unfold wpX_choice
  dsimp only
  have tail : ∀ (b : Nat), b < n → (post (nI b)) → ∀ d i, d + i = n → wX_choice_4 post f0_atomCount f0_clauseCount f0_drafted f0_opened (nI n) f0_stock f0_stored f0_hopeless f0_trailSize f0_nextWatch f0_nextEdge f0_depth f0_bump f0_conflictSize f0_learnedSize f0_assumed f0_counted a1 a2 a3 a4 a5 a6 a7 a8 a9 a10 a11 a12 a13 a14 a15 a16 a17 a18 a19 a20 a21 a22 a23 a24 a25 a26 a27 a28 a29 a30 a31 a32 a33 a34 a35 a36 a37 a38 (d + 1) (nI b) (nI i) := by
    intro b hb hp d
    induction d with
    | zero => exact fun i e => pk_le n i (fun _ => hp) (fun z => absurd z (by omega))
    | succ d ih =>
      intro i e
      refine pk_le n i (fun z => absurd z (by omega)) (fun _ => ⟨pk_in i 21 (by omega), ?_⟩)
      rw [nI_clamp (show i < 2 ^ 31 by omega), nI_clamp (show b < 2 ^ 31 by omega), ha i (by omega), ha b hb]
      refine br_c (fun _ => br_f ?_ ⟨pk_in i 21 (by omega), pk_in b 21 (by omega), br_t (by decide) (nm_r (nI_1 i) (ih (i + 1) (by omega)))⟩) (fun _ => nm_r (nI_1 i) (ih (i + 1) (by omega)))
      intro z
      have : (nI b).toInt = (-1 : Int32).toInt := by rw [z]
      rw [nI_toInt (by omega)] at this
      have h2 : (-1 : Int32).toInt = -1 := by decide
      omega
  have head : ∀ d i, d + i = n → (∀ k, k < i → 2 * k ∈ τ ∨ 2 * k + 1 ∈ τ) → wX_choice_4 post f0_atomCount f0_clauseCount f0_drafted f0_opened (nI n) f0_stock f0_stored f0_hopeless f0_trailSize f0_nextWatch f0_nextEdge f0_depth f0_bump f0_conflictSize f0_learnedSize f0_assumed f0_counted a1 a2 a3 a4 a5 a6 a7 a8 a9 a10 a11 a12 a13 a14 a15 a16 a17 a18 a19 a20 a21 a22 a23 a24 a25 a26 a27 a28 a29 a30 a31 a32 a33 a34 a35 a36 a37 a38 (d + 1) (-1) (nI i) := by
    intro d
    induction d with
    | zero => exact fun i e h => pk_le n i (fun _ => hA (fun v hv => h v (by omega))) (fun z => absurd z (by omega))
    | succ d ih =>
      intro i e h
      refine pk_le n i (fun z => absurd z (by omega)) (fun _ => ⟨pk_in i 21 (by omega), ?_⟩)
      rw [nI_clamp (show i < 2 ^ 31 by omega), hT.2.2.2 i (by omega)]
      refine br_c (fun z => br_t rfl (nm_r (nI_1 i) ?_)) (fun z => nm_r (nI_1 i) (ih (i + 1) (by omega) ?_))
      · have z' := zb_va_un.mp z
        exact tail i (by omega) (hU i (by omega) z'.1 z'.2 h) d (i + 1) (by omega)
      · intro k hk
        rcases Nat.lt_or_ge k i with g | g
        · exact h k g
        · have e : k = i := by omega
          rw [e]
          by_cases c1 : 2 * i ∈ τ
          · exact Or.inl c1
          · by_cases c2 : 2 * i + 1 ∈ τ
            · exact Or.inr c2
            · exact absurd (zb_va_un.mpr ⟨c1, c2⟩) z
  exact ⟨n + 1, head n 0 (by omega) (fun k hk => absurd hk (by omega))⟩
end
end
section
section
/-- the edge of a literal: from, to, weight; the literal holds in M iff M to ≤ M from + weight -/
def ze_f (L R : Nat → Nat) (l : Nat) : Nat := if l % 2 = 0 then R (l / 2) else L (l / 2)
def ze_t (L R : Nat → Nat) (l : Nat) : Nat := if l % 2 = 0 then L (l / 2) else R (l / 2)
def ze_w (K : Nat → Int) (l : Nat) : Int := if l % 2 = 0 then K (l / 2) else -K (l / 2) - 1
def ze_sat (L R : Nat → Nat) (K : Nat → Int) (M : Nat → Int) (l : Nat) : Prop := M (ze_t L R l) ≤ M (ze_f L R l) + ze_w K l
/-- the variables of a search -/
def ze_vs (n : Nat) (L R : Nat → Nat) (K : Nat → Int) (a9 a10 a11 : Nat → Int32) : Prop :=
  ∀ v, v < n → L v < 7 ∧ R v < 7 ∧ L v ≠ R v ∧ a9 v = nI (L v) ∧ a10 v = nI (R v) ∧ (a11 v).toInt = K v ∧ -131 ≤ K v ∧ K v ≤ 131
/-- the edges made so far -/
def ze_eg (L R : Nat → Nat) (K : Nat → Int) (τ : List Nat) (ne : Nat) (a27 a28 a29 : Nat → Int32) : Prop :=
  ∀ i l, i < ne → τ[i]? = some l → a27 i = nI (ze_f L R l) ∧ a28 i = nI (ze_t L R l) ∧ (a29 i).toInt = ze_w K l
/-- the levels meet all edges made so far, and lie between M - s and 0 -/
def ze_lv (L R : Nat → Nat) (K : Nat → Int) (τ : List Nat) (ne : Nat) (M : Nat → Int) (s : Int) (a30 : Nat → Int32) : Prop :=
  (∀ i l, i < ne → τ[i]? = some l → (a30 (ze_t L R l)).toInt ≤ (a30 (ze_f L R l)).toInt + ze_w K l) ∧ (∀ x, x < 7 → M x - s ≤ (a30 x).toInt ∧ (a30 x).toInt ≤ 0)
theorem ze_ft {n : Nat} {L R : Nat → Nat} {K : Nat → Int} {a9 a10 a11 : Nat → Int32} (h : ze_vs n L R K a9 a10 a11) {l : Nat} (hl : l < 2 * n) :
    ze_f L R l < 7 ∧ ze_t L R l < 7 ∧ ze_f L R l ≠ ze_t L R l ∧ -132 ≤ ze_w K l ∧ ze_w K l ≤ 132 := by
  obtain ⟨h1, h2, h3, _, _, _, h6, h7⟩ := h (l / 2) (by omega)
  unfold ze_f ze_t ze_w
  split
  · exact ⟨h2, h1, fun z => h3 z.symm, by omega, by omega⟩
  · exact ⟨h1, h2, h3, by omega, by omega⟩
/-- sums over the seven terms -/
def ze_sm (D : Nat → Int) : Int := D 0 + D 1 + D 2 + D 3 + D 4 + D 5 + D 6
def ze_fea (c : Nat) (f t : Nat → Nat) (w : Nat → Int) (D : Nat → Int) : Prop := ∀ e, e < c → D (t e) ≤ D (f e) + w e
def ze_stb (c : Nat) (f t : Nat → Nat) (w : Nat → Int) (lv D : Nat → Int) : Prop :=
  ∀ N : Nat → Bool, (∃ x, x < 7 ∧ N x = true) → (∀ x, x < 7 → N x = true → D x < lv x) → ∃ e, e < c ∧ N (f e) = false ∧ N (t e) = true ∧ D (t e) = D (f e) + w e
theorem ze_7 {P : Nat → Prop} (h0 : P 0) (h1 : P 1) (h2 : P 2) (h3 : P 3) (h4 : P 4) (h5 : P 5) (h6 : P 6) : ∀ x, x < 7 → P x
  | 0, _ => h0
  | 1, _ => h1
  | 2, _ => h2
  | 3, _ => h3
  | 4, _ => h4
  | 5, _ => h5
  | 6, _ => h6
  | _ + 7, h => absurd h (by omega)
theorem ze_sm_up {D E : Nat → Int} (h : ∀ x, x < 7 → D x ≤ E x) : ∀ x, x < 7 → D x + 1 ≤ E x → ze_sm D + 1 ≤ ze_sm E := by
  have h0 := h 0 (by decide)
  have h1 := h 1 (by decide)
  have h2 := h 2 (by decide)
  have h3 := h 3 (by decide)
  have h4 := h 4 (by decide)
  have h5 := h 5 (by decide)
  have h6 := h 6 (by decide)
  unfold ze_sm
  exact ze_7 (by omega) (by omega) (by omega) (by omega) (by omega) (by omega) (by omega)
theorem ze_sm_le {D E : Nat → Int} (h : ∀ x, x < 7 → D x ≤ E x) : ze_sm D ≤ ze_sm E := by
  have h0 := h 0 (by decide)
  have h1 := h 1 (by decide)
  have h2 := h 2 (by decide)
  have h3 := h 3 (by decide)
  have h4 := h 4 (by decide)
  have h5 := h 5 (by decide)
  have h6 := h 6 (by decide)
  unfold ze_sm
  omega
theorem ze_max {c : Nat} {f t : Nat → Nat} {w : Nat → Int} {lv : Nat → Int} (hr : ∀ e, e < c → f e < 7 ∧ t e < 7) :
    ∀ (k : Nat) (D : Nat → Int), ze_fea c f t w D → (∀ x, x < 7 → D x ≤ lv x) → ze_sm lv - ze_sm D ≤ (k : Int) →
      ∃ E : Nat → Int, ze_fea c f t w E ∧ (∀ x, x < 7 → E x ≤ lv x) ∧ (∀ x, x < 7 → D x ≤ E x) ∧ ze_stb c f t w lv E := by
  intro k
  induction k with
  | zero =>
    intro D hf hl hk
    refine ⟨D, hf, hl, fun x _ => Int.le_refl _, ?_⟩
    intro N ⟨x, hx, hN⟩ hlt
    have h1 := ze_sm_up hl x hx (by have := hlt x hx hN; omega)
    exact absurd hk (by omega)
  | succ k ih =>
    intro D hf hl hk
    by_cases hs : ze_stb c f t w lv D
    · exact ⟨D, hf, hl, fun x _ => Int.le_refl _, hs⟩
    · have hs' : ∃ N : Nat → Bool, (∃ x, x < 7 ∧ N x = true) ∧ (∀ x, x < 7 → N x = true → D x < lv x) ∧ ∀ e, e < c → N (f e) = false → N (t e) = true → D (t e) ≠ D (f e) + w e := by
        apply Classical.byContradiction
        intro hn
        apply hs
        intro N h1 h2
        apply Classical.byContradiction
        intro h3
        apply hn
        refine ⟨N, h1, h2, fun e he h4 h5 h6 => h3 ⟨e, he, h4, h5, h6⟩⟩
      obtain ⟨N, ⟨x, hx, hNx⟩, h2, h3⟩ := hs'
      have hup : ∀ y, D y ≤ (fun y => if N y = true then D y + 1 else D y) y := by
        intro y
        dsimp only
        split <;> omega
      obtain ⟨E, e1, e2, e3, e4⟩ := ih (fun y => if N y = true then D y + 1 else D y)
        (by
          intro e he
          have hfe := hf e he
          dsimp only
          by_cases ht : N (t e) = true
          · rw [if_pos ht]
            by_cases hff : N (f e) = true
            · rw [if_pos hff]
              omega
            · rw [if_neg hff]
              have := h3 e he (by simpa using hff) ht
              omega
          · rw [if_neg ht]
            split <;> omega)
        (by
          intro y hy
          split
          · next hN => 
            have := h2 y hy hN
            omega
          · exact hl y hy)
        (by
          have := ze_sm_up (D := D) (E := fun y => if N y = true then D y + 1 else D y) (fun y _ => hup y) x hx (by rw [if_pos hNx]; exact Int.le_refl _)
          omega)
      exact ⟨E, e1, e2, fun y hy => Int.le_trans (hup y) (e3 y hy), e4⟩
/-- how many terms are not final yet -/
def ze_g (D T : Nat → Int) (x : Nat) : Nat := if T x = D x then 0 else 1
def ze_cn (D T : Nat → Int) : Nat := ze_g D T 0 + ze_g D T 1 + ze_g D T 2 + ze_g D T 3 + ze_g D T 4 + ze_g D T 5 + ze_g D T 6
theorem ze_g1 (D T : Nat → Int) (x : Nat) : ze_g D T x ≤ 1 := by
  unfold ze_g
  split <;> omega
theorem ze_cn7 (D T : Nat → Int) : ze_cn D T ≤ 7 := by
  have h0 := ze_g1 D T 0
  have h1 := ze_g1 D T 1
  have h2 := ze_g1 D T 2
  have h3 := ze_g1 D T 3
  have h4 := ze_g1 D T 4
  have h5 := ze_g1 D T 5
  have h6 := ze_g1 D T 6
  unfold ze_cn
  omega
theorem ze_g0 {D T : Nat → Int} {x : Nat} (h : ze_g D T x = 0) : T x = D x := by
  unfold ze_g at h
  split at h
  · assumption
  · exact absurd h (by omega)
theorem ze_cn0 {D T : Nat → Int} (h : ze_cn D T = 0) : ∀ x, x < 7 → T x = D x := by
  unfold ze_cn at h
  exact ze_7 (ze_g0 (by omega)) (ze_g0 (by omega)) (ze_g0 (by omega)) (ze_g0 (by omega)) (ze_g0 (by omega)) (ze_g0 (by omega)) (ze_g0 (by omega))
theorem ze_gm {D T T' : Nat → Int} {x : Nat} (h1 : D x ≤ T' x) (h2 : T' x ≤ T x) : ze_g D T' x ≤ ze_g D T x := by
  unfold ze_g
  split <;> split <;> omega
theorem ze_cn_eq {D T : Nat → Int} (h : ∀ x, x < 7 → T x = D x) : ze_cn D T = 0 := by
  have g : ∀ x, x < 7 → ze_g D T x = 0 := fun x hx => by
    unfold ze_g
    rw [if_pos (h x hx)]
  unfold ze_cn
  rw [g 0 (by decide), g 1 (by decide), g 2 (by decide), g 3 (by decide), g 4 (by decide), g 5 (by decide), g 6 (by decide)]
theorem ze_cn_lt {D T T' : Nat → Int} (h1 : ∀ x, x < 7 → D x ≤ T' x) (h2 : ∀ x, x < 7 → T' x ≤ T x) : ∀ x, x < 7 → T x ≠ D x → T' x = D x → ze_cn D T' < ze_cn D T := by
  have h : ∀ x, x < 7 → ze_g D T' x ≤ ze_g D T x := fun x hx => ze_gm (h1 x hx) (h2 x hx)
  have k : ∀ x, T x ≠ D x → T' x = D x → ze_g D T' x = 0 ∧ ze_g D T x = 1 := fun x a b => by
    unfold ze_g
    rw [if_pos b, if_neg a]
    exact ⟨rfl, rfl⟩
  have a0 := h 0 (by decide)
  have a1 := h 1 (by decide)
  have a2 := h 2 (by decide)
  have a3 := h 3 (by decide)
  have a4 := h 4 (by decide)
  have a5 := h 5 (by decide)
  have a6 := h 6 (by decide)
  unfold ze_cn
  refine ze_7 ?_ ?_ ?_ ?_ ?_ ?_ ?_
  · intro a b
    have := k 0 a b
    omega
  · intro a b
    have := k 1 a b
    omega
  · intro a b
    have := k 2 a b
    omega
  · intro a b
    have := k 3 a b
    omega
  · intro a b
    have := k 4 a b
    omega
  · intro a b
    have := k 5 a b
    omega
  · intro a b
    have := k 6 a b
    omega
/-- a pass over all edges makes one more term final -/
theorem ze_pass {c : Nat} {f t : Nat → Nat} {w : Nat → Int} {lv D T T' : Nat → Int} (hr : ∀ e, e < c → f e < 7 ∧ t e < 7) (hs : ze_stb c f t w lv D) (hT : ∀ x, x < 7 → T x ≤ lv x)
    (h1 : ∀ x, x < 7 → D x ≤ T' x) (h2 : ∀ x, x < 7 → T' x ≤ T x) (h3 : ∀ e, e < c → T' (t e) ≤ T (f e) + w e) (hx : ze_cn D T ≠ 0) : ze_cn D T' < ze_cn D T := by
  have hx' : ∃ x, x < 7 ∧ T x ≠ D x := by
    apply Classical.byContradiction
    intro hn
    exact hx (ze_cn_eq (fun x hx => Classical.byContradiction (fun z => hn ⟨x, hx, z⟩)))
  obtain ⟨x, hx7, hne⟩ := hx'
  obtain ⟨e, he, k1, k2, k3⟩ := hs (fun y => decide (T y ≠ D y)) ⟨x, hx7, by simpa using hne⟩ (fun y hy hN => by
    have a : T y ≠ D y := by simpa using hN
    have b := hT y hy
    have d1 := h1 y hy
    have d2 := h2 y hy
    omega)
  have k1' : T (f e) = D (f e) := by simpa using k1
  have k2' : T (t e) ≠ D (t e) := by simpa using k2
  have b1 := h3 e he
  have b2 := h1 (t e) (hr e he).2
  exact ze_cn_lt h1 h2 (t e) (hr e he).2 k2' (by omega)
end
section
variable {f0_atomCount f0_clauseCount f0_drafted f0_opened f0_variables f0_stock f0_stored f0_hopeless f0_trailSize f0_nextWatch f0_nextEdge f0_depth f0_bump f0_conflictSize f0_learnedSize f0_assumed f0_counted : Int32} {a1 a2 a3 a4 a5 a6 a7 a8 a9 a10 a11 a12 a13 a14 a15 a16 a17 a18 a19 a20 a21 a22 a23 a24 a25 a26 a27 a28 a29 a30 a31 a32 a33 a34 a35 a36 a37 a38 : Nat → Int32}
theorem ze_low {post : Int32 → St2 → Prop} {fr : Nat} {f t : Nat → Nat} {w : Nat → Int} {D : Nat → Int} (hfr : fr < 22)
    (he : ∀ e, e < fr + 1 → f e < 7 ∧ t e < 7 ∧ -132 ≤ w e ∧ w e ≤ 132 ∧ a27 e = nI (f e) ∧ a28 e = nI (t e) ∧ (a29 e).toInt = w e)
    (hf : ze_fea (fr + 1) f t w D) (hst : (a31 (f fr)).toInt = D (f fr)) (hD : ∀ x, x < 7 → D x ≤ (a31 x).toInt) (hR : ∀ x, x < 7 → -100000 ≤ D x ∧ (a31 x).toInt ≤ 100000)
    (H : ∀ r b31 b32, r ≤ fr + 1 → (∀ x, x < 7 → D x ≤ (b31 x : Int32).toInt ∧ (b31 x).toInt ≤ (a31 x).toInt) → (∀ e, e < fr + 1 → (b31 (t e)).toInt ≤ (a31 (f e)).toInt + w e) →
      (r = 0 → ∀ x, b31 x = a31 x) → ((∀ x, x < 7 → (a31 x).toInt = D x) → r = 0) → post (nI r) (f0_atomCount, f0_clauseCount, f0_drafted, f0_opened, f0_variables, f0_stock, f0_stored, f0_hopeless, f0_trailSize, f0_nextWatch, f0_nextEdge, f0_depth, f0_bump, f0_conflictSize, f0_learnedSize, f0_assumed, f0_counted, a1, a2, a3, a4, a5, a6, a7, a8, a9, a10, a11, a12, a13, a14, a15, a16, a17, a18, a19, a20, a21, a22, a23, a24, a25, a26, a27, a28, a29, a30, b31, b32, a33, a34, a35, a36, a37, a38)) :
    wpX_lowerOnce post (f0_atomCount, f0_clauseCount, f0_drafted, f0_opened, f0_variables, f0_stock, f0_stored, f0_hopeless, f0_trailSize, f0_nextWatch, f0_nextEdge, f0_depth, f0_bump, f0_conflictSize, f0_learnedSize, f0_assumed, f0_counted, a1, a2, a3, a4, a5, a6, a7, a8, a9, a10, a11, a12, a13, a14, a15, a16, a17, a18, a19, a20, a21, a22, a23, a24, a25, a26, a27, a28, a29, a30, a31, a32, a33, a34, a35, a36, a37, a38) (nI fr) := by
  have main : ∀ k e r b31 b32, k + e = fr + 1 → r ≤ e → (∀ x, x < 7 → D x ≤ (b31 x : Int32).toInt ∧ (b31 x).toInt ≤ (a31 x).toInt) → (∀ e', e' < e → (b31 (t e')).toInt ≤ (a31 (f e')).toInt + w e') →
      (r = 0 → ∀ x, b31 x = a31 x) → ((∀ x, x < 7 → (a31 x).toInt = D x) → r = 0) → wX_lowerOnce_4 post (nI fr) f0_atomCount f0_clauseCount f0_drafted f0_opened f0_variables f0_stock f0_stored f0_hopeless f0_trailSize f0_nextWatch f0_nextEdge f0_depth f0_bump f0_conflictSize f0_learnedSize f0_assumed f0_counted (k + 1) (nI r) (nI e) a1 a2 a3 a4 a5 a6 a7 a8 a9 a10 a11 a12 a13 a14 a15 a16 a17 a18 a19 a20 a21 a22 a23 a24 a25 a26 a27 a28 a29 a30 b31 b32 a33 a34 a35 a36 a37 a38 := by
    intro k
    induction k with
    | zero =>
      intro e r b31 b32 hk hre i1 i2 i3 i4
      exact pk_lt fr e (fun _ => H r b31 b32 (by omega) i1 (fun e' he' => i2 e' (by omega)) i3 i4) (fun z => absurd z (by omega))
    | succ k ih =>
      intro e r b31 b32 hk hre i1 i2 i3 i4
      obtain ⟨p1, p2, p3, p4, p5, p6, p7⟩ := he e (by omega)
      obtain ⟨q1, q2, q3, q4, q5, q6, q7⟩ := he fr (by omega)
      have d1 := i1 (f e) p1
      have d2 := i1 (t e) p2
      have r1 := hR (f e) p1
      have r2 := hR (t e) p2
      have ff := hf e (by omega)
      have hsum : (b31 (f e) + a29 e).toInt = (b31 (f e)).toInt + w e := zb_add rfl p7 (by omega) (by omega)
      refine pk_lt fr e (fun z => absurd z (by omega)) (fun _ => ?_)
      rw [nI_clamp (show e < 2 ^ 31 by omega), nI_clamp (show fr < 2 ^ 31 by omega), p5, p6, q5, nI_clamp (show f e < 2 ^ 31 by omega)]
      refine ⟨pk_in e 22 (by omega), nm_e ⟨pk_in e 22 (by omega), vp_in_nI p1 (by decide), pk_in e 22 (by omega), nm_e ⟨vp_in_nI p2 (by decide), ?_⟩⟩⟩
      rw [nI_clamp (show t e < 2 ^ 31 by omega)]
      refine br_c (fun g => ?_) (fun g => ?_)
      · have g' := (zb_le rfl hsum).mp g
        refine nm_r (nI_1 e) (ih (e + 1) r b31 b32 (by omega) (by omega) i1 (fun e' he' => ?_) i3 i4)
        rcases Nat.lt_or_ge e' e with z | z
        · exact i2 e' z
        · have ee : e' = e := by omega
          rw [ee]
          omega
      · have g' : ¬ ((b31 (t e)).toInt ≤ (b31 (f e)).toInt + w e) := fun z => g ((zb_le rfl hsum).mpr z)
        refine ⟨pk_in fr 22 (by omega), br_f ?_ ⟨vp_in_nI p2 (by decide), nm_e ⟨vp_in_nI p2 (by decide), nm_e (nm_r (nI_1 r) (nm_r (nI_1 e) (ih (e + 1) (r + 1) (upd b31 (t e) (b31 (f e) + a29 e)) (upd b32 (t e) (nI e)) (by omega) (by omega) ?_ ?_ ?_ ?_)))⟩⟩⟩
        · intro z
          have z' : t e = f fr := (nI_eq (by omega) (by omega)).mp z
          rw [z'] at d2 g' ff
          omega
        · intro x hx
          by_cases ex : x = t e
          · rw [ex, pk_us, hsum]
            omega
          · rw [pk_un ex]
            exact i1 x hx
        · intro e' he'
          have q := (he e' (by omega)).2.1
          by_cases ex : t e' = t e
          · rw [ex, pk_us, hsum]
            rcases Nat.lt_or_ge e' e with z | z
            · have := i2 e' z
              rw [ex] at this
              omega
            · have ee : e' = e := by omega
              rw [ee]
              omega
          · rw [pk_un ex]
            rcases Nat.lt_or_ge e' e with z | z
            · exact i2 e' z
            · exact absurd (by rw [show e' = e by omega]) ex
        · intro z
          exact absurd z (by omega)
        · intro z
          have a := i4 z
          have b := i3 a
          have c1 := z (t e) p2
          have c2 := z (f e) p1
          rw [b, b] at g'
          omega
  unfold wpX_lowerOnce
  dsimp only
  exact ⟨fr + 2, main (fr + 1) 0 0 a31 a32 (by omega) (by omega) (fun x hx => ⟨hD x hx, Int.le_refl _⟩) (fun e' he' => absurd he' (by omega)) (fun _ _ => rfl) (fun _ => rfl)⟩
theorem ze_make {post : St2 → Prop} {n p l : Nat} {L R : Nat → Nat} {K : Nat → Int} (hv : ze_vs n L R K a9 a10 a11) (hn : n ≤ 21) (hp : p < 22) (hl : l < 2 * n) (ht : a21 p = nI l)
    (H : ∀ b29 : Nat → Int32, (b29 p).toInt = ze_w K l → (∀ j, j ≠ p → b29 j = a29 j) → post (f0_atomCount, f0_clauseCount, f0_drafted, f0_opened, f0_variables, f0_stock, f0_stored, f0_hopeless, f0_trailSize, f0_nextWatch, f0_nextEdge, f0_depth, f0_bump, f0_conflictSize, f0_learnedSize, f0_assumed, f0_counted, a1, a2, a3, a4, a5, a6, a7, a8, a9, a10, a11, a12, a13, a14, a15, a16, a17, a18, a19, a20, a21, a22, a23, a24, a25, a26, upd a27 p (nI (ze_f L R l)), upd a28 p (nI (ze_t L R l)), b29, a30, a31, a32, a33, a34, a35, a36, a37, a38)) :
    wpX_makeEdge post (f0_atomCount, f0_clauseCount, f0_drafted, f0_opened, f0_variables, f0_stock, f0_stored, f0_hopeless, f0_trailSize, f0_nextWatch, f0_nextEdge, f0_depth, f0_bump, f0_conflictSize, f0_learnedSize, f0_assumed, f0_counted, a1, a2, a3, a4, a5, a6, a7, a8, a9, a10, a11, a12, a13, a14, a15, a16, a17, a18, a19, a20, a21, a22, a23, a24, a25, a26, a27, a28, a29, a30, a31, a32, a33, a34, a35, a36, a37, a38) (nI p) := by
  obtain ⟨v1, v2, v3, v4, v5, v6, v7, v8⟩ := hv (l / 2) (by omega)
  have i21 := vp_in_nI (n := l / 2) (N := 21) (by omega) (by decide)
  have i22 := vp_in_nI (n := p) (N := 22) (by omega) (by decide)
  have c1 := nI_clamp (show p < 2 ^ 31 by omega)
  have c2 := nI_clamp (show l / 2 < 2 ^ 31 by omega)
  unfold wpX_makeEdge
  dsimp only
  rw [c1, ht]
  refine ⟨i22, nm_e (nm_r (zb_shr l (by omega)) ?_)⟩
  rw [zb_and1 l (by omega)]
  rcases Nat.mod_two_eq_zero_or_one l with g | g
  · have e1 : ze_f L R l = R (l / 2) := by unfold ze_f; rw [if_pos g]
    have e2 : ze_t L R l = L (l / 2) := by unfold ze_t; rw [if_pos g]
    have e3 : ze_w K l = K (l / 2) := by unfold ze_w; rw [if_pos g]
    rw [e1, e2, e3] at H
    refine br_f (by rw [g]; decide) ?_
    unfold wX_makeEdge_23 wX_makeEdge_50 wX_makeEdge_76
    rw [c1, c2, v4, v5]
    exact br_t rfl ⟨i21, i22, nm_e (br_t rfl ⟨i21, i22, nm_e (br_t rfl ⟨i21, i22, nm_e (H _ (by rw [pk_us]; exact v6) (fun j hj => pk_un hj))⟩)⟩)⟩
  · have e1 : ze_f L R l = L (l / 2) := by unfold ze_f; rw [if_neg (by omega)]
    have e2 : ze_t L R l = R (l / 2) := by unfold ze_t; rw [if_neg (by omega)]
    have e3 : ze_w K l = -K (l / 2) - 1 := by unfold ze_w; rw [if_neg (by omega)]
    rw [e1, e2, e3] at H
    refine br_t (by rw [g]; decide) ?_
    unfold wX_makeEdge_23 wX_makeEdge_50 wX_makeEdge_76
    rw [c1, c2, v4, v5]
    have hw : (-(a11 (l / 2)) - 1).toInt = -K (l / 2) - 1 := zb_sub (zb_neg v6 (by omega) (by omega)) (show (1 : Int32).toInt = 1 by decide) (by omega) (by omega)
    exact br_f (by decide) ⟨i21, i22, nm_e (br_f (by decide) ⟨i21, i22, nm_e (br_f (by decide) ⟨i21, i22, nm_e (H _ (by rw [pk_us]; exact hw) (fun j hj => pk_un hj))⟩)⟩)⟩
end
end
section
section
theorem zb_nm1 {r : Nat} (h : r < 2 ^ 31) : ¬ nI r = -1 := by
  intro z
  have h1 : (nI r).toInt = (-1 : Int32).toInt := by rw [z]
  rw [nI_toInt h] at h1
  have h2 : (-1 : Int32).toInt = -1 := by decide
  omega
theorem zb_getD {τ : List Nat} {e : Nat} (h : e < τ.length) : τ[e]? = some (τ.getD e 0) := by
  rw [List.getD_eq_getElem?_getD, List.getElem?_eq_getElem h]
  rfl
variable {f0_atomCount f0_clauseCount f0_drafted f0_opened f0_variables f0_stock f0_stored f0_hopeless f0_trailSize f0_nextWatch f0_nextEdge f0_depth f0_bump f0_conflictSize f0_learnedSize f0_assumed f0_counted : Int32} {a1 a2 a3 a4 a5 a6 a7 a8 a9 a10 a11 a12 a13 a14 a15 a16 a17 a18 a19 a20 a21 a22 a23 a24 a25 a26 a27 a28 a29 a30 a31 a32 a33 a34 a35 a36 a37 a38 : Nat → Int32}
theorem ze_copyB {post : Int32 → St2 → Prop} {ne : Nat} (H : ∀ b30 : Nat → Int32, (∀ x, x < 7 → b30 x = a31 x) → post 1 (f0_atomCount, f0_clauseCount, f0_drafted, f0_opened, f0_variables, f0_stock, f0_stored, f0_hopeless, f0_trailSize, f0_nextWatch, nI (ne + 1), f0_depth, f0_bump, f0_conflictSize, f0_learnedSize, f0_assumed, f0_counted, a1, a2, a3, a4, a5, a6, a7, a8, a9, a10, a11, a12, a13, a14, a15, a16, a17, a18, a19, a20, a21, a22, a23, a24, a25, a26, a27, a28, a29, b30, a31, a32, a33, a34, a35, a36, a37, a38)) :
    ∀ k i b30, k + i = 7 → (∀ x, x < i → b30 x = a31 x) → wX_addEdge_71 post f0_atomCount f0_clauseCount f0_drafted f0_opened f0_variables f0_stock f0_stored f0_hopeless f0_trailSize f0_nextWatch (nI ne) f0_depth f0_bump f0_conflictSize f0_learnedSize f0_assumed f0_counted (k + 1) (nI i) a1 a2 a3 a4 a5 a6 a7 a8 a9 a10 a11 a12 a13 a14 a15 a16 a17 a18 a19 a20 a21 a22 a23 a24 a25 a26 a27 a28 a29 b30 a31 a32 a33 a34 a35 a36 a37 a38 := by
  intro k
  induction k with
  | zero =>
    intro i b30 e h
    exact pk_le 7 i (fun _ => nm_r (nI_1 ne) (H b30 (fun x hx => h x (by omega)))) (fun z => absurd z (by omega))
  | succ k ih =>
    intro i b30 e h
    refine pk_le 7 i (fun z => absurd z (by omega)) (fun _ => ⟨pk_in i 7 (by omega), pk_in i 7 (by omega), ?_⟩)
    rw [nI_clamp (show i < 2 ^ 31 by omega)]
    refine nm_e (nm_r (nI_1 i) (ih (i + 1) _ (by omega) (fun x hx => ?_)))
    by_cases ex : x = i
    · rw [ex, pk_us]
    · rw [pk_un ex]
      exact h x (by omega)
theorem ze_copyT {post : Int32 → St2 → Prop} {x1 : Int32} (H : ∀ b31 : Nat → Int32, (∀ x, x < 7 → b31 x = a30 x) → ∃ fu, wX_addEdge_40 post x1 fu 1 0 f0_atomCount f0_clauseCount f0_drafted f0_opened f0_variables f0_stock f0_stored f0_hopeless f0_trailSize f0_nextWatch f0_nextEdge f0_depth f0_bump f0_conflictSize f0_learnedSize f0_assumed f0_counted a1 a2 a3 a4 a5 a6 a7 a8 a9 a10 a11 a12 a13 a14 a15 a16 a17 a18 a19 a20 a21 a22 a23 a24 a25 a26 a27 a28 a29 a30 b31 a32 a33 a34 a35 a36 a37 a38) :
    ∀ k i b31, k + i = 7 → (∀ x, x < i → b31 x = a30 x) → wX_addEdge_12 post x1 f0_atomCount f0_clauseCount f0_drafted f0_opened f0_variables f0_stock f0_stored f0_hopeless f0_trailSize f0_nextWatch f0_nextEdge f0_depth f0_bump f0_conflictSize f0_learnedSize f0_assumed f0_counted (k + 1) (nI i) a1 a2 a3 a4 a5 a6 a7 a8 a9 a10 a11 a12 a13 a14 a15 a16 a17 a18 a19 a20 a21 a22 a23 a24 a25 a26 a27 a28 a29 a30 b31 a32 a33 a34 a35 a36 a37 a38 := by
  intro k
  induction k with
  | zero =>
    intro i b31 e h
    exact pk_le 7 i (fun _ => H b31 (fun x hx => h x (by omega))) (fun z => absurd z (by omega))
  | succ k ih =>
    intro i b31 e h
    refine pk_le 7 i (fun z => absurd z (by omega)) (fun _ => ⟨pk_in i 7 (by omega), pk_in i 7 (by omega), ?_⟩)
    rw [nI_clamp (show i < 2 ^ 31 by omega)]
    refine nm_e (nm_r (nI_1 i) (ih (i + 1) _ (by omega) (fun x hx => ?_)))
    by_cases ex : x = i
    · rw [ex, pk_us]
    · rw [pk_un ex]
      exact h x (by omega)
theorem ze_40 {post : Int32 → St2 → Prop} {ne : Nat} {f t : Nat → Nat} {w : Nat → Int} {D lv : Nat → Int} (hne : ne < 22)
    (he : ∀ e, e < ne + 1 → f e < 7 ∧ t e < 7 ∧ -132 ≤ w e ∧ w e ≤ 132 ∧ a27 e = nI (f e) ∧ a28 e = nI (t e) ∧ (a29 e).toInt = w e)
    (hf : ze_fea (ne + 1) f t w D) (hs : ze_stb (ne + 1) f t w lv D) (hst : lv (f ne) = D (f ne)) (hR : ∀ x, x < 7 → -100000 ≤ D x ∧ lv x ≤ 100000)
    (H : ∀ b30 b31 b32, (∀ x, x < 7 → (b30 x : Int32).toInt = D x) → post 1 (f0_atomCount, f0_clauseCount, f0_drafted, f0_opened, f0_variables, f0_stock, f0_stored, f0_hopeless, f0_trailSize, f0_nextWatch, nI (ne + 1), f0_depth, f0_bump, f0_conflictSize, f0_learnedSize, f0_assumed, f0_counted, a1, a2, a3, a4, a5, a6, a7, a8, a9, a10, a11, a12, a13, a14, a15, a16, a17, a18, a19, a20, a21, a22, a23, a24, a25, a26, a27, a28, a29, b30, b31, b32, a33, a34, a35, a36, a37, a38)) :
    ∀ k i r b31 b32, k + i = 8 → r < 100 → (∀ x, x < 7 → D x ≤ (b31 x : Int32).toInt ∧ (b31 x).toInt ≤ lv x) → ze_cn D (fun x => (b31 x).toInt) ≤ 7 - i → (r = 0 → ze_cn D (fun x => (b31 x).toInt) = 0) →
      wX_addEdge_40 post (nI ne) (k + 1) (nI r) (nI i) f0_atomCount f0_clauseCount f0_drafted f0_opened f0_variables f0_stock f0_stored f0_hopeless f0_trailSize f0_nextWatch (nI ne) f0_depth f0_bump f0_conflictSize f0_learnedSize f0_assumed f0_counted a1 a2 a3 a4 a5 a6 a7 a8 a9 a10 a11 a12 a13 a14 a15 a16 a17 a18 a19 a20 a21 a22 a23 a24 a25 a26 a27 a28 a29 a30 b31 b32 a33 a34 a35 a36 a37 a38 := by
  have fin : ∀ r b31 b32, r < 100 → ze_cn D (fun x => ((b31 x : Int32)).toInt) = 0 → wX_addEdge_62 post (nI r) f0_atomCount f0_clauseCount f0_drafted f0_opened f0_variables f0_stock f0_stored f0_hopeless f0_trailSize f0_nextWatch (nI ne) f0_depth f0_bump f0_conflictSize f0_learnedSize f0_assumed f0_counted a1 a2 a3 a4 a5 a6 a7 a8 a9 a10 a11 a12 a13 a14 a15 a16 a17 a18 a19 a20 a21 a22 a23 a24 a25 a26 a27 a28 a29 a30 b31 b32 a33 a34 a35 a36 a37 a38 := by
    intro r b31 b32 hr hc
    have e := ze_cn0 hc
    refine br_f (zb_nm1 (by omega)) ⟨8, ze_copyB (fun b30 hb => H b30 b31 b32 (fun x hx => by rw [hb x hx]; exact e x hx)) 7 0 a30 rfl (fun x hx => absurd hx (by omega))⟩
  intro k
  induction k with
  | zero =>
    intro i r b31 b32 hk hr h1 h2 h3
    exact pk_lt 7 i (fun _ => fin r b31 b32 hr (by omega)) (fun z => absurd z (by omega))
  | succ k ih =>
    intro i r b31 b32 hk hr h1 h2 h3
    refine pk_lt 7 i (fun z => absurd z (by omega)) (fun _ => ?_)
    refine pk_le r 0 (fun z => fin r b31 b32 hr (h3 (by omega))) (fun z => ?_)
    have hfr := (he ne (by omega)).1
    have d1 := h1 (f ne) hfr
    refine ze_low (D := D) hne he hf (by omega) (fun x hx => (h1 x hx).1) (fun x hx => ⟨(hR x hx).1, Int.le_trans (h1 x hx).2 (hR x hx).2⟩) (fun r' c31 c32 j1 j2 j3 j4 j5 => ?_)
    refine nm_r (nI_1 i) (ih (i + 1) r' c31 c32 (by omega) (by omega) (fun x hx => ⟨(j2 x hx).1, Int.le_trans (j2 x hx).2 (h1 x hx).2⟩) ?_ ?_)
    · by_cases hc : ze_cn D (fun x => (b31 x).toInt) = 0
      · have e1 := ze_cn0 hc
        have e2 := j4 (j5 (fun x hx => e1 x hx))
        have e3 : c31 = b31 := funext e2
        rw [e3, hc]
        omega
      · have := ze_pass (T := fun x => (b31 x).toInt) (T' := fun x => (c31 x).toInt) (fun e' he' => ⟨(he e' he').1, (he e' he').2.1⟩) hs (fun x hx => (h1 x hx).2) (fun x hx => (j2 x hx).1) (fun x hx => (j2 x hx).2) j3 hc
        omega
    · intro hr0
      have e3 : c31 = b31 := funext (j4 hr0)
      by_cases hc : ze_cn D (fun x => (b31 x).toInt) = 0
      · rw [e3]
        exact hc
      · have := ze_pass (T := fun x => (b31 x).toInt) (T' := fun x => (c31 x).toInt) (fun e' he' => ⟨(he e' he').1, (he e' he').2.1⟩) hs (fun x hx => (h1 x hx).2) (fun x hx => (j2 x hx).1) (fun x hx => (j2 x hx).2) j3 hc
        rw [e3] at this
        exact absurd this (Nat.lt_irrefl _)
theorem ze_add {post : Int32 → St2 → Prop} {n ne : Nat} {τ : List Nat} {L R : Nat → Nat} {K M : Nat → Int} {s : Int} (hv : ze_vs n L R K a9 a10 a11) (hn : n ≤ 21) (hT : zb_tr n τ a18 a21)
    (hg : ze_eg L R K τ ne a27 a28 a29) (hne : ne < τ.length) (hl : ze_lv L R K τ ne M s a30) (hM : ∀ l, l ∈ τ → ze_sat L R K M l) (hB : ∀ x, x < 7 → -200 ≤ M x ∧ M x ≤ 200) (hs : s ≤ 20000)
    (H : ∀ b27 b28 b29 b30 b31 b32, ze_eg L R K τ (ne + 1) b27 b28 b29 → ze_lv L R K τ (ne + 1) M s b30 → post 1 (f0_atomCount, f0_clauseCount, f0_drafted, f0_opened, f0_variables, f0_stock, f0_stored, f0_hopeless, f0_trailSize, f0_nextWatch, nI (ne + 1), f0_depth, f0_bump, f0_conflictSize, f0_learnedSize, f0_assumed, f0_counted, a1, a2, a3, a4, a5, a6, a7, a8, a9, a10, a11, a12, a13, a14, a15, a16, a17, a18, a19, a20, a21, a22, a23, a24, a25, a26, b27, b28, b29, b30, b31, b32, a33, a34, a35, a36, a37, a38)) :
    wpX_addEdge post (f0_atomCount, f0_clauseCount, f0_drafted, f0_opened, f0_variables, f0_stock, f0_stored, f0_hopeless, f0_trailSize, f0_nextWatch, nI ne, f0_depth, f0_bump, f0_conflictSize, f0_learnedSize, f0_assumed, f0_counted, a1, a2, a3, a4, a5, a6, a7, a8, a9, a10, a11, a12, a13, a14, a15, a16, a17, a18, a19, a20, a21, a22, a23, a24, a25, a26, a27, a28, a29, a30, a31, a32, a33, a34, a35, a36, a37, a38) := by
  have hlen := zb_tr_len hT
  have ht : ∀ e, e < ne + 1 → τ[e]? = some (τ.getD e 0) := fun e he => zb_getD (by omega)
  have hm : ∀ e, e < ne + 1 → τ.getD e 0 ∈ τ := fun e he => zb_mem_of (ht e he)
  have hft : ∀ e, e < ne + 1 → _ := fun e he => ze_ft hv (hT.1 _ (hm e he))
  unfold wpX_addEdge
  try dsimp only
  refine ze_make hv hn (by omega) (hT.1 _ (hm ne (by omega))) (hT.2.2.1 ne _ (ht ne (by omega))) (fun b29 hb1 hb2 => ?_)
  have hg' : ze_eg L R K τ (ne + 1) (upd a27 ne (nI (ze_f L R (τ.getD ne 0)))) (upd a28 ne (nI (ze_t L R (τ.getD ne 0)))) b29 := by
    intro i l hi hil
    by_cases e : i = ne
    · rw [e, ht ne (by omega)] at hil
      have e2 : τ.getD ne 0 = l := Option.some.inj hil
      rw [e, pk_us, pk_us, hb1, e2]
      exact ⟨rfl, rfl, rfl⟩
    · rw [pk_un e, pk_un e, hb2 i e]
      exact hg i l (by omega) hil
  have he : ∀ e, e < ne + 1 → ze_f L R (τ.getD e 0) < 7 ∧ ze_t L R (τ.getD e 0) < 7 ∧ -132 ≤ ze_w K (τ.getD e 0) ∧ ze_w K (τ.getD e 0) ≤ 132 ∧ upd a27 ne (nI (ze_f L R (τ.getD ne 0))) e = nI (ze_f L R (τ.getD e 0)) ∧ upd a28 ne (nI (ze_t L R (τ.getD ne 0))) e = nI (ze_t L R (τ.getD e 0)) ∧ (b29 e).toInt = ze_w K (τ.getD e 0) := by
    intro e he
    obtain ⟨q1, q2, q3, q4, q5⟩ := hft e he
    exact ⟨q1, q2, q4, q5, hg' e _ he (ht e he)⟩
  have hst7 := (he ne (by omega)).1
  have hmn : ∀ x, x < 7 → ((fun x => min (a30 x).toInt ((a30 (ze_f L R (τ.getD ne 0))).toInt + M x - M (ze_f L R (τ.getD ne 0)))) x ≤ (a30 x).toInt) := fun x _ => Int.min_le_left _ _
  obtain ⟨D, d1, d2, d3, d4⟩ := ze_max (c := ne + 1) (f := fun e => ze_f L R (τ.getD e 0)) (t := fun e => ze_t L R (τ.getD e 0)) (w := fun e => ze_w K (τ.getD e 0)) (lv := fun x => (a30 x).toInt)
    (fun e h => ⟨(he e h).1, (he e h).2.1⟩)
    (ze_sm (fun x => (a30 x).toInt) - ze_sm (fun x => min (a30 x).toInt ((a30 (ze_f L R (τ.getD ne 0))).toInt + M x - M (ze_f L R (τ.getD ne 0))))).toNat
    (fun x => min (a30 x).toInt ((a30 (ze_f L R (τ.getD ne 0))).toInt + M x - M (ze_f L R (τ.getD ne 0))))
    (by
      intro e h
      have hsat := hM _ (hm e h)
      unfold ze_sat at hsat
      try dsimp only
      by_cases ee : e = ne
      · rw [ee] at hsat ⊢
        omega
      · have hfe := hl.1 e _ (by omega) (ht e h)
        omega)
    hmn
    (by
      have := ze_sm_le hmn
      try dsimp only at this ⊢
      omega)
  have hlo : ∀ x, x < 7 → M x - s ≤ D x := by
    intro x hx
    have a1 := d3 x hx
    have a2 := hl.2 x hx
    have a3 := hl.2 _ hst7
    try dsimp only at a1
    omega
  have hstop : (fun x => (a30 x).toInt) (ze_f L R (τ.getD ne 0)) = D (ze_f L R (τ.getD ne 0)) := by
    have a1 := d3 _ hst7
    have a2 := d2 _ hst7
    try dsimp only at a1 a2 ⊢
    omega
  refine ⟨8, ze_copyT (fun b31 hb31 => ⟨9, ?_⟩) 7 0 a31 rfl (fun x hx => absurd hx (by omega))⟩
  refine ze_40 (D := D) (lv := fun x => (a30 x).toInt) (by omega) he d1 d4 hstop (fun x hx => ?_) (fun b30 c31 c32 hb30 => H _ _ _ b30 c31 c32 hg' ⟨fun i l hi hil => ?_, fun x hx => ?_⟩) 8 0 1 b31 a32 rfl (by decide) (fun x hx => ?_) ?_ (fun z => absurd z (by decide))
  · have a1 := hlo x hx
    have a2 := hl.2 x hx
    have a3 := hB x hx
    try dsimp only
    omega
  · have a1 := d1 i hi
    have e2 : τ.getD i 0 = l := Option.some.inj ((ht i hi).symm.trans hil)
    have q := hft i hi
    try dsimp only at a1
    rw [e2] at a1 q
    rw [hb30 _ q.2.1, hb30 _ q.1]
    exact a1
  · rw [hb30 x hx]
    exact ⟨hlo x hx, Int.le_trans (d2 x hx) (hl.2 x hx).2⟩
  · rw [hb31 x hx]
    exact ⟨d2 x hx, Int.le_refl _⟩
  · exact ze_cn7 _ _
theorem ze_prop {post : Int32 → St2 → Prop} {n ne : Nat} {τ : List Nat} {L R : Nat → Nat} {K M : Nat → Int} {s : Int} (hv : ze_vs n L R K a9 a10 a11) (hn : n ≤ 21) (hT : zb_tr n τ a18 a21)
    (hg : ze_eg L R K τ ne a27 a28 a29) (hne : ne ≤ τ.length) (hl : ze_lv L R K τ ne M s a30) (hM : ∀ l, l ∈ τ → ze_sat L R K M l) (hB : ∀ x, x < 7 → -200 ≤ M x ∧ M x ≤ 200) (hs : s ≤ 20000)
    (H : ∀ b27 b28 b29 b30 b31 b32, ze_eg L R K τ τ.length b27 b28 b29 → ze_lv L R K τ τ.length M s b30 → post 1 (f0_atomCount, f0_clauseCount, f0_drafted, f0_opened, f0_variables, f0_stock, f0_stored, f0_hopeless, nI τ.length, f0_nextWatch, nI τ.length, f0_depth, f0_bump, f0_conflictSize, f0_learnedSize, f0_assumed, f0_counted, a1, a2, a3, a4, a5, a6, a7, a8, a9, a10, a11, a12, a13, a14, a15, a16, a17, a18, a19, a20, a21, a22, a23, a24, a25, a26, b27, b28, b29, b30, b31, b32, a33, a34, a35, a36, a37, a38)) :
    wpX_propagateEdges post (f0_atomCount, f0_clauseCount, f0_drafted, f0_opened, f0_variables, f0_stock, f0_stored, f0_hopeless, nI τ.length, f0_nextWatch, nI ne, f0_depth, f0_bump, f0_conflictSize, f0_learnedSize, f0_assumed, f0_counted, a1, a2, a3, a4, a5, a6, a7, a8, a9, a10, a11, a12, a13, a14, a15, a16, a17, a18, a19, a20, a21, a22, a23, a24, a25, a26, a27, a28, a29, a30, a31, a32, a33, a34, a35, a36, a37, a38) := by
  have hlen := zb_tr_len hT
  have main : ∀ k ne i b27 b28 b29 b30 b31 b32, k + ne = τ.length → i ≤ ne → ze_eg L R K τ ne b27 b28 b29 → ze_lv L R K τ ne M s b30 →
      wX_propagateEdges_4 post (k + 1) 1 (nI i) f0_atomCount f0_clauseCount f0_drafted f0_opened f0_variables f0_stock f0_stored f0_hopeless (nI τ.length) f0_nextWatch (nI ne) f0_depth f0_bump f0_conflictSize f0_learnedSize f0_assumed f0_counted a1 a2 a3 a4 a5 a6 a7 a8 a9 a10 a11 a12 a13 a14 a15 a16 a17 a18 a19 a20 a21 a22 a23 a24 a25 a26 b27 b28 b29 b30 b31 b32 a33 a34 a35 a36 a37 a38 := by
    intro k
    induction k with
    | zero =>
      intro ne i b27 b28 b29 b30 b31 b32 hk hi h1 h2
      have e : ne = τ.length := by omega
      rw [e] at h1 h2 ⊢
      exact pk_lt 21 i (fun z => absurd z (by omega)) (fun _ => br_f (by decide) (pk_le τ.length τ.length (fun _ => ⟨zb_nar1, H _ _ _ _ _ _ h1 h2⟩) (fun z => absurd z (by omega))))
    | succ k ih =>
      intro ne i b27 b28 b29 b30 b31 b32 hk hi h1 h2
      refine pk_lt 21 i (fun z => absurd z (by omega)) (fun _ => br_f (by decide) (pk_le τ.length ne (fun z => absurd z (by omega)) (fun _ => ?_)))
      exact ze_add hv hn hT h1 (by omega) h2 hM hB hs (fun c27 c28 c29 c30 c31 c32 g1 g2 => nm_r (nI_1 i) (ih (ne + 1) (i + 1) _ _ _ _ _ _ (by omega) (by omega) g1 g2))
  unfold wpX_propagateEdges
  try dsimp only
  exact ⟨τ.length - ne + 1, main (τ.length - ne) ne 0 _ _ _ _ _ _ (by omega) (by omega) hg hl⟩
end
end
section
section
def zf_r (m : Nat) : Int := 132 * 2 ^ m
theorem zf_r_s (m : Nat) : zf_r (m + 1) = 2 * zf_r m := by
  unfold zf_r
  rw [Int.pow_succ]
  omega
theorem zf_r_7 : ∀ m, m < 7 → zf_r m ≤ 8448 := by decide
/-- the table of bounds after m phases: b0 is what stood there after the edges -/
def zf_ok (ne : Nat) (f t : Nat → Nat) (w : Nat → Int) (M : Nat → Int) (b0 : Nat → Int) (m : Nat) (b33 b34 : Nat → Int32) : Prop :=
  (∀ i, i < 7 → (b33 (7 * i + i)).toInt = 0) ∧
  (∀ i j, i < 7 → j < 7 → M j - M i ≤ (b33 (7 * i + j)).toInt ∧ (b33 (7 * i + j)).toInt ≤ 1000000 ∧ (b33 (7 * i + j)).toInt ≤ b0 (7 * i + j)) ∧
  (∀ i j x, i < 7 → j < 7 → x < m → i ≠ j → (b33 (7 * i + j)).toInt ≤ b0 (7 * i + x) + b0 (7 * x + j)) ∧
  (∀ i j, i < 7 → j < 7 → (b33 (7 * i + j)).toInt ≤ zf_r m ∨ 1000000 - 400 * (m : Int) ≤ (b33 (7 * i + j)).toInt) ∧
  (∀ i j, i < 7 → j < 7 → i ≠ j → (b33 (7 * i + j)).toInt < 500000 → ∃ e, e < ne ∧ b34 (7 * i + j) = nI e ∧ f e = i ∧ t e < 7 ∧ (b33 (7 * t e + j)).toInt ≤ (b33 (7 * i + j)).toInt - w e)
/-- what a phase does to a place -/
def zf_st (m : Nat) (o33 o34 c33 c34 : Nat → Int32) (i j : Nat) : Prop :=
  (c33 (7 * i + j) = o33 (7 * i + j) ∧ c34 (7 * i + j) = o34 (7 * i + j) ∧ (i = j ∨ (o33 (7 * i + j)).toInt ≤ (o33 (7 * i + m)).toInt + (o33 (7 * m + j)).toInt)) ∨
  (i ≠ j ∧ (c33 (7 * i + j)).toInt = (o33 (7 * i + m)).toInt + (o33 (7 * m + j)).toInt ∧ (c33 (7 * i + j)).toInt < (o33 (7 * i + j)).toInt ∧ c34 (7 * i + j) = o34 (7 * i + m))
theorem zf_st_le {m i j : Nat} {o33 o34 c33 c34 : Nat → Int32} (h : zf_st m o33 o34 c33 c34 i j) : (c33 (7 * i + j)).toInt ≤ (o33 (7 * i + j)).toInt := by
  rcases h with ⟨h, _⟩ | ⟨_, _, h, _⟩
  · rw [h]
    exact Int.le_refl _
  · omega
theorem zf_next {ne m : Nat} {f t : Nat → Nat} {w M b0 : Nat → Int} {o33 o34 c33 c34 : Nat → Int32} (hm : m < 7) (hB : ∀ x, x < 7 → -200 ≤ M x ∧ M x ≤ 200) (h : zf_ok ne f t w M b0 m o33 o34)
    (hs : ∀ i j, i < 7 → j < 7 → zf_st m o33 o34 c33 c34 i j) : zf_ok ne f t w M b0 (m + 1) c33 c34 := by
  obtain ⟨h1, h2, h3, h4, h5⟩ := h
  have hrs := zf_r_s m
  have hr7 := zf_r_7 m hm
  have hr0 : 0 ≤ zf_r m := by
    unfold zf_r
    have : (0 : Int) ≤ 2 ^ m := Int.pow_nonneg (by decide)
    omega
  have hdg : ∀ i, i < 7 → (c33 (7 * i + i)).toInt = 0 := by
    intro i hi
    rcases hs i i hi hi with ⟨e, _⟩ | ⟨e, _⟩
    · rw [e]
      exact h1 i hi
    · exact absurd rfl e
  refine ⟨hdg, ?_, ?_, ?_, ?_⟩
  · intro i j hi hj
    have a := h2 i j hi hj
    rcases hs i j hi hj with ⟨e, _⟩ | ⟨_, e1, e2, _⟩
    · rw [e]
      exact a
    · have b1 := h2 i m hi hm
      have b2 := h2 m j hm hj
      omega
  · intro i j x hi hj hx hij
    have a := zf_st_le (hs i j hi hj)
    rcases Nat.lt_or_ge x m with g | g
    · have := h3 i j x hi hj g hij
      omega
    · have ex : x = m := by omega
      rw [ex]
      have b1 := h2 i m hi hm
      have b2 := h2 m j hm hj
      rcases hs i j hi hj with ⟨_, _, e⟩ | ⟨_, e1, _, _⟩
      · rcases e with e | e
        · exact absurd e hij
        · omega
      · omega
  · intro i j hi hj
    rcases hs i j hi hj with ⟨e, _⟩ | ⟨_, e1, e2, _⟩
    · rw [e]
      rcases h4 i j hi hj with g | g
      · exact Or.inl (by omega)
      · exact Or.inr (by omega)
    · have b1 := h2 i m hi hm
      have b2 := h2 m j hm hj
      have c1 := hB i hi
      have c2 := hB m hm
      have c3 := hB j hj
      rcases h4 i m hi hm with g1 | g1
      · rcases h4 m j hm hj with g2 | g2
        · exact Or.inl (by omega)
        · exact Or.inr (by omega)
      · exact Or.inr (by omega)
  · intro i j hi hj hij hlt
    rcases hs i j hi hj with ⟨e1, e2, _⟩ | ⟨_, e1, e2, e3⟩
    · rw [e1] at hlt
      obtain ⟨e, q1, q2, q3, q4, q5⟩ := h5 i j hi hj hij hlt
      refine ⟨e, q1, by rw [e2]; exact q2, q3, q4, ?_⟩
      have := zf_st_le (hs (t e) j q4 hj)
      rw [e1]
      omega
    · have b2 := h2 m j hm hj
      have c2 := hB m hm
      have c3 := hB j hj
      have him : i ≠ m := by
        intro z
        rw [z] at e1 e2
        have := h1 m hm
        omega
      have b1 : (o33 (7 * i + m)).toInt < 500000 := by
        rcases h4 i m hi hm with g1 | g1
        · omega
        · omega
      obtain ⟨e, q1, q2, q3, q4, q5⟩ := h5 i m hi hm him b1
      refine ⟨e, q1, by rw [e3]; exact q2, q3, q4, ?_⟩
      rcases hs (t e) j q4 hj with ⟨g1, _, g2⟩ | ⟨_, g1, _, _⟩
      · rcases g2 with g2 | g2
        · rw [g2]
          have d1 := hdg j hj
          rw [g2] at q5
          have d2 := h2 j m hj hm
          omega
        · rw [g1]
          omega
      · omega
end
section
variable {f0_atomCount f0_clauseCount f0_drafted f0_opened f0_variables f0_stock f0_stored f0_hopeless f0_trailSize f0_nextWatch f0_nextEdge f0_depth f0_bump f0_conflictSize f0_learnedSize f0_assumed f0_counted : Int32} {a1 a2 a3 a4 a5 a6 a7 a8 a9 a10 a11 a12 a13 a14 a15 a16 a17 a18 a19 a20 a21 a22 a23 a24 a25 a26 a27 a28 a29 a30 a31 a32 a33 a34 a35 a36 a37 a38 : Nat → Int32}
theorem zf_121 {post : St2 → Prop} {J : Int32 → (Nat → Int32) → (Nat → Int32) → (Nat → Int32) → (Nat → Int32) → (Nat → Int32) → (Nat → Int32) → (Nat → Int32) → (Nat → Int32) → (Nat → Int32) → (Nat → Int32) → (Nat → Int32) → (Nat → Int32) → (Nat → Int32) → (Nat → Int32) → (Nat → Int32) → (Nat → Int32) → (Nat → Int32) → (Nat → Int32) → (Nat → Int32) → (Nat → Int32) → (Nat → Int32) → (Nat → Int32) → (Nat → Int32) → (Nat → Int32) → (Nat → Int32) → (Nat → Int32) → (Nat → Int32) → (Nat → Int32) → (Nat → Int32) → (Nat → Int32) → (Nat → Int32) → (Nat → Int32) → (Nat → Int32) → (Nat → Int32) → (Nat → Int32) → (Nat → Int32) → (Nat → Int32) → (Nat → Int32) → Prop}
    {m : Nat} {o33 o34 : Nat → Int32} (hm : m < 7) (hd : (o33 (7 * m + m)).toInt = 0) (hr : ∀ i j, i < 7 → j < 7 → -400 ≤ (o33 (7 * i + j)).toInt ∧ (o33 (7 * i + j)).toInt ≤ 1000000)
    (H : ∀ c33 c34, (∀ i j, i < 7 → j < 7 → zf_st m o33 o34 c33 c34 i j) → J (nI (m + 1)) a1 a2 a3 a4 a5 a6 a7 a8 a9 a10 a11 a12 a13 a14 a15 a16 a17 a18 a19 a20 a21 a22 a23 a24 a25 a26 a27 a28 a29 a30 a31 a32 c33 c34 a35 a36 a37 a38) :
    ∀ k i c33 c34, k + i = 49 → (∀ a b, a < 7 → b < 7 → i ≤ 7 * a + b → c33 (7 * a + b) = o33 (7 * a + b) ∧ c34 (7 * a + b) = o34 (7 * a + b)) →
      (∀ a, a < 7 → c33 (7 * a + m) = o33 (7 * a + m) ∧ c34 (7 * a + m) = o34 (7 * a + m) ∧ c33 (7 * m + a) = o33 (7 * m + a)) →
      (∀ a b, a < 7 → b < 7 → 7 * a + b < i → zf_st m o33 o34 c33 c34 a b) →
      wX_findBounds_121 post J (nI m) f0_atomCount f0_clauseCount f0_drafted f0_opened f0_variables f0_stock f0_stored f0_hopeless f0_trailSize f0_nextWatch f0_nextEdge f0_depth f0_bump f0_conflictSize f0_learnedSize f0_assumed f0_counted (k + 1) (nI i) a1 a2 a3 a4 a5 a6 a7 a8 a9 a10 a11 a12 a13 a14 a15 a16 a17 a18 a19 a20 a21 a22 a23 a24 a25 a26 a27 a28 a29 a30 a31 a32 c33 c34 a35 a36 a37 a38 := by
  intro k
  induction k with
  | zero =>
    intro i c33 c34 hk h1 h2 h3
    exact pk_le 49 i (fun _ => nm_r (nI_1 m) (H c33 c34 (fun a b ha hb => h3 a b ha hb (by omega)))) (fun z => absurd z (by omega))
  | succ k ih =>
    intro i c33 c34 hk h1 h2 h3
    have hdm : 7 * (i / 7) + i % 7 = i := by omega
    have ha : i / 7 < 7 := by omega
    have hb : i % 7 < 7 := by omega
    have r1 := hr _ _ ha hm
    have r2 := hr _ _ hm hb
    have r3 := hr _ _ ha hb
    have g1 := h1 _ _ ha hb (by omega)
    have g2 := h2 _ ha
    have g3 := h2 _ hb
    rw [hdm] at g1
    refine pk_le 49 i (fun z => absurd z (by omega)) (fun _ => ⟨by decide, nm_r (e' := nI (i / 7)) (pk_div (by omega) (by decide) (by decide)) ⟨by decide, nm_r (e' := nI (i % 7)) (pk_rem (by omega) (by decide) (by decide)) ?_⟩⟩)
    rw [show (7 : Int32) * nI (i / 7) + nI m = nI (7 * (i / 7) + m) by rw [show (7 : Int32) = nI 7 from rfl, pk_mul, nI_add], show (7 : Int32) * nI m + nI (i % 7) = nI (7 * m + i % 7) by rw [show (7 : Int32) = nI 7 from rfl, pk_mul, nI_add],
      nI_clamp (show 7 * (i / 7) + m < 2 ^ 31 by omega), nI_clamp (show 7 * m + i % 7 < 2 ^ 31 by omega), nI_clamp (show i < 2 ^ 31 by omega), g2.1, g2.2.1, g3.2.2, g1.1]
    refine ⟨vp_in_nI (by omega) (by decide), vp_in_nI (by omega) (by decide), nm_e ?_⟩
    have hsum : (o33 (7 * (i / 7) + m) + o33 (7 * m + i % 7)).toInt = (o33 (7 * (i / 7) + m)).toInt + (o33 (7 * m + i % 7)).toInt := zb_add rfl rfl (by omega) (by omega)
    have i49 := vp_in_nI (n := i) (N := 49) (by omega) (by decide)
    have keep : ∀ (hc : i / 7 = i % 7 ∨ (o33 i).toInt ≤ (o33 (7 * (i / 7) + m)).toInt + (o33 (7 * m + i % 7)).toInt), wX_findBounds_121 post J (nI m) f0_atomCount f0_clauseCount f0_drafted f0_opened f0_variables f0_stock f0_stored f0_hopeless f0_trailSize f0_nextWatch f0_nextEdge f0_depth f0_bump f0_conflictSize f0_learnedSize f0_assumed f0_counted (k + 1) (nI (i + 1)) a1 a2 a3 a4 a5 a6 a7 a8 a9 a10 a11 a12 a13 a14 a15 a16 a17 a18 a19 a20 a21 a22 a23 a24 a25 a26 a27 a28 a29 a30 a31 a32 c33 c34 a35 a36 a37 a38 := by
      intro hc
      refine ih (i + 1) c33 c34 (by omega) (fun a b a1 b1 hab => h1 a b a1 b1 (by omega)) h2 (fun a b a1 b1 hab => ?_)
      rcases Nat.lt_or_ge (7 * a + b) i with z | z
      · exact h3 a b a1 b1 z
      · have ea : a = i / 7 := by omega
        have eb : b = i % 7 := by omega
        unfold zf_st
        rw [ea, eb, hdm]
        exact Or.inl ⟨g1.1, g1.2, hc⟩
    refine pk_eq (i / 7) (i % 7) (fun z => nm_r (nI_1 i) (keep (Or.inl z))) (fun z => ⟨i49, br_c (fun q => nm_r (nI_1 i) (keep (Or.inr ((zb_le rfl hsum).mp q)))) (fun q => ?_)⟩)
    have q' : ¬ ((o33 i).toInt ≤ (o33 (7 * (i / 7) + m)).toInt + (o33 (7 * m + i % 7)).toInt) := fun z => q ((zb_le rfl hsum).mpr z)
    have n1 : i % 7 ≠ m := by
      intro e
      rw [e] at q' hdm
      rw [hdm, hd] at q'
      omega
    have n2 : i / 7 ≠ m := by
      intro e
      rw [e] at q' hdm
      rw [hdm, hd] at q'
      omega
    refine ⟨i49, nm_e ⟨vp_in_nI (by omega) (by decide), i49, nm_e (nm_r (nI_1 i) (ih (i + 1) _ _ (by omega) (fun a b a1 b1 hab => ?_) (fun a a1 => ?_) (fun a b a1 b1 hab => ?_)))⟩⟩
    · rw [pk_un (by omega), pk_un (by omega)]
      exact h1 a b a1 b1 (by omega)
    · rw [pk_un (by omega), pk_un (by omega), pk_un (by omega)]
      exact h2 a a1
    · rcases Nat.lt_or_ge (7 * a + b) i with y | y
      · have := h3 a b a1 b1 y
        unfold zf_st at this ⊢
        rw [pk_un (by omega), pk_un (by omega)]
        exact this
      · have ea : a = i / 7 := by omega
        have eb : b = i % 7 := by omega
        unfold zf_st
        rw [ea, eb, hdm, pk_us, pk_us]
        exact Or.inr ⟨z, hsum, by omega, rfl⟩
theorem zf_113 {post : St2 → Prop} {ne : Nat} {f t : Nat → Nat} {w M b0 : Nat → Int} (hB : ∀ x, x < 7 → -200 ≤ M x ∧ M x ≤ 200)
    (H : ∀ c33 c34, zf_ok ne f t w M b0 7 c33 c34 → post (f0_atomCount, f0_clauseCount, f0_drafted, f0_opened, f0_variables, f0_stock, f0_stored, f0_hopeless, f0_trailSize, f0_nextWatch, f0_nextEdge, f0_depth, f0_bump, f0_conflictSize, f0_learnedSize, f0_assumed, f0_counted, a1, a2, a3, a4, a5, a6, a7, a8, a9, a10, a11, a12, a13, a14, a15, a16, a17, a18, a19, a20, a21, a22, a23, a24, a25, a26, a27, a28, a29, a30, a31, a32, c33, c34, a35, a36, a37, a38)) :
    ∀ k m c33 c34, k + m = 7 → zf_ok ne f t w M b0 m c33 c34 → wX_findBounds_113 post f0_atomCount f0_clauseCount f0_drafted f0_opened f0_variables f0_stock f0_stored f0_hopeless f0_trailSize f0_nextWatch f0_nextEdge f0_depth f0_bump f0_conflictSize f0_learnedSize f0_assumed f0_counted (k + 1) (nI m) a1 a2 a3 a4 a5 a6 a7 a8 a9 a10 a11 a12 a13 a14 a15 a16 a17 a18 a19 a20 a21 a22 a23 a24 a25 a26 a27 a28 a29 a30 a31 a32 c33 c34 a35 a36 a37 a38 := by
  intro k
  induction k with
  | zero =>
    intro m c33 c34 hk h
    have e : m = 7 := by omega
    rw [e] at h
    exact pk_le 7 m (fun _ => H c33 c34 h) (fun z => absurd z (by omega))
  | succ k ih =>
    intro m c33 c34 hk h
    refine pk_le 7 m (fun z => absurd z (by omega)) (fun _ => ⟨50, ?_⟩)
    refine zf_121 (o33 := c33) (o34 := c34) (by omega) (h.1 m (by omega)) (fun i j hi hj => ?_) (fun d33 d34 hs => ih (m + 1) d33 d34 (by omega) (zf_next (by omega) hB h hs)) 49 0 c33 c34 rfl (fun a b _ _ _ => ⟨rfl, rfl⟩) (fun a _ => ⟨rfl, rfl, rfl⟩) (fun a b _ _ z => absurd z (by omega))
    have a1 := h.2.1 i j hi hj
    have a2 := hB i hi
    have a3 := hB j hj
    omega
/-- the table while the edges go in: e of them are in -/
def zf_e (f t : Nat → Nat) (w : Nat → Int) (e : Nat) (b33 b34 : Nat → Int32) : Prop :=
  (∀ i, i < 7 → (b33 (7 * i + i)).toInt = 0) ∧ (∀ e', e' < e → (b33 (7 * f e' + t e')).toInt ≤ w e') ∧
  (∀ i j, i < 7 → j < 7 → i ≠ j → (b33 (7 * i + j)).toInt = 1000000 ∨ ∃ e', e' < e ∧ b34 (7 * i + j) = nI e' ∧ f e' = i ∧ t e' = j ∧ (b33 (7 * i + j)).toInt = w e')
theorem zf_46 {post : St2 → Prop} {ne : Nat} {f t : Nat → Nat} {w : Nat → Int} (hne : ne < 22)
    (he : ∀ e, e < ne → f e < 7 ∧ t e < 7 ∧ f e ≠ t e ∧ -132 ≤ w e ∧ w e ≤ 132 ∧ a27 e = nI (f e) ∧ a28 e = nI (t e) ∧ (a29 e).toInt = w e)
    (H : ∀ c33 c34, zf_e f t w ne c33 c34 → ∃ fu, wX_findBounds_113 post f0_atomCount f0_clauseCount f0_drafted f0_opened f0_variables f0_stock f0_stored f0_hopeless f0_trailSize f0_nextWatch (nI ne) f0_depth f0_bump f0_conflictSize f0_learnedSize f0_assumed f0_counted fu 0 a1 a2 a3 a4 a5 a6 a7 a8 a9 a10 a11 a12 a13 a14 a15 a16 a17 a18 a19 a20 a21 a22 a23 a24 a25 a26 a27 a28 a29 a30 a31 a32 c33 c34 a35 a36 a37 a38) :
    ∀ k e c33 c34, k + e = ne → zf_e f t w e c33 c34 → wX_findBounds_46 post f0_atomCount f0_clauseCount f0_drafted f0_opened f0_variables f0_stock f0_stored f0_hopeless f0_trailSize f0_nextWatch (nI ne) f0_depth f0_bump f0_conflictSize f0_learnedSize f0_assumed f0_counted (k + 1) (nI e) a1 a2 a3 a4 a5 a6 a7 a8 a9 a10 a11 a12 a13 a14 a15 a16 a17 a18 a19 a20 a21 a22 a23 a24 a25 a26 a27 a28 a29 a30 a31 a32 c33 c34 a35 a36 a37 a38 := by
  intro k
  induction k with
  | zero =>
    intro e c33 c34 hk h
    have ee : e = ne := by omega
    rw [ee] at h
    exact pk_le ne e (fun _ => H c33 c34 h) (fun z => absurd z (by omega))
  | succ k ih =>
    intro e c33 c34 hk h
    obtain ⟨p1, p2, p3, p4, p5, p6, p7, p8⟩ := he e (by omega)
    have ie := vp_in_nI (n := e) (N := 22) (by omega) (by decide)
    have i49 := vp_in_nI (n := 7 * f e + t e) (N := 49) (by omega) (by decide)
    refine pk_le ne e (fun z => absurd z (by omega)) (fun _ => ?_)
    rw [nI_clamp (show e < 2 ^ 31 by omega), p6, p7, show (7 : Int32) * nI (f e) + nI (t e) = nI (7 * f e + t e) by rw [show (7 : Int32) = nI 7 from rfl, pk_mul, nI_add]]
    refine ⟨ie, ie, nm_e ⟨ie, i49, ?_⟩⟩
    rw [nI_clamp (show 7 * f e + t e < 2 ^ 31 by omega)]
    refine br_c (fun g => nm_r (nI_1 e) (ih (e + 1) c33 c34 (by omega) ⟨h.1, fun e' he' => ?_, fun i j hi hj hij => ?_⟩)) (fun g => ⟨ie, i49, nm_e ⟨i49, nm_e (nm_r (nI_1 e) (ih (e + 1) _ _ (by omega) ⟨fun i hi => ?_, fun e' he' => ?_, fun i j hi hj hij => ?_⟩))⟩⟩)
    · rcases Nat.lt_or_ge e' e with z | z
      · exact h.2.1 e' z
      · have ee : e' = e := by omega
        rw [ee]
        exact (zb_le rfl p8).mp g
    · rcases h.2.2 i j hi hj hij with q | ⟨e', q1, q2⟩
      · exact Or.inl q
      · exact Or.inr ⟨e', by omega, q2⟩
    · rw [pk_un (by omega)]
      exact h.1 i hi
    · have g' : ¬ ((c33 (7 * f e + t e)).toInt ≤ w e) := fun z => g ((zb_le rfl p8).mpr z)
      have hr' := he e' (by omega)
      by_cases ex : 7 * f e' + t e' = 7 * f e + t e
      · rw [ex, pk_us, p8]
        rcases Nat.lt_or_ge e' e with z | z
        · have := h.2.1 e' z
          rw [ex] at this
          omega
        · have ee : e' = e := by omega
          rw [ee]
          exact Int.le_refl _
      · rw [pk_un ex]
        rcases Nat.lt_or_ge e' e with z | z
        · exact h.2.1 e' z
        · exact absurd (by rw [show e' = e by omega]) ex
    · by_cases ex : 7 * i + j = 7 * f e + t e
      · rw [ex, pk_us, pk_us]
        exact Or.inr ⟨e, by omega, rfl, by omega, by omega, p8⟩
      · rw [pk_un ex, pk_un ex]
        rcases h.2.2 i j hi hj hij with q | ⟨e', q1, q2⟩
        · exact Or.inl q
        · exact Or.inr ⟨e', by omega, q2⟩
theorem zf_2 {post : St2 → Prop} (H : ∀ c33 c34, (∀ i j, i < 7 → j < 7 → c33 (7 * i + j) = if i = j then (0 : Int32) else 1000000) → ∃ fu, wX_findBounds_46 post f0_atomCount f0_clauseCount f0_drafted f0_opened f0_variables f0_stock f0_stored f0_hopeless f0_trailSize f0_nextWatch f0_nextEdge f0_depth f0_bump f0_conflictSize f0_learnedSize f0_assumed f0_counted fu 0 a1 a2 a3 a4 a5 a6 a7 a8 a9 a10 a11 a12 a13 a14 a15 a16 a17 a18 a19 a20 a21 a22 a23 a24 a25 a26 a27 a28 a29 a30 a31 a32 c33 c34 a35 a36 a37 a38) :
    ∀ k i c33 c34, k + i = 49 → (∀ a b, a < 7 → b < 7 → 7 * a + b < i → c33 (7 * a + b) = if a = b then (0 : Int32) else 1000000) → wX_findBounds_2 post f0_atomCount f0_clauseCount f0_drafted f0_opened f0_variables f0_stock f0_stored f0_hopeless f0_trailSize f0_nextWatch f0_nextEdge f0_depth f0_bump f0_conflictSize f0_learnedSize f0_assumed f0_counted (k + 1) (nI i) a1 a2 a3 a4 a5 a6 a7 a8 a9 a10 a11 a12 a13 a14 a15 a16 a17 a18 a19 a20 a21 a22 a23 a24 a25 a26 a27 a28 a29 a30 a31 a32 c33 c34 a35 a36 a37 a38 := by
  intro k
  induction k with
  | zero =>
    intro i c33 c34 hk h
    exact pk_le 49 i (fun _ => H c33 c34 (fun a b ha hb => h a b ha hb (by omega))) (fun z => absurd z (by omega))
  | succ k ih =>
    intro i c33 c34 hk h
    have i49 := vp_in_nI (n := i) (N := 49) (by omega) (by decide)
    have step : ∀ z0 : Int32, z0 = (if i / 7 = i % 7 then (0 : Int32) else 1000000) → wX_findBounds_30 post (wX_findBounds_2 post f0_atomCount f0_clauseCount f0_drafted f0_opened f0_variables f0_stock f0_stored f0_hopeless f0_trailSize f0_nextWatch f0_nextEdge f0_depth f0_bump f0_conflictSize f0_learnedSize f0_assumed f0_counted (k + 1)) (nI i) z0 (nI i) f0_atomCount f0_clauseCount f0_drafted f0_opened f0_variables f0_stock f0_stored f0_hopeless f0_trailSize f0_nextWatch f0_nextEdge f0_depth f0_bump f0_conflictSize f0_learnedSize f0_assumed f0_counted a1 a2 a3 a4 a5 a6 a7 a8 a9 a10 a11 a12 a13 a14 a15 a16 a17 a18 a19 a20 a21 a22 a23 a24 a25 a26 a27 a28 a29 a30 a31 a32 c33 c34 a35 a36 a37 a38 := by
      intro z0 hz
      unfold wX_findBounds_30
      rw [nI_clamp (show i < 2 ^ 31 by omega)]
      refine ⟨i49, nm_e ⟨i49, nm_e (nm_r (nI_1 i) (ih (i + 1) _ _ (by omega) (fun a b ha hb hab => ?_)))⟩⟩
      rcases Nat.lt_or_ge (7 * a + b) i with y | y
      · rw [pk_un (by omega)]
        exact h a b ha hb y
      · have ea : a = i / 7 := by omega
        have eb : b = i % 7 := by omega
        rw [show 7 * a + b = i by omega, pk_us, hz, ea, eb]
    refine pk_le 49 i (fun z => absurd z (by omega)) (fun _ => ⟨by decide, by decide, ?_⟩)
    exact pk_eq (i / 7) (i % 7) (fun z => step 0 (by rw [if_pos z])) (fun z => step 1000000 (by rw [if_neg z])) (pk_div (a := i) (d := 7) (by omega) (by decide) (by decide)) (pk_rem (a := i) (d := 7) (by omega) (by decide) (by decide))
theorem zf_find {post : St2 → Prop} {ne : Nat} {f t : Nat → Nat} {w M : Nat → Int} (hne : ne < 22)
    (he : ∀ e, e < ne → f e < 7 ∧ t e < 7 ∧ f e ≠ t e ∧ -132 ≤ w e ∧ w e ≤ 132 ∧ a27 e = nI (f e) ∧ a28 e = nI (t e) ∧ (a29 e).toInt = w e)
    (hM : ∀ e, e < ne → M (t e) ≤ M (f e) + w e) (hB : ∀ x, x < 7 → -200 ≤ M x ∧ M x ≤ 200)
    (H : ∀ b0 c33 c34, (∀ i, i < 7 → b0 (7 * i + i) = 0) → (∀ e, e < ne → b0 (7 * f e + t e) ≤ w e) → zf_ok ne f t w M b0 7 c33 c34 → post (f0_atomCount, f0_clauseCount, f0_drafted, f0_opened, f0_variables, f0_stock, f0_stored, f0_hopeless, f0_trailSize, f0_nextWatch, nI ne, f0_depth, f0_bump, f0_conflictSize, f0_learnedSize, f0_assumed, f0_counted, a1, a2, a3, a4, a5, a6, a7, a8, a9, a10, a11, a12, a13, a14, a15, a16, a17, a18, a19, a20, a21, a22, a23, a24, a25, a26, a27, a28, a29, a30, a31, a32, c33, c34, a35, a36, a37, a38)) :
    wpX_findBounds post (f0_atomCount, f0_clauseCount, f0_drafted, f0_opened, f0_variables, f0_stock, f0_stored, f0_hopeless, f0_trailSize, f0_nextWatch, nI ne, f0_depth, f0_bump, f0_conflictSize, f0_learnedSize, f0_assumed, f0_counted, a1, a2, a3, a4, a5, a6, a7, a8, a9, a10, a11, a12, a13, a14, a15, a16, a17, a18, a19, a20, a21, a22, a23, a24, a25, a26, a27, a28, a29, a30, a31, a32, a33, a34, a35, a36, a37, a38) := by
  unfold wpX_findBounds
  try dsimp only
  refine ⟨50, zf_2 (fun c33 c34 h => ⟨ne + 1, zf_46 hne he (fun d33 d34 h2 => ⟨8, ?_⟩) ne 0 c33 c34 rfl ⟨fun i hi => ?_, fun e' he' => absurd he' (by omega), fun i j hi hj hij => Or.inl ?_⟩⟩) 49 0 a33 a34 rfl (fun a b _ _ z => absurd z (by omega))⟩
  · refine zf_113 (b0 := fun k => (d33 k).toInt) hB (fun e33 e34 h3 => H _ e33 e34 (fun i hi => h2.1 i hi) (fun e he => h2.2.1 e he) h3) 7 0 d33 d34 rfl ⟨h2.1, fun i j hi hj => ?_, fun i j x hi hj hx => absurd hx (by omega), fun i j hi hj => ?_, fun i j hi hj hij hlt => ?_⟩
    · have b1 := hB i hi
      have b2 := hB j hj
      refine ⟨?_, ?_, Int.le_refl _⟩
      · by_cases hij : i = j
        · rw [hij, h2.1 j hj]
          omega
        · rcases h2.2.2 i j hi hj hij with q | ⟨e', q1, q2, q3, q4, q5⟩
          · omega
          · have := hM e' q1
            rw [q3, q4] at this
            omega
      · by_cases hij : i = j
        · rw [hij, h2.1 j hj]
          decide
        · rcases h2.2.2 i j hi hj hij with q | ⟨e', q1, q2, q3, q4, q5⟩
          · omega
          · have := he e' q1
            omega
    · have r0 : zf_r 0 = 132 := by decide
      by_cases hij : i = j
      · rw [hij, h2.1 j hj]
        exact Or.inl (by omega)
      · rcases h2.2.2 i j hi hj hij with q | ⟨e', q1, q2, q3, q4, q5⟩
        · exact Or.inr (by omega)
        · have := he e' q1
          exact Or.inl (by omega)
    · rcases h2.2.2 i j hi hj hij with q | ⟨e', q1, q2, q3, q4, q5⟩
      · exact absurd hlt (by omega)
      · have := he e' q1
        refine ⟨e', q1, q2, q3, this.2.1, ?_⟩
        rw [q4, h2.1 j hj, q5]
        omega
  · rw [h i i hi hi, if_pos rfl]
    decide
  · rw [h i j hi hj, if_neg hij]
    decide
end
end
section
section
/-- nothing more follows by one or two edges -/
def zd_cl (n : Nat) (L R : Nat → Nat) (K : Nat → Int) (τ : List Nat) : Prop :=
  ∃ b0 : Nat → Int, (∀ x, x < 7 → b0 (7 * x + x) = 0) ∧ (∀ l, l ∈ τ → b0 (7 * ze_f L R l + ze_t L R l) ≤ ze_w K l) ∧
    ∀ v, v < n → 2 * v ∉ τ → 2 * v + 1 ∉ τ → ∀ x, x < 7 → K v < b0 (7 * R v + x) + b0 (7 * x + L v) ∧ -K v - 1 < b0 (7 * L v + x) + b0 (7 * x + R v)
theorem zd_e0 {L R : Nat → Nat} {K : Nat → Int} (v : Nat) : ze_f L R (2 * v) = R v ∧ ze_t L R (2 * v) = L v ∧ ze_w K (2 * v) = K v := by
  unfold ze_f ze_t ze_w
  rw [if_pos (by omega), if_pos (by omega), if_pos (by omega), show 2 * v / 2 = v by omega]
  exact ⟨rfl, rfl, rfl⟩
theorem zd_e1 {L R : Nat → Nat} {K : Nat → Int} (v : Nat) : ze_f L R (2 * v + 1) = L v ∧ ze_t L R (2 * v + 1) = R v ∧ ze_w K (2 * v + 1) = -K v - 1 := by
  unfold ze_f ze_t ze_w
  rw [if_neg (by omega), if_neg (by omega), if_neg (by omega), show (2 * v + 1) / 2 = v by omega]
  exact ⟨rfl, rfl, rfl⟩
theorem zd_ng0 (v : Nat) : zb_ng (2 * v) = 2 * v + 1 := zb_ng_e (by omega)
theorem zd_ng1 (v : Nat) : zb_ng (2 * v + 1) = 2 * v := by
  rw [zb_ng_o (by omega)]
  omega
variable {f0_atomCount f0_clauseCount f0_drafted f0_opened f0_variables f0_stock f0_stored f0_hopeless f0_trailSize f0_nextWatch f0_nextEdge f0_depth f0_bump f0_conflictSize f0_learnedSize f0_assumed f0_counted : Int32} {a1 a2 a3 a4 a5 a6 a7 a8 a9 a10 a11 a12 a13 a14 a15 a16 a17 a18 a19 a20 a21 a22 a23 a24 a25 a26 a27 a28 a29 a30 a31 a32 a33 a34 a35 a36 a37 a38 : Nat → Int32}
theorem zd_way {post : St2 → Prop} {ne : Nat} {f t : Nat → Nat} {w M b0 : Nat → Int} {l p q : Nat} (hne : ne < 22) (hl : l < 42) (hp : p < 7) (hq : q < 7)
    (he : ∀ e, e < ne → -132 ≤ w e ∧ a28 e = nI (t e)) (hok : zf_ok ne f t w M b0 7 a33 a34) (hb : (a33 (7 * p + q)).toInt ≤ 132)
    (H : ∀ b25 b26, post (f0_atomCount, f0_clauseCount, f0_drafted, f0_opened, f0_variables, f0_stock, f0_stored, f0_hopeless, f0_trailSize, f0_nextWatch, f0_nextEdge, f0_depth, f0_bump, f0_conflictSize, f0_learnedSize, f0_assumed, f0_counted, a1, a2, a3, a4, a5, a6, a7, a8, a9, a10, a11, a12, a13, a14, a15, a16, a17, a18, a19, a20, a21, a22, a23, a24, b25, b26, a27, a28, a29, a30, a31, a32, a33, a34, a35, a36, a37, a38)) : wpX_explainWay post (f0_atomCount, f0_clauseCount, f0_drafted, f0_opened, f0_variables, f0_stock, f0_stored, f0_hopeless, f0_trailSize, f0_nextWatch, f0_nextEdge, f0_depth, f0_bump, f0_conflictSize, f0_learnedSize, f0_assumed, f0_counted, a1, a2, a3, a4, a5, a6, a7, a8, a9, a10, a11, a12, a13, a14, a15, a16, a17, a18, a19, a20, a21, a22, a23, a24, a25, a26, a27, a28, a29, a30, a31, a32, a33, a34, a35, a36, a37, a38) (nI l) (nI p) (nI q) := by
  have main : ∀ (k i x : Nat) (b25 b26 : Nat → Int32), k + i = 7 → x < 7 → (a33 (7 * x + q)).toInt ≤ 132 + 132 * (i : Int) → b25 (l / 2) = nI (1 + i) → wX_explainWay_30 post (nI q) (nI (l / 2)) f0_atomCount f0_clauseCount f0_drafted f0_opened f0_variables f0_stock f0_stored f0_hopeless f0_trailSize f0_nextWatch f0_nextEdge f0_depth f0_bump f0_conflictSize f0_learnedSize f0_assumed f0_counted (k + 1) (nI x) (nI i) a1 a2 a3 a4 a5 a6 a7 a8 a9 a10 a11 a12 a13 a14 a15 a16 a17 a18 a19 a20 a21 a22 a23 a24 b25 b26 a27 a28 a29 a30 a31 a32 a33 a34 a35 a36 a37 a38 := by
    intro k
    induction k with
    | zero =>
      intro i x b25 b26 hk hx h1 h2
      exact pk_le 7 i (fun _ => H b25 b26) (fun z => absurd z (by omega))
    | succ k ih =>
      intro i x b25 b26 hk hx h1 h2
      refine pk_le 7 i (fun z => absurd z (by omega)) (fun _ => pk_eq x q (fun _ => H b25 b26) (fun hxq => ?_))
      obtain ⟨e, q1, q2, q3, q4, q5⟩ := hok.2.2.2.2 x q hx hq hxq (by omega)
      have h3 := he e q1
      have i21 := vp_in_nI (n := l / 2) (N := 21) (by omega) (by decide)
      have i22 := vp_in_nI (n := e) (N := 22) (by omega) (by decide)
      rw [show (7 : Int32) * nI x + nI q = nI (7 * x + q) by rw [show (7 : Int32) = nI 7 from rfl, pk_mul, nI_add], nI_clamp (show 7 * x + q < 2 ^ 31 by omega), nI_clamp (show l / 2 < 2 ^ 31 by omega), q2, h2,
        show (24 : Int32) * nI (l / 2) + nI (1 + i) = nI (24 * (l / 2) + (1 + i)) by rw [show (24 : Int32) = nI 24 from rfl, pk_mul, nI_add]]
      refine ⟨vp_in_nI (by omega) (by decide), nm_e ?_⟩
      rw [nI_clamp (show e < 2 ^ 31 by omega), h3.2]
      refine ⟨i21, i22, vp_in_nI (by omega) (by decide), nm_e ⟨i21, i21, nm_e ⟨i22, nm_e (nm_r (nI_1 i) (ih (i + 1) (t e) _ _ (by omega) q4 ?_ ?_))⟩⟩⟩
      · omega
      · rw [pk_us, nI_1]
        rfl
  unfold wpX_explainWay
  try dsimp only
  refine nm_r (zb_shr l (by omega)) ?_
  rw [show (24 : Int32) * nI (l / 2) = nI (24 * (l / 2)) from pk_mul 24 (l / 2), nI_clamp (show l / 2 < 2 ^ 31 by omega)]
  exact ⟨vp_in_nI (by omega) (by decide), nm_e ⟨vp_in_nI (by omega) (by decide), nm_e ⟨8, main 7 0 p _ _ rfl hp (by omega) pk_us⟩⟩⟩
theorem zd_draw {post : Int32 → St2 → Prop} {n : Nat} {τ : List Nat} {L R : Nat → Nat} {K M : Nat → Int} (hv : ze_vs n L R K a9 a10 a11) (hn : n ≤ 21) (hT : zb_tr n τ a18 a21)
    (hg : ze_eg L R K τ τ.length a27 a28 a29) (hM : ∀ l, l ∈ τ → ze_sat L R K M l) (hB : ∀ x, x < 7 → -200 ≤ M x ∧ M x ≤ 200)
    (H0 : ∀ b25 b26 b33 b34, zd_cl n L R K τ → post 0 (f0_atomCount, f0_clauseCount, f0_drafted, f0_opened, nI n, f0_stock, f0_stored, f0_hopeless, nI τ.length, f0_nextWatch, nI τ.length, f0_depth, f0_bump, f0_conflictSize, f0_learnedSize, f0_assumed, f0_counted, a1, a2, a3, a4, a5, a6, a7, a8, a9, a10, a11, a12, a13, a14, a15, a16, a17, a18, a19, a20, a21, a22, a23, a24, b25, b26, a27, a28, a29, a30, a31, a32, b33, b34, a35, a36, a37, a38))
    (H1 : ∀ ρ b18 b19 b20 b21 b25 b26 b33 b34, ρ ≠ [] → τ ≠ [] → zb_tr n (τ ++ ρ) b18 b21 → (∀ l, l ∈ τ ++ ρ → ze_sat L R K M l) →
      post 1 (f0_atomCount, f0_clauseCount, f0_drafted, f0_opened, nI n, f0_stock, f0_stored, f0_hopeless, nI (τ ++ ρ).length, f0_nextWatch, nI τ.length, f0_depth, f0_bump, f0_conflictSize, f0_learnedSize, f0_assumed, f0_counted, a1, a2, a3, a4, a5, a6, a7, a8, a9, a10, a11, a12, a13, a14, a15, a16, a17, b18, b19, b20, b21, a22, a23, a24, b25, b26, a27, a28, a29, a30, a31, a32, b33, b34, a35, a36, a37, a38)) :
    wpX_drawConsequences post (f0_atomCount, f0_clauseCount, f0_drafted, f0_opened, nI n, f0_stock, f0_stored, f0_hopeless, nI τ.length, f0_nextWatch, nI τ.length, f0_depth, f0_bump, f0_conflictSize, f0_learnedSize, f0_assumed, f0_counted, a1, a2, a3, a4, a5, a6, a7, a8, a9, a10, a11, a12, a13, a14, a15, a16, a17, a18, a19, a20, a21, a22, a23, a24, a25, a26, a27, a28, a29, a30, a31, a32, a33, a34, a35, a36, a37, a38) := by
  have hlen := zb_tr_len hT
  have ht : ∀ e, e < τ.length → τ[e]? = some (τ.getD e 0) := fun e he => zb_getD (by omega)
  have hm : ∀ e, e < τ.length → τ.getD e 0 ∈ τ := fun e he => zb_mem_of (ht e he)
  have he : ∀ e, e < τ.length → ze_f L R (τ.getD e 0) < 7 ∧ ze_t L R (τ.getD e 0) < 7 ∧ ze_f L R (τ.getD e 0) ≠ ze_t L R (τ.getD e 0) ∧ -132 ≤ ze_w K (τ.getD e 0) ∧ ze_w K (τ.getD e 0) ≤ 132 ∧ a27 e = nI (ze_f L R (τ.getD e 0)) ∧ a28 e = nI (ze_t L R (τ.getD e 0)) ∧ (a29 e).toInt = ze_w K (τ.getD e 0) := by
    intro e h
    obtain ⟨q1, q2, q3, q4, q5⟩ := ze_ft hv (hT.1 _ (hm e h))
    exact ⟨q1, q2, q3, q4, q5, hg e _ h (ht e h)⟩
  unfold wpX_drawConsequences
  try dsimp only
  refine zf_find (f := fun e => ze_f L R (τ.getD e 0)) (t := fun e => ze_t L R (τ.getD e 0)) (w := fun e => ze_w K (τ.getD e 0)) (M := M) (by omega) he (fun e h => hM _ (hm e h)) hB (fun b0 c33 c34 z1 z2 hok => ?_)
  have hb0 : ∀ l, l ∈ τ → b0 (7 * ze_f L R l + ze_t L R l) ≤ ze_w K l := by
    intro l hl
    obtain ⟨e, h⟩ := List.mem_iff_getElem?.mp hl
    have h' := zb_lt_of h
    have ee : τ.getD e 0 = l := Option.some.inj ((ht e h').symm.trans h)
    have := z2 e h'
    try dsimp only at this
    rw [ee] at this
    exact this
  have main : ∀ k v ρ b18 b19 b20 b21 b25 b26 any, k + v = n → zb_tr n (τ ++ ρ) b18 b21 → (∀ l, l ∈ τ ++ ρ → ze_sat L R K M l) → ((any = 0 ∧ ρ = []) ∨ (any = 1 ∧ ρ ≠ [] ∧ τ ≠ [])) →
      (ρ = [] → b18 = a18 ∧ b19 = a19 ∧ b20 = a20 ∧ b21 = a21) →
      (ρ = [] → ∀ v', v' < v → 2 * v' ∉ τ → 2 * v' + 1 ∉ τ → ∀ x, x < 7 → K v' < b0 (7 * R v' + x) + b0 (7 * x + L v') ∧ -K v' - 1 < b0 (7 * L v' + x) + b0 (7 * x + R v')) →
      wX_drawConsequences_8 post (k + 1) (nI any) (nI v) f0_atomCount f0_clauseCount f0_drafted f0_opened (nI n) f0_stock f0_stored f0_hopeless (nI (τ ++ ρ).length) f0_nextWatch (nI τ.length) f0_depth f0_bump f0_conflictSize f0_learnedSize f0_assumed f0_counted a1 a2 a3 a4 a5 a6 a7 a8 a9 a10 a11 a12 a13 a14 a15 a16 a17 b18 b19 b20 b21 a22 a23 a24 b25 b26 a27 a28 a29 a30 a31 a32 c33 c34 a35 a36 a37 a38 := by
    intro k
    induction k with
    | zero =>
      intro v ρ b18 b19 b20 b21 b25 b26 any hk i1 i2 i3 i4 i5
      refine pk_le n v (fun _ => ?_) (fun z => absurd z (by omega))
      rcases i3 with ⟨e1, e2⟩ | ⟨e1, e2, e3⟩
      · obtain ⟨f1, f2, f3, f4⟩ := i4 e2
        rw [e1, f1, f2, f3, f4, e2, List.append_nil]
        exact ⟨zb_nar0, H0 _ _ _ _ ⟨b0, z1, hb0, fun v' hv' => i5 e2 v' (by omega)⟩⟩
      · rw [e1]
        exact ⟨zb_nar1, H1 ρ _ _ _ _ _ _ _ _ e2 e3 i1 i2⟩
    | succ k ih =>
      intro v ρ b18 b19 b20 b21 b25 b26 any hk i1 i2 i3 i4 i5
      have hvn : v < n := by omega
      obtain ⟨v1, v2, v3, v4, v5, v6, v7, v8⟩ := hv v hvn
      have i21 := vp_in_nI (n := v) (N := 21) (by omega) (by decide)
      refine pk_le n v (fun z => absurd z (by omega)) (fun _ => ⟨i21, ?_⟩)
      rw [nI_clamp (show v < 2 ^ 31 by omega), i1.2.2.2 v hvn]
      refine br_c (fun hu => ?_) (fun hu => ?_)
      · have hu' := zb_va_un.mp hu
        rw [v4, v5, show (7 : Int32) * nI (R v) + nI (L v) = nI (7 * R v + L v) by rw [show (7 : Int32) = nI 7 from rfl, pk_mul, nI_add], show (7 : Int32) * nI (L v) + nI (R v) = nI (7 * L v + R v) by rw [show (7 : Int32) = nI 7 from rfl, pk_mul, nI_add],
          nI_clamp (show 7 * R v + L v < 2 ^ 31 by omega), nI_clamp (show 7 * L v + R v < 2 ^ 31 by omega)]
        have hw : (-(a11 v) - 1).toInt = -K v - 1 := zb_sub (zb_neg v6 (by omega) (by omega)) (show (1 : Int32).toInt = 1 by decide) (by omega) (by omega)
        have o1 := hok.2.1 (R v) (L v) v2 v1
        have o2 := hok.2.1 (L v) (R v) v1 v2
        refine ⟨i21, i21, vp_in_nI (by omega) (by decide), nm_e ⟨i21, i21, vp_in_nI (by omega) (by decide), nm_e ⟨i21, br_c (fun g => ⟨i21, br_c (fun g2 => ?_) (fun g2 => ?_)⟩) (fun g => ?_)⟩⟩⟩
        · have g' := (zb_lt v6 rfl).mp g
          have g2' := (zb_lt hw rfl).mp g2
          refine nm_r (nI_1 v) (ih (v + 1) ρ b18 b19 b20 b21 b25 b26 any (by omega) i1 i2 i3 i4 (fun hρ v' hv' n1 n2 x hx => ?_))
          rcases Nat.lt_or_ge v' v with z | z
          · exact i5 hρ v' z n1 n2 x hx
          · have ev : v' = v := by omega
            rw [ev]
            have p1 := hok.2.2.1 (R v) (L v) x v2 v1 hx (fun z => v3 z.symm)
            have p2 := hok.2.2.1 (L v) (R v) x v1 v2 hx v3
            omega
        · have g2' : ¬ (-K v - 1 < (c33 (7 * L v + R v)).toInt) := fun z => g2 ((zb_lt hw rfl).mpr z)
          rw [show (2 : Int32) * nI v + 1 = nI (2 * v + 1) by rw [show (2 : Int32) = nI 2 from rfl, pk_mul, nI_1]]
          refine ⟨i21, i21, zd_way (by omega) (by omega) v1 v2 (fun e h => ⟨(he e h).2.2.2.1, (he e h).2.2.2.2.2.2.1⟩) hok (by omega) (fun d25 d26 => ?_)⟩
          have hτ : τ ≠ [] := by
            obtain ⟨e, q1, _⟩ := hok.2.2.2.2 (L v) (R v) v1 v2 v3 (by omega)
            intro z
            rw [z] at q1
            exact absurd q1 (by simp)
          have hsat : ze_sat L R K M (2 * v + 1) := by
            obtain ⟨s1, s2, s3⟩ := zd_e1 (L := L) (R := R) (K := K) v
            unfold ze_sat
            rw [s1, s2, s3]
            omega
          refine zb_assign i1 hn (by omega) hu'.2 (by rw [zd_ng1]; exact hu'.1) (fun e18 e19 e20 e21 hT' => ?_)
          rw [List.append_assoc] at hT' ⊢
          refine nm_r (nI_1 v) (ih (v + 1) (ρ ++ [2 * v + 1]) e18 e19 e20 e21 d25 d26 1 (by omega) hT' ?_ (Or.inr ⟨rfl, by simp, hτ⟩) (fun z => absurd z (by simp)) (fun z => absurd z (by simp)))
          intro l hl
          rw [← List.append_assoc] at hl
          rcases List.mem_append.mp hl with z | z
          · exact i2 l z
          · rw [List.mem_singleton.mp z]
            exact hsat
        · have g' : ¬ (K v < (c33 (7 * R v + L v)).toInt) := fun z => g ((zb_lt v6 rfl).mpr z)
          rw [show (2 : Int32) * nI v = nI (2 * v) from pk_mul 2 v]
          refine ⟨i21, i21, zd_way (by omega) (by omega) v2 v1 (fun e h => ⟨(he e h).2.2.2.1, (he e h).2.2.2.2.2.2.1⟩) hok (by omega) (fun d25 d26 => ?_)⟩
          have hτ : τ ≠ [] := by
            obtain ⟨e, q1, _⟩ := hok.2.2.2.2 (R v) (L v) v2 v1 (fun z => v3 z.symm) (by omega)
            intro z
            rw [z] at q1
            exact absurd q1 (by simp)
          have hsat : ze_sat L R K M (2 * v) := by
            obtain ⟨s1, s2, s3⟩ := zd_e0 (L := L) (R := R) (K := K) v
            unfold ze_sat
            rw [s1, s2, s3]
            omega
          refine zb_assign i1 hn (by omega) hu'.1 (by rw [zd_ng0]; exact hu'.2) (fun e18 e19 e20 e21 hT' => ?_)
          rw [List.append_assoc] at hT' ⊢
          refine nm_r (nI_1 v) (ih (v + 1) (ρ ++ [2 * v]) e18 e19 e20 e21 d25 d26 1 (by omega) hT' ?_ (Or.inr ⟨rfl, by simp, hτ⟩) (fun z => absurd z (by simp)) (fun z => absurd z (by simp)))
          intro l hl
          rw [← List.append_assoc] at hl
          rcases List.mem_append.mp hl with z | z
          · exact i2 l z
          · rw [List.mem_singleton.mp z]
            exact hsat
      · refine nm_r (nI_1 v) (ih (v + 1) ρ b18 b19 b20 b21 b25 b26 any (by omega) i1 i2 i3 i4 (fun hρ v' hv' n1 n2 x hx => ?_))
        rcases Nat.lt_or_ge v' v with z | z
        · exact i5 hρ v' z n1 n2 x hx
        · have ev : v' = v := by omega
          rw [ev] at n1 n2
          rw [hρ, List.append_nil] at hu
          exact absurd (zb_va_un.mpr ⟨n1, n2⟩) hu
  refine ⟨n + 1, ?_⟩
  have := main n 0 [] a18 a19 a20 a21 a25 a26 0 rfl (by rw [List.append_nil]; exact hT) (by rw [List.append_nil]; exact hM) (Or.inl ⟨rfl, rfl⟩) (fun _ => ⟨rfl, rfl, rfl, rfl⟩) (fun _ v' hv' => absurd hv' (by omega))
  rw [List.append_nil] at this
  exact this
end
end
section
section
/-- literal j of the function clause c; o is the number of atoms -/
def zw_cl (o c j : Nat) : Nat := if j = 0 then 2 * (o + 4 * (c / 2)) + 1 else if j = 1 then 2 * (o + 4 * (c / 2)) + 3 else 2 * (o + 4 * (c / 2) + 2 + c % 2)
/-- the stock: C function clauses -/
def zw_st (o C : Nat) (a12 a13 a14 : Nat → Int32) : Prop := ∀ c, c < C → a12 c = nI (3 * c) ∧ a13 c = nI 3 ∧ ∀ j, j < 3 → a14 (3 * c + j) = nI (zw_cl o c j)
def zw_ch (nx : Nat → Int32) : List Nat → Int32 → Prop
  | [], h => h = -1
  | w :: ws, h => h = nI w ∧ zw_ch nx ws (nx w)
theorem zw_ch_upd {nx : Nat → Int32} {w : Nat} {x : Int32} : ∀ {l : List Nat} {h : Int32}, w ∉ l → zw_ch nx l h → zw_ch (upd nx w x) l h
  | [], _, _, hc => hc
  | y :: l, h, hw, hc => by
    have h1 : y ≠ w := fun e => hw (by rw [e]; exact List.mem_cons_self)
    refine ⟨hc.1, ?_⟩
    rw [pk_un h1]
    exact zw_ch_upd (fun z => hw (List.mem_cons_of_mem _ z)) hc.2
/-- W watchers: wt their literals, WL the lists, R the rest of the list of l that is being visited -/
def zw_wl (o W : Nat) (wt : Nat → Nat) (WL : Nat → List Nat) (R : List Nat) (l : Nat) (a15 a16 a17 : Nat → Int32) : Prop :=
  (∀ w, w < W → a17 w = nI (wt w) ∧ (∃ j, j < 3 ∧ wt w = zw_cl o (w / 2) j) ∧ wt w ≠ wt (zb_ng w)) ∧
  (∀ x, x < 42 → zw_ch a16 (WL x) (a15 x)) ∧
  (∀ x, x < 42 → (WL x).Nodup ∧ ∀ w, w ∈ WL x → w < W ∧ wt w = x) ∧
  R.Nodup ∧ (∀ w, w ∈ R → w < W ∧ wt w = l ∧ w ∉ WL l) ∧
  (∀ w, w < W → w ∈ WL (wt w) ∨ w ∈ R)
/-- a watched literal that is false and was visited: the other one is true -/
def zw_bc (τ : List Nat) (nw : Nat) (wt : Nat → Nat) (R : List Nat) : Prop := ∀ w, w < 12 → ∀ i, i < nw → τ[i]? = some (zb_ng (wt w)) → w ∈ R ∨ wt (zb_ng w) ∈ τ
def zw_good (o : Nat) (L R : Nat → Nat) (K M : Nat → Int) : Prop := ∀ c, c < 6 → ∃ j, j < 3 ∧ ze_sat L R K M (zw_cl o c j)
theorem zw_cl_lt {o n c j : Nat} (ho : o + 12 ≤ n) (hc : c < 6) : zw_cl o c j < 2 * n := by
  unfold zw_cl
  split
  · omega
  · split <;> omega
theorem zw_open {o W : Nat} {wt : Nat → Nat} {WL : Nat → List Nat} {l l0 : Nat} {a15 a16 a17 : Nat → Int32} (hl : l < 42) (h : zw_wl o W wt WL [] l0 a15 a16 a17) :
    zw_wl o W wt (fun x => if x = l then [] else WL x) (WL l) l (upd a15 l (-1)) a16 a17 := by
  obtain ⟨h1, h2, h3, h4, h5, h6⟩ := h
  refine ⟨h1, fun x hx => ?_, fun x hx => ?_, (h3 l hl).1, fun w hw => ⟨((h3 l hl).2 w hw).1, ((h3 l hl).2 w hw).2, by simp⟩, fun w hw => ?_⟩
  all_goals (try dsimp only)
  · by_cases e : x = l
    · rw [if_pos e, e, pk_us]
      rfl
    · rw [if_neg e, pk_un e]
      exact h2 x hx
  · by_cases e : x = l
    · rw [if_pos e]
      exact ⟨List.nodup_nil, fun w hw => absurd hw List.not_mem_nil⟩
    · rw [if_neg e]
      exact h3 x hx
  · rcases h6 w hw with g | g
    · by_cases e : wt w = l
      · rw [e] at g
        exact Or.inr g
      · rw [if_neg e]
        exact Or.inl g
    · exact absurd g List.not_mem_nil
theorem zw_back {o W : Nat} {wt : Nat → Nat} {WL : Nat → List Nat} {R : List Nat} {l w : Nat} {a15 a16 a17 : Nat → Int32} (hl : l < 42) (h : zw_wl o W wt WL (w :: R) l a15 a16 a17) :
    zw_wl o W wt (fun x => if x = l then w :: WL l else WL x) R l (upd a15 l (nI w)) (upd a16 w (a15 l)) (upd a17 w (nI l)) := by
  obtain ⟨h1, h2, h3, h4, h5, h6⟩ := h
  have hw := h5 w List.mem_cons_self
  have hnd := List.nodup_cons.mp h4
  refine ⟨fun y hy => ⟨?_, (h1 y hy).2⟩, fun x hx => ?_, fun x hx => ?_, hnd.2, fun y hy => ?_, fun y hy => ?_⟩
  all_goals (try dsimp only)
  · by_cases e : y = w
    · rw [e, pk_us, hw.2.1]
    · rw [pk_un e]
      exact (h1 y hy).1
  · by_cases e : x = l
    · rw [if_pos e, e, pk_us]
      refine ⟨rfl, ?_⟩
      rw [pk_us]
      exact zw_ch_upd hw.2.2 (h2 l hl)
    · rw [if_neg e, pk_un e]
      refine zw_ch_upd (fun z => e ?_) (h2 x hx)
      rw [← ((h3 x hx).2 w z).2]
      exact hw.2.1
  · by_cases e : x = l
    · rw [if_pos e]
      refine ⟨List.nodup_cons.mpr ⟨hw.2.2, (h3 l hl).1⟩, fun y hy => ?_⟩
      rcases List.mem_cons.mp hy with z | z
      · rw [z, e]
        exact ⟨hw.1, hw.2.1⟩
      · rw [e]
        exact (h3 l hl).2 y z
    · rw [if_neg e]
      exact h3 x hx
  · have hy' := h5 y (List.mem_cons_of_mem _ hy)
    refine ⟨hy'.1, hy'.2.1, ?_⟩
    rw [if_pos rfl]
    intro z
    rcases List.mem_cons.mp z with z | z
    · exact hnd.1 (z ▸ hy)
    · exact hy'.2.2 z
  · rcases h6 y hy with g | g
    · left
      by_cases e : wt y = l
      · rw [if_pos e]
        rw [e] at g
        exact List.mem_cons_of_mem _ g
      · rw [if_neg e]
        exact g
    · rcases List.mem_cons.mp g with g | g
      · left
        rw [g, hw.2.1, if_pos rfl]
        exact List.mem_cons_self
      · exact Or.inr g
theorem zw_move {o W : Nat} {wt : Nat → Nat} {WL : Nat → List Nat} {R : List Nat} {l w f j : Nat} {a15 a16 a17 : Nat → Int32} (hl : l < 42) (h : zw_wl o W wt WL (w :: R) l a15 a16 a17) (hf : f < 42) (hfl : f ≠ l) (hj : j < 3) (hfj : f = zw_cl o (w / 2) j) (hfb : f ≠ wt (zb_ng w)) :
    zw_wl o W (fun y => if y = w then f else wt y) (fun x => if x = f then w :: WL f else WL x) R l (upd a15 f (nI w)) (upd a16 w (a15 f)) (upd a17 w (nI f)) := by
  obtain ⟨h1, h2, h3, h4, h5, h6⟩ := h
  have hw := h5 w List.mem_cons_self
  have hnd := List.nodup_cons.mp h4
  have hwn : ∀ x, x < 42 → w ∉ WL x := by
    intro x hx z
    have e := ((h3 x hx).2 w z).2
    rw [hw.2.1] at e
    rw [← e] at z
    exact hw.2.2 z
  refine ⟨fun y hy => ⟨?_, ?_, ?_⟩, fun x hx => ?_, fun x hx => ?_, hnd.2, fun y hy => ?_, fun y hy => ?_⟩
  all_goals (try dsimp only)
  · by_cases e : y = w
    · rw [if_pos e, e, pk_us]
    · rw [if_neg e, pk_un e]
      exact (h1 y hy).1
  · by_cases e : y = w
    · rw [if_pos e, e]
      exact ⟨j, hj, hfj⟩
    · rw [if_neg e]
      exact (h1 y hy).2.1
  · by_cases e : y = w
    · rw [if_pos e, e, if_neg (zb_ng_ne w)]
      exact hfb
    · rw [if_neg e]
      by_cases e2 : zb_ng y = w
      · rw [if_pos e2]
        rw [← e2, zb_ng_ng] at hfb
        exact fun z => hfb z.symm
      · rw [if_neg e2]
        exact (h1 y hy).2.2
  · by_cases e : x = f
    · rw [if_pos e, e, pk_us]
      refine ⟨rfl, ?_⟩
      rw [pk_us]
      exact zw_ch_upd (hwn f hf) (h2 f hf)
    · rw [if_neg e, pk_un e]
      exact zw_ch_upd (hwn x hx) (h2 x hx)
  · by_cases e : x = f
    · rw [if_pos e]
      refine ⟨List.nodup_cons.mpr ⟨hwn f hf, (h3 f hf).1⟩, fun y hy => ?_⟩
      rcases List.mem_cons.mp hy with z | z
      · rw [z, if_pos rfl, e]
        exact ⟨hw.1, rfl⟩
      · have q := (h3 f hf).2 y z
        have ne : y ≠ w := fun e' => hwn f hf (e' ▸ z)
        rw [if_neg ne, e]
        exact q
    · rw [if_neg e]
      refine ⟨(h3 x hx).1, fun y hy => ?_⟩
      have ne : y ≠ w := fun e' => hwn x hx (e' ▸ hy)
      rw [if_neg ne]
      exact (h3 x hx).2 y hy
  · have hy' := h5 y (List.mem_cons_of_mem _ hy)
    have ne : y ≠ w := fun e' => hnd.1 (e' ▸ hy)
    rw [if_neg ne, if_neg (fun e => hfl e.symm)]
    exact hy'
  · by_cases e : y = w
    · left
      rw [if_pos e, if_pos rfl, e]
      exact List.mem_cons_self
    · rw [if_neg e]
      rcases h6 y hy with g | g
      · left
        by_cases e2 : wt y = f
        · rw [if_pos e2]
          rw [e2] at g
          exact List.mem_cons_of_mem _ g
        · rw [if_neg e2]
          exact g
      · rcases List.mem_cons.mp g with g | g
        · exact absurd g e
        · exact Or.inr g
theorem zw_bc_open {o : Nat} {τ : List Nat} {nw l0 m : Nat} {wt : Nat → Nat} {WL : Nat → List Nat} {a15 a16 a17 : Nat → Int32} (hw : zw_wl o 12 wt WL [] l0 a15 a16 a17) (h : zw_bc τ nw wt []) (hm : τ[nw]? = some m) : zw_bc τ (nw + 1) wt (WL (zb_ng m)) := by
  intro w hw12 i hi hit
  rcases Nat.lt_or_ge i nw with g | g
  · rcases h w hw12 i g hit with z | z
    · exact absurd z List.not_mem_nil
    · exact Or.inr z
  · have e : i = nw := by omega
    rw [e, hm] at hit
    have e2 : m = zb_ng (wt w) := Option.some.inj hit
    rcases hw.2.2.2.2.2 w hw12 with z | z
    · left
      rw [e2, zb_ng_ng]
      exact z
    · exact absurd z List.not_mem_nil
theorem zw_bc_back {τ : List Nat} {nw w : Nat} {wt : Nat → Nat} {R : List Nat} (h : zw_bc τ nw wt (w :: R)) (hb : wt (zb_ng w) ∈ τ) : zw_bc τ nw wt R := by
  intro y hy i hi hit
  rcases h y hy i hi hit with z | z
  · rcases List.mem_cons.mp z with z | z
    · rw [z]
      exact Or.inr hb
    · exact Or.inl z
  · exact Or.inr z
theorem zw_bc_push {τ : List Nat} {nw x : Nat} {wt : Nat → Nat} {R : List Nat} (h : zw_bc τ nw wt R) (hn : nw ≤ τ.length) : zw_bc (τ ++ [x]) nw wt R := by
  intro y hy i hi hit
  rw [List.getElem?_append_left (by omega)] at hit
  rcases h y hy i hi hit with z | z
  · exact Or.inl z
  · exact Or.inr (List.mem_append.mpr (Or.inl z))
theorem zw_bc_ext {τ ρ : List Nat} {nw : Nat} {wt : Nat → Nat} {R : List Nat} (h : zw_bc τ nw wt R) (hn : nw ≤ τ.length) : zw_bc (τ ++ ρ) nw wt R := by
  intro y hy i hi hit
  rw [List.getElem?_append_left (by omega)] at hit
  rcases h y hy i hi hit with z | z
  · exact Or.inl z
  · exact Or.inr (List.mem_append.mpr (Or.inl z))
theorem zw_bc_move {τ : List Nat} {nw w l f : Nat} {wt : Nat → Nat} {R : List Nat} (h : zw_bc τ nw wt (w :: R)) (hf : zb_ng f ∉ τ) (hl : l ∉ τ) (hw : wt w = l) : zw_bc τ nw (fun y => if y = w then f else wt y) R := by
  intro y hy i hi hit
  try dsimp only at hit ⊢
  by_cases e : y = w
  · rw [if_pos e] at hit
    exact absurd (zb_mem_of hit) hf
  · rw [if_neg e] at hit
    rcases h y hy i hi hit with z | z
    · rcases List.mem_cons.mp z with z | z
      · exact absurd z e
      · exact Or.inl z
    · right
      by_cases e2 : zb_ng y = w
      · rw [e2, hw] at z
        exact absurd z hl
      · rw [if_neg e2]
        exact z
end
section
variable {f0_atomCount f0_clauseCount f0_drafted f0_opened f0_variables f0_stock f0_stored f0_hopeless f0_trailSize f0_nextWatch f0_nextEdge f0_depth f0_bump f0_conflictSize f0_learnedSize f0_assumed f0_counted : Int32} {a1 a2 a3 a4 a5 a6 a7 a8 a9 a10 a11 a12 a13 a14 a15 a16 a17 a18 a19 a20 a21 a22 a23 a24 a25 a26 a27 a28 a29 a30 a31 a32 a33 a34 a35 a36 a37 a38 : Nat → Int32}
theorem zw_other {post : Int32 → Prop} {n o c bs : Nat} {τ : List Nat} (hT : zb_tr n τ a18 a21) (hn : n ≤ 21) (ho : o + 12 ≤ n) (hc : c < 6) (hb : bs < 42) (hst : zw_st o 6 a12 a13 a14)
    (HF : ∀ j, j < 3 → zw_cl o c j ≠ bs → zb_ng (zw_cl o c j) ∉ τ → post (nI (zw_cl o c j)))
    (HN : (∀ j, j < 3 → zw_cl o c j = bs ∨ zb_ng (zw_cl o c j) ∈ τ) → post (-1)) : wpX_otherWatch post (f0_atomCount, f0_clauseCount, f0_drafted, f0_opened, f0_variables, f0_stock, f0_stored, f0_hopeless, f0_trailSize, f0_nextWatch, f0_nextEdge, f0_depth, f0_bump, f0_conflictSize, f0_learnedSize, f0_assumed, f0_counted, a1, a2, a3, a4, a5, a6, a7, a8, a9, a10, a11, a12, a13, a14, a15, a16, a17, a18, a19, a20, a21, a22, a23, a24, a25, a26, a27, a28, a29, a30, a31, a32, a33, a34, a35, a36, a37, a38) (nI c) (nI bs) := by
  obtain ⟨s1, s2, s3⟩ := hst c hc
  have i400 := vp_in_nI (n := c) (N := 400) (by omega) (by decide)
  have main : ∀ k i, k + i = 3 → (∀ j, j < i → zw_cl o c j = bs ∨ zb_ng (zw_cl o c j) ∈ τ) → wX_otherWatch_2 post (nI c) (nI bs) f0_atomCount f0_clauseCount f0_drafted f0_opened f0_variables f0_stock f0_stored f0_hopeless f0_trailSize f0_nextWatch f0_nextEdge f0_depth f0_bump f0_conflictSize f0_learnedSize f0_assumed f0_counted a1 a2 a3 a4 a5 a6 a7 a8 a9 a10 a11 a12 a13 a14 a15 a16 a17 a18 a19 a20 a21 a22 a23 a24 a25 a26 a27 a28 a29 a30 a31 a32 a33 a34 a35 a36 a37 a38 (k + 1) (nI i) := by
    intro k
    induction k with
    | zero =>
      intro i hk h
      refine ⟨i400, ?_⟩
      rw [nI_clamp (show c < 2 ^ 31 by omega), s2]
      exact pk_le 3 i (fun _ => HN (fun j hj => h j (by omega))) (fun z => absurd z (by omega))
    | succ k ih =>
      intro i hk h
      have hx := zw_cl_lt (j := i) ho hc
      refine ⟨i400, ?_⟩
      rw [nI_clamp (show c < 2 ^ 31 by omega), s2, s1, nI_add, nI_clamp (show 3 * c + i < 2 ^ 31 by omega), s3 i (by omega)]
      refine pk_le 3 i (fun z => absurd z (by omega)) (fun _ => ⟨i400, vp_in_nI (by omega) (by decide), nm_e ?_⟩)
      have nxt : (zw_cl o c i = bs ∨ zb_ng (zw_cl o c i) ∈ τ) → wX_otherWatch_2 post (nI c) (nI bs) f0_atomCount f0_clauseCount f0_drafted f0_opened f0_variables f0_stock f0_stored f0_hopeless f0_trailSize f0_nextWatch f0_nextEdge f0_depth f0_bump f0_conflictSize f0_learnedSize f0_assumed f0_counted a1 a2 a3 a4 a5 a6 a7 a8 a9 a10 a11 a12 a13 a14 a15 a16 a17 a18 a19 a20 a21 a22 a23 a24 a25 a26 a27 a28 a29 a30 a31 a32 a33 a34 a35 a36 a37 a38 (k + 1) (nI (i + 1)) := fun hz => ih (i + 1) (by omega) (fun j hj => by
        rcases Nat.lt_or_ge j i with g | g
        · exact h j g
        · rw [show j = i by omega]
          exact hz)
      refine pk_eq (zw_cl o c i) bs (fun z => nm_r (nI_1 i) (nxt (Or.inl z))) (fun z => ?_)
      exact zb_truth hT hn hx (fun q => br_f (by decide) (HF i (by omega) z (zb_tr_con hT q))) (fun q => br_t rfl (nm_r (nI_1 i) (nxt (Or.inr q)))) (fun q1 q2 => br_f (by decide) (HF i (by omega) z q2))
  unfold wpX_otherWatch
  try dsimp only
  exact ⟨4, main 3 0 rfl (fun j hj => absurd hj (by omega))⟩
theorem zw_19 {post : Int32 → St2 → Prop} {n o l nw : Nat} {τ : List Nat} {L R : Nat → Nat} {K M : Nat → Int} {B : Prop} (hn : n ≤ 21) (ho : o + 12 ≤ n) (hst : zw_st o 6 a12 a13 a14) (hgd : zw_good o L R K M) (hl : l < 2 * n)
    (H : ∀ ρ wt WL b15 b16 b17 b18 b19 b20 b21, zb_tr n (τ ++ ρ) b18 b21 → (∀ x, x ∈ τ ++ ρ → ze_sat L R K M x) → zw_wl o 12 wt WL [] l b15 b16 b17 → (B → zw_bc (τ ++ ρ) nw wt []) →
      post 1 (f0_atomCount, f0_clauseCount, f0_drafted, f0_opened, f0_variables, f0_stock, f0_stored, f0_hopeless, nI (τ ++ ρ).length, f0_nextWatch, f0_nextEdge, f0_depth, f0_bump, f0_conflictSize, f0_learnedSize, f0_assumed, f0_counted, a1, a2, a3, a4, a5, a6, a7, a8, a9, a10, a11, a12, a13, a14, b15, b16, b17, b18, b19, b20, b21, a22, a23, a24, a25, a26, a27, a28, a29, a30, a31, a32, a33, a34, a35, a36, a37, a38)) :
    ∀ Rm i ρ wt WL b15 b16 b17 b18 b19 b20 b21 hd, i + Rm.length ≤ 20 → nw ≤ (τ ++ ρ).length → zb_ng l ∈ τ ++ ρ → zb_tr n (τ ++ ρ) b18 b21 → (∀ x, x ∈ τ ++ ρ → ze_sat L R K M x) → zw_ch b16 Rm hd → zw_wl o 12 wt WL Rm l b15 b16 b17 → (B → zw_bc (τ ++ ρ) nw wt Rm) →
      wX_visit_19 post (nI l) (Rm.length + 1) hd 1 (nI i) f0_atomCount f0_clauseCount f0_drafted f0_opened f0_variables f0_stock f0_stored f0_hopeless (nI (τ ++ ρ).length) f0_nextWatch f0_nextEdge f0_depth f0_bump f0_conflictSize f0_learnedSize f0_assumed f0_counted a1 a2 a3 a4 a5 a6 a7 a8 a9 a10 a11 a12 a13 a14 b15 b16 b17 b18 b19 b20 b21 a22 a23 a24 a25 a26 a27 a28 a29 a30 a31 a32 a33 a34 a35 a36 a37 a38 := by
  intro Rm
  induction Rm with
  | nil =>
    intro i ρ wt WL b15 b16 b17 b18 b19 b20 b21 hd hi hnw hng hT hM hch hwl hbc
    have e : hd = -1 := hch
    rw [e]
    exact pk_le 800 i (fun z => absurd hi (by omega)) (fun _ => br_t rfl ⟨zb_nar1, H ρ wt WL _ _ _ _ _ _ _ hT hM hwl hbc⟩)
  | cons w Rm ih =>
    intro i ρ wt WL b15 b16 b17 b18 b19 b20 b21 hd hi hnw hng hT hM hch hwl hbc
    rw [List.length_cons] at hi
    have hw := hwl.2.2.2.2.1 w List.mem_cons_self
    have hwR : w ∉ Rm := (List.nodup_cons.mp hwl.2.2.2.1).1
    have hgw : zb_ng w < 12 := zb_ng_lt (n := 6) hw.1
    obtain ⟨g1, ⟨jb, gj, g2⟩, g3⟩ := hwl.1 (zb_ng w) hgw
    have hbs : wt (zb_ng w) < 2 * n := by
      rw [g2]
      exact zw_cl_lt ho (by omega)
    have hhalf := zb_ng_half w
    have hlT : l ∉ τ ++ ρ := zb_tr_con' hT hng
    rw [hch.1]
    -- putting the watcher back into the list of l
    have back : ∀ ρ' c18 c19 c20 c21, nw ≤ (τ ++ ρ').length → zb_ng l ∈ τ ++ ρ' → zb_tr n (τ ++ ρ') c18 c21 → (∀ x, x ∈ τ ++ ρ' → ze_sat L R K M x) → wt (zb_ng w) ∈ τ ++ ρ' → (B → zw_bc (τ ++ ρ') nw wt (w :: Rm)) →
        wX_visit_134 post (wX_visit_19 post (nI l) (Rm.length + 1)) (nI l) (nI w) 1 (nI i) (b16 w) (nI l) f0_atomCount f0_clauseCount f0_drafted f0_opened f0_variables f0_stock f0_stored f0_hopeless (nI (τ ++ ρ').length) f0_nextWatch f0_nextEdge f0_depth f0_bump f0_conflictSize f0_learnedSize f0_assumed f0_counted a1 a2 a3 a4 a5 a6 a7 a8 a9 a10 a11 a12 a13 a14 b15 b16 b17 c18 c19 c20 c21 a22 a23 a24 a25 a26 a27 a28 a29 a30 a31 a32 a33 a34 a35 a36 a37 a38 := by
      intro ρ' c18 c19 c20 c21 k1 k2 k3 k4 k5 k6
      refine zb_watch (by omega) (by omega) (nm_r (nI_1 i) ?_)
      exact ih (i + 1) ρ' wt _ _ _ _ _ _ _ _ _ (by omega) k1 k2 k3 k4 (zw_ch_upd hwR hch.2) (zw_back (by omega) hwl) (fun b => zw_bc_back (k6 b) k5)
    refine pk_le 800 i (fun z => absurd hi (by omega)) (fun _ => br_f (zb_nm1 (by omega)) ?_)
    rw [nI_clamp (show w < 2 ^ 31 by omega), zb_xor w (by omega), nI_clamp (show zb_ng w < 2 ^ 31 by omega), g1, zb_shr w (by omega)]
    refine ⟨vp_in_nI (by omega) (by decide), nm_e ⟨vp_in_nI (by omega) (by decide), nm_e (br_f (by decide) ?_)⟩⟩
    have rest : wt (zb_ng w) ∉ τ ++ ρ → wpX_otherWatch (fun r_149 => (((r_149 = (-1) → (wX_visit_90 post (wX_visit_19 post (nI l) (Rm.length + 1)) (nI l) (nI w) 1 (nI i) (b16 w) (nI (wt (zb_ng w))) r_149 (nI l) f0_atomCount f0_clauseCount f0_drafted f0_opened f0_variables f0_stock f0_stored f0_hopeless (nI (τ ++ ρ).length) f0_nextWatch f0_nextEdge f0_depth f0_bump f0_conflictSize f0_learnedSize f0_assumed f0_counted a1 a2 a3 a4 a5 a6 a7 a8 a9 a10 a11 a12 a13 a14 b15 b16 b17 b18 b19 b20 b21 a22 a23 a24 a25 a26 a27 a28 a29 a30 a31 a32 a33 a34 a35 a36 a37 a38)) ∧ (¬ r_149 = (-1) → (wX_visit_90 post (wX_visit_19 post (nI l) (Rm.length + 1)) (nI l) (nI w) 1 (nI i) (b16 w) (nI (wt (zb_ng w))) r_149 r_149 f0_atomCount f0_clauseCount f0_drafted f0_opened f0_variables f0_stock f0_stored f0_hopeless (nI (τ ++ ρ).length) f0_nextWatch f0_nextEdge f0_depth f0_bump f0_conflictSize f0_learnedSize f0_assumed f0_counted a1 a2 a3 a4 a5 a6 a7 a8 a9 a10 a11 a12 a13 a14 b15 b16 b17 b18 b19 b20 b21 a22 a23 a24 a25 a26 a27 a28 a29 a30 a31 a32 a33 a34 a35 a36 a37 a38))))) (f0_atomCount, f0_clauseCount, f0_drafted, f0_opened, f0_variables, f0_stock, f0_stored, f0_hopeless, nI (τ ++ ρ).length, f0_nextWatch, f0_nextEdge, f0_depth, f0_bump, f0_conflictSize, f0_learnedSize, f0_assumed, f0_counted, a1, a2, a3, a4, a5, a6, a7, a8, a9, a10, a11, a12, a13, a14, b15, b16, b17, b18, b19, b20, b21, a22, a23, a24, a25, a26, a27, a28, a29, a30, a31, a32, a33, a34, a35, a36, a37, a38) (nI (w / 2)) (nI (wt (zb_ng w))) := by
      intro hbt
      refine zw_other hT hn ho (by omega) (by omega) hst (fun j hj q1 q2 => ?_) (fun hall => ?_)
      · -- another literal is found: the watcher moves
        have hf := zw_cl_lt (j := j) ho (show w / 2 < 6 by omega)
        have hm1 := zb_nm1 (r := zw_cl o (w / 2) j) (by omega)
        have hfl : zw_cl o (w / 2) j ≠ l := fun e => q2 (by rw [e]; exact hng)
        refine br_f hm1 (br_f hm1 (br_f hm1 ?_))
        refine zb_watch (by omega) (by omega) (nm_r (nI_1 i) ?_)
        exact ih (i + 1) ρ _ _ _ _ _ _ _ _ _ _ (by omega) hnw hng hT hM (zw_ch_upd hwR hch.2) (zw_move (by omega) hwl (by omega) hfl hj rfl q1) (fun b => zw_bc_move (hbc b) q2 hlT hw.2.1)
      · -- none: the literal beside follows
        have hsat : ze_sat L R K M (wt (zb_ng w)) ∧ zb_ng (wt (zb_ng w)) ∉ τ ++ ρ := by
          obtain ⟨j, hj, hs⟩ := hgd (w / 2) (by omega)
          have key : ∀ x, ze_sat L R K M x → zb_ng x ∉ τ ++ ρ := by
            intro x hx hm
            have h2 := hM _ hm
            unfold ze_sat ze_f ze_t ze_w at hx h2
            rw [zb_ng_half x] at h2
            rcases Nat.mod_two_eq_zero_or_one x with p | p
            · rw [if_pos p, if_pos p, if_pos p] at hx
              have p2 : ¬ (zb_ng x % 2 = 0) := by rw [zb_ng_e p]; omega
              rw [if_neg p2, if_neg p2, if_neg p2] at h2
              omega
            · have p3 : ¬ (x % 2 = 0) := by omega
              rw [if_neg p3, if_neg p3, if_neg p3] at hx
              have p2 : zb_ng x % 2 = 0 := by rw [zb_ng_o p]; omega
              rw [if_pos p2, if_pos p2, if_pos p2] at h2
              omega
          rcases hall j hj with z | z
          · rw [z] at hs
            exact ⟨hs, key _ hs⟩
          · exact absurd z (key _ hs)
        refine br_t rfl (br_t rfl ?_)
        refine zb_truth hT hn hbs (fun q => absurd q hbt) (fun q => absurd q hsat.2) (fun q1 q2 => br_f (by decide) (br_t rfl ?_))
        rw [zb_shr w (by omega)]
        refine zb_assign hT hn hbs q1 q2 (fun c18 c19 c20 c21 hT' => ?_)
        rw [List.append_assoc] at hT' ⊢
        refine back (ρ ++ [wt (zb_ng w)]) c18 c19 c20 c21 ?_ ?_ hT' ?_ ?_ (fun b => ?_)
        · rw [← List.append_assoc, List.length_append]
          omega
        · rw [← List.append_assoc]
          exact List.mem_append.mpr (Or.inl hng)
        · intro x hx
          rw [← List.append_assoc] at hx
          rcases List.mem_append.mp hx with z | z
          · exact hM x z
          · rw [List.mem_singleton.mp z]
            exact hsat.1
        · rw [← List.append_assoc]
          exact List.mem_append.mpr (Or.inr List.mem_cons_self)
        · rw [← List.append_assoc]
          exact zw_bc_push (hbc b) hnw
    exact zb_truth hT hn hbs (fun q => br_t rfl (back ρ _ _ _ _ hnw hng hT hM q hbc)) (fun q => br_f (by decide) (rest (zb_tr_con' hT q))) (fun q _ => br_f (by decide) (rest q))
theorem zw_visit {post : Int32 → St2 → Prop} {n o m nw l0 : Nat} {τ : List Nat} {L R : Nat → Nat} {K M : Nat → Int} {B : Prop} {wt : Nat → Nat} {WL : Nat → List Nat} (hn : n ≤ 21) (ho : o + 12 ≤ n) (hst : zw_st o 6 a12 a13 a14) (hgd : zw_good o L R K M)
    (hm : τ[nw]? = some m) (hT : zb_tr n τ a18 a21) (hM : ∀ x, x ∈ τ → ze_sat L R K M x) (hwl : zw_wl o 12 wt WL [] l0 a15 a16 a17) (hbc : B → zw_bc τ nw wt [])
    (H : ∀ ρ wt WL b15 b16 b17 b18 b19 b20 b21, zb_tr n (τ ++ ρ) b18 b21 → (∀ x, x ∈ τ ++ ρ → ze_sat L R K M x) → zw_wl o 12 wt WL [] (zb_ng m) b15 b16 b17 → (B → zw_bc (τ ++ ρ) (nw + 1) wt []) →
      post 1 (f0_atomCount, f0_clauseCount, f0_drafted, f0_opened, f0_variables, f0_stock, f0_stored, f0_hopeless, nI (τ ++ ρ).length, f0_nextWatch, f0_nextEdge, f0_depth, f0_bump, f0_conflictSize, f0_learnedSize, f0_assumed, f0_counted, a1, a2, a3, a4, a5, a6, a7, a8, a9, a10, a11, a12, a13, a14, b15, b16, b17, b18, b19, b20, b21, a22, a23, a24, a25, a26, a27, a28, a29, a30, a31, a32, a33, a34, a35, a36, a37, a38)) :
    wpX_visit post (f0_atomCount, f0_clauseCount, f0_drafted, f0_opened, f0_variables, f0_stock, f0_stored, f0_hopeless, nI τ.length, f0_nextWatch, f0_nextEdge, f0_depth, f0_bump, f0_conflictSize, f0_learnedSize, f0_assumed, f0_counted, a1, a2, a3, a4, a5, a6, a7, a8, a9, a10, a11, a12, a13, a14, a15, a16, a17, a18, a19, a20, a21, a22, a23, a24, a25, a26, a27, a28, a29, a30, a31, a32, a33, a34, a35, a36, a37, a38) (nI (zb_ng m)) := by
  have hmT := zb_mem_of hm
  have hlt := zb_lt_of hm
  have hm2 := zb_ng_lt (hT.1 m hmT)
  have i42 := vp_in_nI (n := zb_ng m) (N := 42) (by omega) (by decide)
  unfold wpX_visit
  try dsimp only
  rw [nI_clamp (show zb_ng m < 2 ^ 31 by omega)]
  refine ⟨i42, nm_e ⟨i42, nm_e ⟨(WL (zb_ng m)).length + 1, ?_⟩⟩⟩
  have hlen : (WL (zb_ng m)).length ≤ 12 := zb_pig 12 _ (hwl.2.2.1 _ (by omega)).1 (fun x hx => ((hwl.2.2.1 _ (by omega)).2 x hx).1)
  have key := zw_19 (nw := nw + 1) (B := B) hn ho hst hgd hm2 H (WL (zb_ng m)) 0 [] wt (fun x => if x = zb_ng m then [] else WL x) (upd a15 (zb_ng m) (-1)) a16 a17 a18 a19 a20 a21 (a15 (zb_ng m)) (by omega)
    (by rw [List.append_nil]; omega) (by rw [List.append_nil, zb_ng_ng]; exact hmT) (by rw [List.append_nil]; exact hT) (by rw [List.append_nil]; exact hM) (hwl.2.1 _ (by omega)) (zw_open (by omega) hwl) (by rw [List.append_nil]; exact fun b => zw_bc_open hwl (hbc b) hm)
  rw [List.append_nil] at key
  exact key
theorem zw_prop {post : Int32 → St2 → Prop} {n o nw l0 : Nat} {τ : List Nat} {L R : Nat → Nat} {K M : Nat → Int} {B : Prop} {wt : Nat → Nat} {WL : Nat → List Nat} (hn : n ≤ 21) (ho : o + 12 ≤ n) (hst : zw_st o 6 a12 a13 a14) (hgd : zw_good o L R K M)
    (hnw : nw ≤ τ.length) (hT : zb_tr n τ a18 a21) (hM : ∀ x, x ∈ τ → ze_sat L R K M x) (hwl : zw_wl o 12 wt WL [] l0 a15 a16 a17) (hbc : B → zw_bc τ nw wt [])
    (H : ∀ ρ wt WL l0 b15 b16 b17 b18 b19 b20 b21, (τ = [] → ρ = []) → zb_tr n (τ ++ ρ) b18 b21 → (∀ x, x ∈ τ ++ ρ → ze_sat L R K M x) → zw_wl o 12 wt WL [] l0 b15 b16 b17 → (B → zw_bc (τ ++ ρ) (τ ++ ρ).length wt []) →
      post 1 (f0_atomCount, f0_clauseCount, f0_drafted, f0_opened, f0_variables, f0_stock, f0_stored, f0_hopeless, nI (τ ++ ρ).length, nI (τ ++ ρ).length, f0_nextEdge, f0_depth, f0_bump, f0_conflictSize, f0_learnedSize, f0_assumed, f0_counted, a1, a2, a3, a4, a5, a6, a7, a8, a9, a10, a11, a12, a13, a14, b15, b16, b17, b18, b19, b20, b21, a22, a23, a24, a25, a26, a27, a28, a29, a30, a31, a32, a33, a34, a35, a36, a37, a38)) :
    wpX_propagateWatches post (f0_atomCount, f0_clauseCount, f0_drafted, f0_opened, f0_variables, f0_stock, f0_stored, f0_hopeless, nI τ.length, nI nw, f0_nextEdge, f0_depth, f0_bump, f0_conflictSize, f0_learnedSize, f0_assumed, f0_counted, a1, a2, a3, a4, a5, a6, a7, a8, a9, a10, a11, a12, a13, a14, a15, a16, a17, a18, a19, a20, a21, a22, a23, a24, a25, a26, a27, a28, a29, a30, a31, a32, a33, a34, a35, a36, a37, a38) := by
  have main : ∀ k nw i ρ wt WL l0 b15 b16 b17 b18 b19 b20 b21, k + nw = n → (τ = [] → ρ = []) → i ≤ nw → nw ≤ (τ ++ ρ).length → zb_tr n (τ ++ ρ) b18 b21 → (∀ x, x ∈ τ ++ ρ → ze_sat L R K M x) → zw_wl o 12 wt WL [] l0 b15 b16 b17 → (B → zw_bc (τ ++ ρ) nw wt []) →
      wX_propagateWatches_4 post (k + 1) 1 (nI i) f0_atomCount f0_clauseCount f0_drafted f0_opened f0_variables f0_stock f0_stored f0_hopeless (nI (τ ++ ρ).length) (nI nw) f0_nextEdge f0_depth f0_bump f0_conflictSize f0_learnedSize f0_assumed f0_counted a1 a2 a3 a4 a5 a6 a7 a8 a9 a10 a11 a12 a13 a14 b15 b16 b17 b18 b19 b20 b21 a22 a23 a24 a25 a26 a27 a28 a29 a30 a31 a32 a33 a34 a35 a36 a37 a38 := by
    intro k
    induction k with
    | zero =>
      intro nw i ρ wt WL l0 b15 b16 b17 b18 b19 b20 b21 hk h0 hi h1 h2 h3 h4 h5
      have hlen := zb_tr_len h2
      have e : nw = (τ ++ ρ).length := by omega
      rw [e] at h5 ⊢
      exact pk_lt 21 i (fun z => absurd z (by omega)) (fun _ => br_f (by decide) (pk_le (τ ++ ρ).length (τ ++ ρ).length (fun _ => ⟨zb_nar1, H ρ wt WL l0 _ _ _ _ _ _ _ h0 h2 h3 h4 h5⟩) (fun z => absurd z (by omega))))
    | succ k ih =>
      intro nw i ρ wt WL l0 b15 b16 b17 b18 b19 b20 b21 hk h0 hi h1 h2 h3 h4 h5
      have hlen := zb_tr_len h2
      refine pk_lt 21 i (fun z => absurd z (by omega)) (fun _ => br_f (by decide) (pk_le (τ ++ ρ).length nw (fun z => ?_) (fun z => ?_)))
      · have e : nw = (τ ++ ρ).length := by omega
        rw [e] at h5 ⊢
        exact ⟨zb_nar1, H ρ wt WL l0 _ _ _ _ _ _ _ h0 h2 h3 h4 h5⟩
      · have hm := zb_getD z
        have hm' := zb_mem_of hm
        have hlt := h2.1 _ hm'
        rw [nI_clamp (show nw < 2 ^ 31 by omega), h2.2.2.1 nw _ hm]
        refine ⟨vp_in_nI (by omega) (by decide), nm_e (nm_r (nI_1 nw) ?_)⟩
        rw [zb_xor _ (by omega)]
        refine zw_visit (B := B) hn ho hst hgd hm h2 h3 h4 h5 (fun ρ' wt' WL' c15 c16 c17 c18 c19 c20 c21 g1 g2 g3 g4 => nm_r (nI_1 i) ?_)
        rw [List.append_assoc] at g1 g2 g4 ⊢
        refine ih (nw + 1) (i + 1) (ρ ++ ρ') wt' WL' _ _ _ _ _ _ _ _ (by omega) (fun e => ?_) (by omega) ?_ g1 g2 g3 g4
        · rw [e, h0 e] at z
          exact absurd z (by simp)
        · rw [← List.append_assoc, List.length_append]
          omega
  have hlen := zb_tr_len hT
  unfold wpX_propagateWatches
  try dsimp only
  refine ⟨n - nw + 1, ?_⟩
  have key := main (n - nw) nw 0 [] wt WL l0 a15 a16 a17 a18 a19 a20 a21 (by omega) (fun _ => rfl) (by omega) (by rw [List.append_nil]; exact hnw) (by rw [List.append_nil]; exact hT) (by rw [List.append_nil]; exact hM) hwl (by rw [List.append_nil]; exact hbc)
  rw [List.append_nil] at key
  exact key
end
end
section
section
theorem zp_egx {L R : Nat → Nat} {K : Nat → Int} {τ ρ : List Nat} {ne : Nat} {a27 a28 a29 : Nat → Int32} (h : ze_eg L R K τ ne a27 a28 a29) (hn : ne ≤ τ.length) : ze_eg L R K (τ ++ ρ) ne a27 a28 a29 := by
  intro i l hi hil
  rw [List.getElem?_append_left (by omega)] at hil
  exact h i l hi hil
theorem zp_lvx {L R : Nat → Nat} {K : Nat → Int} {τ ρ : List Nat} {ne : Nat} {M : Nat → Int} {s : Int} {a30 : Nat → Int32} (h : ze_lv L R K τ ne M s a30) (hn : ne ≤ τ.length) : ze_lv L R K (τ ++ ρ) ne M s a30 := by
  refine ⟨fun i l hi hil => ?_, h.2⟩
  rw [List.getElem?_append_left (by omega)] at hil
  exact h.1 i l hi hil
/-- what holds of the search's state: trail τ, nw of it visited, ne of it edges -/
def zp_iv (B : Prop) (n o : Nat) (L R : Nat → Nat) (K M : Nat → Int) (s : Int) (τ : List Nat) (nw ne : Nat) (wt : Nat → Nat) (WL : Nat → List Nat) (l0 : Nat) (a15 a16 a17 a18 a21 a27 a28 a29 a30 : Nat → Int32) : Prop :=
  zb_tr n τ a18 a21 ∧ (∀ x, x ∈ τ → ze_sat L R K M x) ∧ zw_wl o 12 wt WL [] l0 a15 a16 a17 ∧ (B → zw_bc τ nw wt []) ∧ ze_eg L R K τ ne a27 a28 a29 ∧ ze_lv L R K τ ne M s a30 ∧ nw ≤ τ.length ∧ ne ≤ τ.length
variable {f0_atomCount f0_clauseCount f0_drafted f0_opened f0_variables f0_stock f0_stored f0_hopeless f0_trailSize f0_nextWatch f0_nextEdge f0_depth f0_bump f0_conflictSize f0_learnedSize f0_assumed f0_counted : Int32} {a1 a2 a3 a4 a5 a6 a7 a8 a9 a10 a11 a12 a13 a14 a15 a16 a17 a18 a19 a20 a21 a22 a23 a24 a25 a26 a27 a28 a29 a30 a31 a32 a33 a34 a35 a36 a37 a38 : Nat → Int32}
theorem zp_prop {post : Int32 → St2 → Prop} {B : Prop} {n o nw ne l0 : Nat} {τ : List Nat} {L R : Nat → Nat} {K M : Nat → Int} {s : Int} {wt : Nat → Nat} {WL : Nat → List Nat} (hv : ze_vs n L R K a9 a10 a11) (hn : n ≤ 21) (ho : o + 12 ≤ n) (hst : zw_st o 6 a12 a13 a14)
    (hgd : zw_good o L R K M) (hB : ∀ x, x < 7 → -200 ≤ M x ∧ M x ≤ 200) (hs : s ≤ 20000) (hi : zp_iv B n o L R K M s τ nw ne wt WL l0 a15 a16 a17 a18 a21 a27 a28 a29 a30)
    (H : ∀ ρ wt WL l0 b15 b16 b17 b18 b19 b20 b21 b25 b26 b27 b28 b29 b30 b31 b32 b33 b34, (τ = [] → ρ = []) → zp_iv B n o L R K M s (τ ++ ρ) (τ ++ ρ).length (τ ++ ρ).length wt WL l0 b15 b16 b17 b18 b21 b27 b28 b29 b30 → zd_cl n L R K (τ ++ ρ) →
      post 1 (f0_atomCount, f0_clauseCount, f0_drafted, f0_opened, nI n, f0_stock, f0_stored, f0_hopeless, nI (τ ++ ρ).length, nI (τ ++ ρ).length, nI (τ ++ ρ).length, f0_depth, f0_bump, f0_conflictSize, f0_learnedSize, f0_assumed, f0_counted, a1, a2, a3, a4, a5, a6, a7, a8, a9, a10, a11, a12, a13, a14, b15, b16, b17, b18, b19, b20, b21, a22, a23, a24, b25, b26, b27, b28, b29, b30, b31, b32, b33, b34, a35, a36, a37, a38)) :
    wpX_propagate post (f0_atomCount, f0_clauseCount, f0_drafted, f0_opened, nI n, f0_stock, f0_stored, f0_hopeless, nI τ.length, nI nw, nI ne, f0_depth, f0_bump, f0_conflictSize, f0_learnedSize, f0_assumed, f0_counted, a1, a2, a3, a4, a5, a6, a7, a8, a9, a10, a11, a12, a13, a14, a15, a16, a17, a18, a19, a20, a21, a22, a23, a24, a25, a26, a27, a28, a29, a30, a31, a32, a33, a34, a35, a36, a37, a38) := by
  have main : ∀ k i ρ nw ne wt WL l0 b15 b16 b17 b18 b19 b20 b21 b25 b26 b27 b28 b29 b30 b31 b32 b33 b34, n ≤ k + (τ ++ ρ).length → i ≤ (τ ++ ρ).length → (τ = [] → ρ = []) →
      zp_iv B n o L R K M s (τ ++ ρ) nw ne wt WL l0 b15 b16 b17 b18 b21 b27 b28 b29 b30 →
      wX_propagate_6 post (k + 2) 1 1 (nI i) f0_atomCount f0_clauseCount f0_drafted f0_opened (nI n) f0_stock f0_stored f0_hopeless (nI (τ ++ ρ).length) (nI nw) (nI ne) f0_depth f0_bump f0_conflictSize f0_learnedSize f0_assumed f0_counted a1 a2 a3 a4 a5 a6 a7 a8 a9 a10 a11 a12 a13 a14 b15 b16 b17 b18 b19 b20 b21 a22 a23 a24 b25 b26 b27 b28 b29 b30 b31 b32 b33 b34 a35 a36 a37 a38 := by
    intro k
    induction k with
    | zero =>
      intro i ρ nw ne wt WL l0 b15 b16 b17 b18 b19 b20 b21 b25 b26 b27 b28 b29 b30 b31 b32 b33 b34 hk hi h0 ⟨j1, j2, j3, j4, j5, j6, j7, j8⟩
      have hlen := zb_tr_len j1
      refine pk_lt 42 i (fun z => absurd z (by omega)) (fun _ => br_f (by decide) (br_f (by decide) ?_))
      refine zw_prop (B := B) hn ho hst hgd j7 j1 j2 j3 j4 (fun ρ1 wt1 WL1 l1 c15 c16 c17 c18 c19 c20 c21 p0 p1 p2 p3 p4 => br_f (by decide) ?_)
      have hlen1 := zb_tr_len p1
      refine ze_prop hv hn p1 (zp_egx j5 j8) (by rw [List.length_append]; omega) (zp_lvx j6 j8) p2 hB hs (fun c27 c28 c29 c30 c31 c32 q1 q2 => br_f (by decide) (br_f (by decide) ?_))
      refine zd_draw hv hn p1 q1 p2 hB (fun c25 c26 c33 c34 hcl => br_t rfl (nm_r (nI_1 i) ?_)) (fun ρ2 d18 d19 d20 d21 c25 c26 c33 c34 r1 r2 r3 r4 => ?_)
      · refine pk_lt 42 (i + 1) (fun z => absurd z (by omega)) (fun _ => br_t rfl ⟨zb_nar1, ?_⟩)
        rw [List.append_assoc] at p1 p2 p4 q1 q2 hcl ⊢
        exact H (ρ ++ ρ1) wt1 WL1 l1 _ _ _ _ _ _ _ _ _ _ _ _ _ _ _ _ _ (fun e => by rw [h0 e, List.nil_append]; exact p0 (by rw [e, h0 e]; rfl)) ⟨p1, p2, p3, p4, q1, q2, Nat.le_refl _, Nat.le_refl _⟩ hcl
      · have hlen2 := zb_tr_len r3
        rw [List.length_append, List.length_append] at hlen2
        have : 0 < ρ2.length := List.length_pos_iff.mpr r1
        exact absurd hlen2 (by omega)
    | succ k ih =>
      intro i ρ nw ne wt WL l0 b15 b16 b17 b18 b19 b20 b21 b25 b26 b27 b28 b29 b30 b31 b32 b33 b34 hk hi h0 ⟨j1, j2, j3, j4, j5, j6, j7, j8⟩
      have hlen := zb_tr_len j1
      refine pk_lt 42 i (fun z => absurd z (by omega)) (fun _ => br_f (by decide) (br_f (by decide) ?_))
      refine zw_prop (B := B) hn ho hst hgd j7 j1 j2 j3 j4 (fun ρ1 wt1 WL1 l1 c15 c16 c17 c18 c19 c20 c21 p0 p1 p2 p3 p4 => br_f (by decide) ?_)
      have hlen1 := zb_tr_len p1
      refine ze_prop hv hn p1 (zp_egx j5 j8) (by rw [List.length_append]; omega) (zp_lvx j6 j8) p2 hB hs (fun c27 c28 c29 c30 c31 c32 q1 q2 => br_f (by decide) (br_f (by decide) ?_))
      refine zd_draw hv hn p1 q1 p2 hB (fun c25 c26 c33 c34 hcl => br_t rfl (nm_r (nI_1 i) ?_)) (fun ρ2 d18 d19 d20 d21 c25 c26 c33 c34 r1 r2 r3 r4 => br_f (by decide) (nm_r (nI_1 i) ?_))
      · refine pk_lt 42 (i + 1) (fun z => absurd z (by omega)) (fun _ => br_t rfl ⟨zb_nar1, ?_⟩)
        rw [List.append_assoc] at p1 p2 p4 q1 q2 hcl ⊢
        exact H (ρ ++ ρ1) wt1 WL1 l1 _ _ _ _ _ _ _ _ _ _ _ _ _ _ _ _ _ (fun e => by rw [h0 e, List.nil_append]; exact p0 (by rw [e, h0 e]; rfl)) ⟨p1, p2, p3, p4, q1, q2, Nat.le_refl _, Nat.le_refl _⟩ hcl
      · have hl2 : (τ ++ ρ ++ ρ1 ++ ρ2).length = (τ ++ ρ).length + ρ1.length + ρ2.length := by rw [List.length_append, List.length_append]
        have hpos : 0 < ρ2.length := List.length_pos_iff.mpr r1
        have z4 : B → zw_bc (τ ++ ρ ++ ρ1 ++ ρ2) (τ ++ ρ ++ ρ1).length wt1 [] := fun b => zw_bc_ext (p4 b) (Nat.le_refl _)
        have z5 := zp_egx (ρ := ρ2) q1 (Nat.le_refl _)
        have z6 := zp_lvx (ρ := ρ2) q2 (Nat.le_refl _)
        have z7 : (τ ++ ρ ++ ρ1).length ≤ (τ ++ ρ ++ ρ1 ++ ρ2).length := by rw [hl2, List.length_append]; omega
        have ea : τ ++ ρ ++ ρ1 ++ ρ2 = τ ++ (ρ ++ ρ1 ++ ρ2) := by rw [List.append_assoc, List.append_assoc, List.append_assoc]
        have he : τ = [] → ρ ++ ρ1 ++ ρ2 = [] := fun e => absurd (by rw [e, h0 e, p0 (by rw [e, h0 e]; rfl)]; rfl) r2
        rw [ea] at hl2 r3 r4 z4 z5 z6 z7 ⊢
        exact ih (i + 1) (ρ ++ ρ1 ++ ρ2) _ _ wt1 WL1 l1 _ _ _ _ _ _ _ _ _ _ _ _ _ _ _ _ _ (by omega) (by omega) he ⟨r3, r4, p3, z4, z5, z6, z7, z7⟩
  unfold wpX_propagate
  try dsimp only
  refine ⟨n + 2, ?_⟩
  have key := main n 0 [] nw ne wt WL l0 a15 a16 a17 a18 a19 a20 a21 a25 a26 a27 a28 a29 a30 a31 a32 a33 a34 (by omega) (by omega) (fun _ => rfl) (by rw [List.append_nil]; exact hi)
  rw [List.append_nil] at key
  exact key
end
end
section
section
/-- the function clauses, when both of the first two literals are false -/
def zs_b3 (o : Nat) (τ : List Nat) : Prop := ∀ c, c < 6 → zb_ng (zw_cl o c 0) ∈ τ → zb_ng (zw_cl o c 1) ∈ τ → zw_cl o c 2 ∈ τ
theorem zs_b3_of {o n : Nat} {τ : List Nat} {wt : Nat → Nat} {WL : Nat → List Nat} {l0 : Nat} {a15 a16 a17 as tr : Nat → Int32} (hT : zb_tr n τ as tr) (hw : zw_wl o 12 wt WL [] l0 a15 a16 a17) (hb : zw_bc τ τ.length wt []) : zs_b3 o τ := by
  intro c hc h0 h1
  have f0 : zw_cl o c 0 ∉ τ := zb_tr_con' hT h0
  have f1 : zw_cl o c 1 ∉ τ := zb_tr_con' hT h1
  have key : ∀ w, w < 12 → w / 2 = c → wt (zb_ng w) ∈ τ ∨ wt w = zw_cl o c 2 := by
    intro w hw12 hwc
    obtain ⟨_, ⟨j, hj, e⟩, _⟩ := hw.1 w hw12
    rw [hwc] at e
    have go : zb_ng (wt w) ∈ τ → wt (zb_ng w) ∈ τ := by
      intro hm
      obtain ⟨i, hi⟩ := List.mem_iff_getElem?.mp hm
      rcases hb w hw12 i (zb_lt_of hi) hi with z | z
      · exact absurd z List.not_mem_nil
      · exact z
    rcases (show j = 0 ∨ j = 1 ∨ j = 2 by omega) with z | z | z
    · left
      apply go
      rw [e, z]
      exact h0
    · left
      apply go
      rw [e, z]
      exact h1
    · right
      rw [e, z]
  have mem : ∀ w, w < 12 → w / 2 = c → wt w ∈ τ → wt w = zw_cl o c 2 := by
    intro w hw12 hwc hm
    obtain ⟨_, ⟨j, hj, e⟩, _⟩ := hw.1 w hw12
    rw [hwc] at e
    rcases (show j = 0 ∨ j = 1 ∨ j = 2 by omega) with z | z | z
    · rw [e, z] at hm
      exact absurd hm f0
    · rw [e, z] at hm
      exact absurd hm f1
    · rw [e, z]
  have n0 : zb_ng (2 * c) = 2 * c + 1 := zd_ng0 c
  have n1 : zb_ng (2 * c + 1) = 2 * c := zd_ng1 c
  rcases key (2 * c) (by omega) (by omega) with z | z
  · rw [n0] at z
    rw [← mem (2 * c + 1) (by omega) (by omega) z]
    exact z
  · rcases key (2 * c + 1) (by omega) (by omega) with y | y
    · rw [n1, z] at y
      exact y
    · have := (hw.1 (2 * c) (by omega)).2.2
      rw [n0, z, y] at this
      exact absurd rfl this
theorem zs_va {n : Nat} {τ : List Nat} {as tr : Nat → Int32} (h : zb_tr n τ as tr) {l : Nat} (hl : l ∈ τ) : zb_va τ (l / 2) = nI (1 - l % 2) := by
  unfold zb_va
  rcases Nat.mod_two_eq_zero_or_one l with g | g
  · rw [if_pos (by rw [show 2 * (l / 2) = l by omega]; exact hl), g]
    rfl
  · have e2 : 2 * (l / 2) = zb_ng l := by rw [zb_ng_o g]; omega
    rw [if_neg (by rw [e2]; exact zb_tr_con h hl), if_pos (by rw [show 2 * (l / 2) + 1 = l by omega]; exact hl), g]
    rfl
theorem zs_pop {n : Nat} {σ : List Nat} {l : Nat} {as tr : Nat → Int32} (h : zb_tr n (σ ++ [l]) as tr) : zb_tr n σ (upd as (l / 2) (-1)) tr := by
  have hd := h.2.1
  rw [List.map_append, List.nodup_append] at hd
  have hn : l / 2 ∉ σ.map (fun l => l / 2) := fun z => hd.2.2 _ z _ (by simp) rfl
  refine ⟨fun x hx => h.1 x (List.mem_append.mpr (Or.inl hx)), hd.1, fun i x hx => h.2.2.1 i x (zb_appL hx), fun v hv => ?_⟩
  by_cases e : v = l / 2
  · rw [e, pk_us]
    have := fun z => hn (zb_half_mem.mpr z)
    exact (zb_va_un.mpr ⟨fun z => this (Or.inl z), fun z => this (Or.inr z)⟩).symm
  · rw [pk_un e, h.2.2.2 v hv]
    unfold zb_va
    have a1 : (2 * v ∈ σ ++ [l]) ↔ 2 * v ∈ σ := by
      rw [List.mem_append, List.mem_singleton]
      exact ⟨fun z => z.elim id (fun z => absurd z (by omega)), Or.inl⟩
    have a2 : (2 * v + 1 ∈ σ ++ [l]) ↔ 2 * v + 1 ∈ σ := by
      rw [List.mem_append, List.mem_singleton]
      exact ⟨fun z => z.elim id (fun z => absurd z (by omega)), Or.inl⟩
    simp only [a1, a2]
theorem zs_take {τ : List Nat} {j : Nat} (h : j < τ.length) : τ.take (j + 1) = τ.take j ++ [τ.getD j 0] := by
  rw [List.take_succ, zb_getD h]
  rfl
theorem zs_drop {τ : List Nat} {j : Nat} (h : j < τ.length) : τ.drop j = τ.getD j 0 :: τ.drop (j + 1) := by
  rw [List.drop_eq_getElem_cons h]
  congr 1
  have := zb_getD h
  rw [List.getElem?_eq_getElem h] at this
  exact Option.some.inj this
def zs_px (τ σ : List Nat) : Prop := ∃ ρ, σ = τ ++ ρ
theorem zs_px_app {τ σ : List Nat} (h : zs_px τ σ) (ρ : List Nat) : zs_px τ (σ ++ ρ) := by
  obtain ⟨ρ', e⟩ := h
  exact ⟨ρ' ++ ρ, by rw [e, List.append_assoc]⟩
theorem zs_px_mem {τ σ : List Nat} (h : zs_px τ σ) {x : Nat} (hx : x ∈ τ) : x ∈ σ := by
  obtain ⟨ρ', e⟩ := h
  rw [e]
  exact List.mem_append.mpr (Or.inl hx)
theorem zs_px_take {τ σ : List Nat} (h : zs_px τ σ) {z : Nat} (hz : τ.length ≤ z) : zs_px τ (σ.take z) := by
  obtain ⟨ρ', e⟩ := h
  refine ⟨ρ'.take (z - τ.length), ?_⟩
  rw [e, List.take_append, List.take_of_length_le hz]
end
section
variable {f0_atomCount f0_clauseCount f0_drafted f0_opened f0_variables f0_stock f0_stored f0_hopeless f0_trailSize f0_nextWatch f0_nextEdge f0_depth f0_bump f0_conflictSize f0_learnedSize f0_assumed f0_counted : Int32} {a1 a2 a3 a4 a5 a6 a7 a8 a9 a10 a11 a12 a13 a14 a15 a16 a17 a18 a19 a20 a21 a22 a23 a24 a25 a26 a27 a28 a29 a30 a31 a32 a33 a34 a35 a36 a37 a38 : Nat → Int32}
theorem zs_back0 {post : St2 → Prop} (H : post (f0_atomCount, f0_clauseCount, f0_drafted, f0_opened, f0_variables, f0_stock, f0_stored, f0_hopeless, f0_trailSize, f0_nextWatch, f0_nextEdge, 0, f0_bump, f0_conflictSize, f0_learnedSize, f0_assumed, f0_counted, a1, a2, a3, a4, a5, a6, a7, a8, a9, a10, a11, a12, a13, a14, a15, a16, a17, a18, a19, a20, a21, a22, a23, a24, a25, a26, a27, a28, a29, a30, a31, a32, a33, a34, a35, a36, a37, a38)) : wpX_backTo post (f0_atomCount, f0_clauseCount, f0_drafted, f0_opened, f0_variables, f0_stock, f0_stored, f0_hopeless, f0_trailSize, f0_nextWatch, f0_nextEdge, 0, f0_bump, f0_conflictSize, f0_learnedSize, f0_assumed, f0_counted, a1, a2, a3, a4, a5, a6, a7, a8, a9, a10, a11, a12, a13, a14, a15, a16, a17, a18, a19, a20, a21, a22, a23, a24, a25, a26, a27, a28, a29, a30, a31, a32, a33, a34, a35, a36, a37, a38) 0 := by
  unfold wpX_backTo
  try dsimp only
  exact br_f (by decide) H
theorem zs_back {post : St2 → Prop} {n z d nw ne : Nat} {τ : List Nat} (hT : zb_tr n τ a18 a21) (hn : n ≤ 21) (hz : z ≤ τ.length) (hd : 1 ≤ d) (hd2 : d < 100) (h22 : a22 1 = nI z) (hnw : nw ≤ τ.length) (hne : ne ≤ τ.length)
    (H : ∀ b18 b23, zb_tr n (τ.take z) b18 a21 → (∀ v, v < n → v ∉ (τ.drop z).map (fun l => l / 2) → b23 v = a23 v) → (∀ v, v < n → v ∈ (τ.drop z).map (fun l => l / 2) → b23 v = zb_va τ v) →
      post (f0_atomCount, f0_clauseCount, f0_drafted, f0_opened, f0_variables, f0_stock, f0_stored, f0_hopeless, nI z, nI (min nw z), nI (min ne z), 0, f0_bump, f0_conflictSize, f0_learnedSize, f0_assumed, f0_counted, a1, a2, a3, a4, a5, a6, a7, a8, a9, a10, a11, a12, a13, a14, a15, a16, a17, b18, a19, a20, a21, a22, b23, a24, a25, a26, a27, a28, a29, a30, a31, a32, a33, a34, a35, a36, a37, a38)) :
    wpX_backTo post (f0_atomCount, f0_clauseCount, f0_drafted, f0_opened, f0_variables, f0_stock, f0_stored, f0_hopeless, nI τ.length, nI nw, nI ne, nI d, f0_bump, f0_conflictSize, f0_learnedSize, f0_assumed, f0_counted, a1, a2, a3, a4, a5, a6, a7, a8, a9, a10, a11, a12, a13, a14, a15, a16, a17, a18, a19, a20, a21, a22, a23, a24, a25, a26, a27, a28, a29, a30, a31, a32, a33, a34, a35, a36, a37, a38) 0 := by
  have hlen := zb_tr_len hT
  have main : ∀ k i b18 b23, k + z = i → i ≤ τ.length → zb_tr n (τ.take i) b18 a21 → (∀ v, v < n → v ∉ (τ.drop i).map (fun l => l / 2) → b23 v = a23 v) → (∀ v, v < n → v ∈ (τ.drop i).map (fun l => l / 2) → b23 v = zb_va τ v) →
      wX_backTo_25 post 0 (nI z) f0_atomCount f0_clauseCount f0_drafted f0_opened f0_variables f0_stock f0_stored f0_hopeless (nI τ.length) (nI nw) (nI ne) (nI d) f0_bump f0_conflictSize f0_learnedSize f0_assumed f0_counted (k + 1) (nI i - 1) a1 a2 a3 a4 a5 a6 a7 a8 a9 a10 a11 a12 a13 a14 a15 a16 a17 b18 a19 a20 a21 a22 b23 a24 a25 a26 a27 a28 a29 a30 a31 a32 a33 a34 a35 a36 a37 a38 := by
    intro k
    induction k with
    | zero =>
      intro i b18 b23 hk hi h1 h2 h3
      have e : i = z := by omega
      rw [e] at h1 h2 h3 ⊢
      have hh := H b18 b23 h1 h2 h3
      have hlt : nI z - 1 < nI z := (zb_lt (zb_sub (nI_toInt (by omega)) (show (1 : Int32).toInt = 1 by decide) (by omega) (by omega)) (nI_toInt (by omega))).mpr (by omega)
      refine br_t hlt (pk_le z nw (fun g => ?_) (fun g => ?_))
      · rw [show min nw z = z by omega] at hh
        unfold wX_backTo_90
        refine pk_le z ne (fun g2 => ?_) (fun g2 => ?_)
        · rw [show min ne z = z by omega] at hh
          exact hh
        · rw [show min ne z = ne by omega] at hh
          exact hh
      · rw [show min nw z = nw by omega] at hh
        unfold wX_backTo_90
        refine pk_le z ne (fun g2 => ?_) (fun g2 => ?_)
        · rw [show min ne z = z by omega] at hh
          exact hh
        · rw [show min ne z = ne by omega] at hh
          exact hh
    | succ k ih =>
      intro i b18 b23 hk hi h1 h2 h3
      obtain ⟨j, rfl⟩ : ∃ j, i = j + 1 := ⟨i - 1, by omega⟩
      have hj : j < τ.length := by omega
      have hjm := zb_mem_of (zb_getD hj)
      have hlt := hT.1 _ hjm
      have i21 := vp_in_nI (n := τ.getD j 0 / 2) (N := 21) (by omega) (by decide)
      rw [nI_pred]
      refine pk_lt j z (fun g => absurd g (by omega)) (fun _ => ⟨pk_in j 22 (by omega), ?_⟩)
      rw [nI_clamp (show j < 2 ^ 31 by omega), hT.2.2.1 j _ (zb_getD hj)]
      refine nm_r (zb_shr _ (by omega)) ?_
      rw [nI_clamp (show τ.getD j 0 / 2 < 2 ^ 31 by omega)]
      have htk := zs_take hj
      have hdr := zs_drop hj
      refine ⟨i21, i21, nm_e ⟨i21, nm_e (nm_r (e' := nI j - 1) (by rw [Int32.sub_eq_add_neg]) (ih j _ _ (by omega) (by omega) ?_ ?_ ?_))⟩⟩
      · rw [htk] at h1
        exact zs_pop h1
      · intro v hv hvn
        rw [hdr, List.map_cons, List.mem_cons] at hvn
        rw [pk_un (fun e => hvn (Or.inl e))]
        exact h2 v hv (fun e => hvn (Or.inr e))
      · intro v hv hvn
        by_cases e : v = τ.getD j 0 / 2
        · rw [e, pk_us, h1.2.2.2 _ (by omega), zs_va hT hjm]
          exact zs_va h1 (by rw [htk]; exact List.mem_append.mpr (Or.inr List.mem_cons_self))
        · rw [pk_un e]
          rw [hdr, List.map_cons, List.mem_cons] at hvn
          exact h3 v hv (hvn.resolve_left e)
  unfold wpX_backTo
  try dsimp only
  refine pk_lt 0 d (fun _ => ?_) (fun g => absurd g (by omega))
  refine ⟨by rw [show (0 : Int32) + 1 = nI 1 from rfl]; exact vp_in_nI (by decide) (by decide), nm_r (e' := nI z) h22 (nm_e ⟨τ.length - z + 1, main (τ.length - z) τ.length a18 a23 (by omega) (Nat.le_refl _) (by rw [List.take_length]; exact hT) (fun v _ _ => rfl) (fun v _ hv => ?_)⟩)⟩
  rw [List.drop_length] at hv
  exact absurd hv (by simp)
theorem zs_sat {post : Int32 → St2 → Prop} {n o ac la : Nat} {τ0 : List Nat} {L R : Nat → Nat} {K M : Nat → Int} {s : Int} {p : Nat → Nat} (hv : ze_vs n L R K a9 a10 a11) (hn : n ≤ 21) (ho : o + 12 ≤ n) (hst : zw_st o 6 a12 a13 a14)
    (hgd : zw_good o L R K M) (hB : ∀ x, x < 7 → -200 ≤ M x ∧ M x ≤ 200) (hs : s ≤ 20000) (hac : ac ≤ 1) (hla : ac = 1 → a38 0 = nI la ∧ la < 2 * n ∧ ze_sat L R K M la) (h24 : ∀ v, v < n → a24 v = 0) (h23 : ∀ v, v < n → p v ≤ 1 ∧ a23 v = nI (p v))
    (CH : ∀ τ, (∀ x, x ∈ τ → ze_sat L R K M x) → (∀ x, x ∈ τ0 → x ∈ τ) → (ac = 1 → la ∈ τ) → zd_cl n L R K τ → zs_b3 o τ → ∀ v, v < n → 2 * v ∉ τ → 2 * v + 1 ∉ τ → (∀ k, k < v → 2 * k ∈ τ ∨ 2 * k + 1 ∈ τ) → ze_sat L R K M (2 * v + 1 - p v))
    (H : ∀ σ d z wt WL l0 b15 b16 b17 b18 b19 b20 b21 b22 b25 b26 b27 b28 b29 b30 b31 b32 b33 b34, zs_px τ0 σ → (∀ v, v < n → 2 * v ∈ σ ∨ 2 * v + 1 ∈ σ) → zp_iv True n o L R K M s σ σ.length σ.length wt WL l0 b15 b16 b17 b18 b21 b27 b28 b29 b30 → (ac = 1 → 1 ≤ d) → d < 25 →
      (1 ≤ d → b22 1 = nI z ∧ z ≤ σ.length ∧ τ0.length ≤ z ∧ (τ0 = [] → z = 0)) →
      post 1 (f0_atomCount, f0_clauseCount, f0_drafted, f0_opened, nI n, f0_stock, f0_stored, 0, nI σ.length, nI σ.length, nI σ.length, nI d, f0_bump, f0_conflictSize, f0_learnedSize, nI ac, f0_counted, a1, a2, a3, a4, a5, a6, a7, a8, a9, a10, a11, a12, a13, a14, b15, b16, b17, b18, b19, b20, b21, b22, a23, a24, b25, b26, b27, b28, b29, b30, b31, b32, b33, b34, a35, a36, a37, a38)) :
    ∀ k i σ d z nw ne wt WL l0 b15 b16 b17 b18 b19 b20 b21 b22 b25 b26 b27 b28 b29 b30 b31 b32 b33 b34, n + (1 - d) ≤ k + σ.length → i + k ≤ 1000 → d ≤ σ.length + 1 → zs_px τ0 σ → (d = 0 → τ0 = [] → σ = []) → (ac = 1 → 1 ≤ d → la ∈ σ) →
      (1 ≤ d → b22 1 = nI z ∧ z ≤ σ.length ∧ τ0.length ≤ z ∧ (τ0 = [] → z = 0)) → zp_iv True n o L R K M s σ nw ne wt WL l0 b15 b16 b17 b18 b21 b27 b28 b29 b30 →
      wX_solve_22 post (k + 2) 0 1 (nI i) f0_atomCount f0_clauseCount f0_drafted f0_opened (nI n) f0_stock f0_stored 0 (nI σ.length) (nI nw) (nI ne) (nI d) f0_bump f0_conflictSize f0_learnedSize (nI ac) f0_counted a1 a2 a3 a4 a5 a6 a7 a8 a9 a10 a11 a12 a13 a14 b15 b16 b17 b18 b19 b20 b21 b22 a23 a24 b25 b26 b27 b28 b29 b30 b31 b32 b33 b34 a35 a36 a37 a38 := by
  intro k
  induction k using Nat.strongRecOn with
  | _ k ih =>
  intro i σ d z nw ne wt WL l0 b15 b16 b17 b18 b19 b20 b21 b22 b25 b26 b27 b28 b29 b30 b31 b32 b33 b34 hk hik hd hpx hnil hlm hz hiv
  refine pk_le 100000000 i (fun g => absurd g (by omega)) (fun _ => br_f (by decide) ?_)
  refine zp_prop (B := True) hv hn ho hst hgd hB hs hiv (fun ρ1 wt1 WL1 l1 c15 c16 c17 c18 c19 c20 c21 c25 c26 c27 c28 c29 c30 c31 c32 c33 c34 p0 p1 p2 => br_f (by decide) ?_)
  have hpx1 := zs_px_app hpx ρ1
  have hlen1 := zb_tr_len p1.1
  have hsl : σ.length ≤ (σ ++ ρ1).length := by rw [List.length_append]; omega
  have hlm1 : ac = 1 → 1 ≤ d → la ∈ σ ++ ρ1 := fun a b => List.mem_append.mpr (Or.inl (hlm a b))
  have hz1 : 1 ≤ d → b22 1 = nI z ∧ z ≤ (σ ++ ρ1).length ∧ τ0.length ≤ z ∧ (τ0 = [] → z = 0) := fun a => ⟨(hz a).1, by have := (hz a).2.1; omega, (hz a).2.2⟩
  have hnil1 : d = 0 → τ0 = [] → σ ++ ρ1 = [] := fun a b => by rw [hnil a b, p0 (hnil a b)]; rfl
  have hk1 : n + (1 - d) ≤ k + (σ ++ ρ1).length := by omega
  have hd1 : d ≤ (σ ++ ρ1).length + 1 := by omega
  generalize σ ++ ρ1 = σ1 at *
  have deep : ∀ lt k', k = k' + 1 → lt < 2 * n → lt ∉ σ1 → zb_ng lt ∉ σ1 → ze_sat L R K M lt → (ac = 1 → la ∈ σ1 ∨ lt = la) →
      wpX_assign (fun u => match u with | (f0_atomCount, f0_clauseCount, f0_drafted, f0_opened, f0_variables, f0_stock, f0_stored, f0_hopeless, f0_trailSize, f0_nextWatch, f0_nextEdge, f0_depth, f0_bump, f0_conflictSize, f0_learnedSize, f0_assumed, f0_counted, a1, a2, a3, a4, a5, a6, a7, a8, a9, a10, a11, a12, a13, a14, a15, a16, a17, a18, a19, a20, a21, a22, a23, a24, a25, a26, a27, a28, a29, a30, a31, a32, a33, a34, a35, a36, a37, a38) => ∀ x3 : Int32, x3 = nI i + 1 → wX_solve_22 post (k' + 2) 0 1 x3 f0_atomCount f0_clauseCount f0_drafted f0_opened f0_variables f0_stock f0_stored f0_hopeless f0_trailSize f0_nextWatch f0_nextEdge f0_depth f0_bump f0_conflictSize f0_learnedSize f0_assumed f0_counted a1 a2 a3 a4 a5 a6 a7 a8 a9 a10 a11 a12 a13 a14 a15 a16 a17 a18 a19 a20 a21 a22 a23 a24 a25 a26 a27 a28 a29 a30 a31 a32 a33 a34 a35 a36 a37 a38) (f0_atomCount, f0_clauseCount, f0_drafted, f0_opened, nI n, f0_stock, f0_stored, 0, nI σ1.length, nI σ1.length, nI σ1.length, nI (d + 1), f0_bump, f0_conflictSize, f0_learnedSize, nI ac, f0_counted, a1, a2, a3, a4, a5, a6, a7, a8, a9, a10, a11, a12, a13, a14, c15, c16, c17, c18, c19, c20, c21, upd b22 (d + 1) (nI σ1.length), a23, a24, c25, c26, c27, c28, c29, c30, c31, c32, c33, c34, a35, a36, a37, a38) (nI lt) (-1) := by
    intro lt k' ek h1 h2 h3 h4 h5
    refine zb_assign p1.1 hn h1 h2 h3 (fun d18 d19 d20 d21 hT' => nm_r (nI_1 i) ?_)
    have hl' : (σ1 ++ [lt]).length = σ1.length + 1 := by rw [List.length_append]; rfl
    refine ih k' (by omega) (i + 1) (σ1 ++ [lt]) (d + 1) (if d = 0 then σ1.length else z) _ _ wt1 WL1 l1 _ _ _ _ _ _ _ _ _ _ _ _ _ _ _ _ _ _ (by omega) (by omega) (by omega) (zs_px_app hpx1 _) (fun e => absurd e (by omega)) (fun e _ => ?_) (fun _ => ?_) ⟨hT', fun x hx => ?_, p1.2.2.1, fun b => zw_bc_push (p1.2.2.2.1 b) (Nat.le_refl _), zp_egx p1.2.2.2.2.1 (Nat.le_refl _), zp_lvx p1.2.2.2.2.2.1 (Nat.le_refl _), by omega, by omega⟩
    · rcases h5 e with q | q
      · exact List.mem_append.mpr (Or.inl q)
      · rw [← q]
        exact List.mem_append.mpr (Or.inr List.mem_cons_self)
    · by_cases e : d = 0
      · rw [if_pos e, e]
        obtain ⟨ρx, ex⟩ := hpx1
        refine ⟨pk_us, by omega, by rw [ex, List.length_append]; omega, fun q => by rw [hnil1 e q]; rfl⟩
      · rw [if_neg e, pk_un (by omega)]
        have := hz1 (by omega)
        exact ⟨this.1, by omega, this.2.2⟩
    · rcases List.mem_append.mp hx with q | q
      · exact p1.2.1 x q
      · rw [List.mem_singleton.mp q]
        exact h4
  refine pk_le ac d (fun g => ?_) (fun g => ?_)
  · -- a choice
    refine zb_choice p1.1 hn h24 (fun hall => br_t rfl (br_t rfl (br_t rfl (nm_r (nI_1 i) ?_)))) (fun v hvn u1 u2 hlow => ?_)
    · exact pk_le 100000000 (i + 1) (fun g => absurd g (by omega)) (fun _ => br_t rfl ⟨zb_nar1, H σ1 d z wt1 WL1 l1 _ _ _ _ _ _ _ _ _ _ _ _ _ _ _ _ _ _ hpx1 hall p1 (fun a => by omega) (by omega) hz1⟩)
    · have hlt := zb_tr_lt p1.1 (l := 2 * v) (by omega) u1 (by rw [zd_ng0]; exact u2)
      obtain ⟨k', ek⟩ : ∃ k', k = k' + 1 := ⟨k - 1, by omega⟩
      have hm1 := zb_nm1 (r := v) (by omega)
      obtain ⟨hp1, hp2⟩ := h23 v hvn
      have hsat := CH σ1 p1.2.1 (fun x hx => zs_px_mem hpx1 hx) (fun a => hlm1 a (by omega)) p2 (zs_b3_of p1.1 p1.2.2.1 (p1.2.2.2.1 trivial)) v hvn u1 u2 hlow
      refine br_f hm1 (br_f hm1 (br_f (by decide) ?_))
      refine zb_deeper (by omega) ⟨vp_in_nI (by omega) (by decide), ?_⟩
      rw [nI_clamp (show v < 2 ^ 31 by omega), hp2, show (2 : Int32) * nI v + 1 - nI (p v) = nI (2 * v + 1 - p v) by rw [show (2 : Int32) = nI 2 from rfl, pk_mul, nI_1, pk_sub (by omega)], ek]
      refine deep _ k' ek (by omega) ?_ ?_ hsat (fun a => Or.inl (hlm1 a (by omega)))
      · rcases (show p v = 0 ∨ p v = 1 by omega) with q | q
        · rw [q]
          exact u2
        · rw [q]
          exact u1
      · rcases (show p v = 0 ∨ p v = 1 by omega) with q | q
        · rw [q, show 2 * v + 1 - 0 = 2 * v + 1 from rfl, zd_ng1]
          exact u1
        · rw [q, show 2 * v + 1 - 1 = 2 * v from rfl, zd_ng0]
          exact u2
  · -- the assumption
    have e0 : d = 0 := by omega
    have e1 : ac = 1 := by omega
    obtain ⟨k', ek⟩ : ∃ k', k = k' + 1 := ⟨k - 1, by omega⟩
    obtain ⟨q1, q2, q3⟩ := hla e1
    refine ⟨vp_in_nI (by omega) (by decide), ?_⟩
    rw [nI_clamp (show d < 2 ^ 31 by omega), e0, q1]
    rw [e0] at deep
    refine nm_e (zb_truth p1.1 hn q2 (fun m1 => br_f (by decide) ?_) (fun m0 => ?_) (fun m1 m2 => br_f (by decide) ?_))
    · refine zb_deeper (by omega) (br_f (by decide) (nm_r (nI_1 i) ?_))
      rw [ek]
      refine ih k' (by omega) (i + 1) σ1 1 σ1.length _ _ wt1 WL1 l1 _ _ _ _ _ _ _ _ _ _ _ _ _ _ _ _ _ _ (by omega) (by omega) (by omega) hpx1 (fun e => absurd e (by omega)) (fun _ _ => m1) (fun _ => ?_) p1
      obtain ⟨ρx, ex⟩ := hpx1
      exact ⟨pk_us, Nat.le_refl _, by rw [ex, List.length_append]; omega, fun q => by rw [hnil1 e0 q]; rfl⟩
    · exfalso
      have hx := q3
      have h2 := p1.2.1 _ m0
      unfold ze_sat ze_f ze_t ze_w at hx h2
      rw [zb_ng_half la] at h2
      rcases Nat.mod_two_eq_zero_or_one la with p | p
      · rw [if_pos p, if_pos p, if_pos p] at hx
        have p2 : ¬ (zb_ng la % 2 = 0) := by rw [zb_ng_e p]; omega
        rw [if_neg p2, if_neg p2, if_neg p2] at h2
        omega
      · have p3 : ¬ (la % 2 = 0) := by omega
        rw [if_neg p3, if_neg p3, if_neg p3] at hx
        have p2 : zb_ng la % 2 = 0 := by rw [zb_ng_o p]; omega
        rw [if_pos p2, if_pos p2, if_pos p2] at h2
        omega
    · refine zb_deeper (by omega) (br_t rfl ?_)
      rw [ek]
      exact deep la k' ek q2 m1 m2 q3 (fun _ => Or.inr rfl)
theorem zs_unsat {post : Int32 → St2 → Prop} {B : Prop} {n o la nw ne l0 : Nat} {τ0 : List Nat} {L R : Nat → Nat} {K M : Nat → Int} {s : Int} {wt : Nat → Nat} {WL : Nat → List Nat} (hv : ze_vs n L R K a9 a10 a11) (hn : n ≤ 21) (ho : o + 12 ≤ n) (hst : zw_st o 6 a12 a13 a14)
    (hgd : zw_good o L R K M) (hB : ∀ x, x < 7 → -200 ≤ M x ∧ M x ≤ 200) (hs : s ≤ 20000) (hla : a38 0 = nI la ∧ la < 2 * n)
    (HU : ∀ τ, (∀ x, x ∈ τ → ze_sat L R K M x) → (∀ x, x ∈ τ0 → x ∈ τ) → zd_cl n L R K τ → zb_ng la ∈ τ)
    (hiv : zp_iv B n o L R K M s τ0 nw ne wt WL l0 a15 a16 a17 a18 a21 a27 a28 a29 a30)
    (H : ∀ σ wt WL l0 b15 b16 b17 b18 b19 b20 b21 b22 b25 b26 b27 b28 b29 b30 b31 b32 b33 b34, zs_px τ0 σ → zp_iv B n o L R K M s σ σ.length σ.length wt WL l0 b15 b16 b17 b18 b21 b27 b28 b29 b30 → b22 1 = nI σ.length →
      post 0 (f0_atomCount, f0_clauseCount, f0_drafted, f0_opened, nI n, f0_stock, f0_stored, 0, nI σ.length, nI σ.length, nI σ.length, nI 1, f0_bump, f0_conflictSize, f0_learnedSize, nI 1, f0_counted, a1, a2, a3, a4, a5, a6, a7, a8, a9, a10, a11, a12, a13, a14, b15, b16, b17, b18, b19, b20, b21, b22, a23, a24, b25, b26, b27, b28, b29, b30, b31, b32, b33, b34, a35, a36, a37, a38)) :
    ∃ fu, wX_solve_22 post fu 0 1 0 f0_atomCount f0_clauseCount f0_drafted f0_opened (nI n) f0_stock f0_stored 0 (nI τ0.length) (nI nw) (nI ne) (nI 0) f0_bump f0_conflictSize f0_learnedSize (nI 1) f0_counted a1 a2 a3 a4 a5 a6 a7 a8 a9 a10 a11 a12 a13 a14 a15 a16 a17 a18 a19 a20 a21 a22 a23 a24 a25 a26 a27 a28 a29 a30 a31 a32 a33 a34 a35 a36 a37 a38 := by
  refine ⟨2, ?_⟩
  refine pk_le 100000000 0 (fun g => absurd g (by omega)) (fun _ => br_f (by decide) ?_)
  refine zp_prop (B := B) hv hn ho hst hgd hB hs hiv (fun ρ1 wt1 WL1 l1 c15 c16 c17 c18 c19 c20 c21 c25 c26 c27 c28 c29 c30 c31 c32 c33 c34 p0 p1 p2 => br_f (by decide) ?_)
  have hpx : zs_px τ0 (τ0 ++ ρ1) := ⟨ρ1, rfl⟩
  have hneg := HU _ p1.2.1 (fun x hx => zs_px_mem hpx hx) p2
  refine pk_le 1 0 (fun g => absurd g (by omega)) (fun _ => ⟨vp_in_nI (by omega) (by decide), ?_⟩)
  rw [nI_clamp (show 0 < 2 ^ 31 by omega), hla.1]
  refine nm_e (zb_truth p1.1 hn hla.2 (fun m1 => absurd hneg (zb_tr_con p1.1 m1)) (fun m0 => br_t rfl ?_) (fun m1 m2 => absurd hneg m2))
  refine zb_deeper (by omega) (br_f (by decide) (nm_r (nI_1 0) ?_))
  exact pk_le 100000000 1 (fun g => absurd g (by omega)) (fun _ => br_t rfl ⟨zb_nar0, H _ wt1 WL1 l1 _ _ _ _ _ _ _ _ _ _ _ _ _ _ _ _ _ _ hpx p1 pk_us⟩)
end
end
section
section
def zl_TL (x : Nat) : Nat := [0, 1, 3, 4, 0, 2, 3, 5, 1, 2, 4, 5].getD x 0
def zl_TR (x : Nat) : Nat := [1, 0, 4, 3, 2, 0, 5, 3, 2, 1, 5, 4].getD x 0
def zl_i (g : Nat) : Nat := if g = 2 then 1 else 0
def zl_j (g : Nat) : Nat := if g = 0 then 1 else 2
theorem zl_tab : ∀ g, g < 3 → zl_TL (4 * g) = zl_i g ∧ zl_TR (4 * g) = zl_j g ∧ zl_TL (4 * g + 1) = zl_j g ∧ zl_TR (4 * g + 1) = zl_i g ∧ zl_TL (4 * g + 2) = zl_i g + 3 ∧ zl_TR (4 * g + 2) = zl_j g + 3 ∧ zl_TL (4 * g + 3) = zl_j g + 3 ∧ zl_TR (4 * g + 3) = zl_i g + 3 ∧ zl_i g < 3 ∧ zl_j g < 3 ∧ zl_i g ≠ zl_j g := by decide
/-- while a question is laid out: v variables, C clauses, nothing assigned -/
def zl_lq (o v C : Nat) (L R : Nat → Nat) (K : Nat → Int) (wt : Nat → Nat) (WL : Nat → List Nat) (a9 a10 a11 a12 a13 a14 a15 a16 a17 a18 a21 a23 a24 : Nat → Int32) : Prop :=
  ze_vs v L R K a9 a10 a11 ∧ zb_tr v [] a18 a21 ∧ (∀ x, x < v → a23 x = 0 ∧ a24 x = 0) ∧ zw_st o C a12 a13 a14 ∧ zw_wl o (2 * C) wt WL [] 0 a15 a16 a17
theorem zl_vs_add {v : Nat} {L R : Nat → Nat} {K : Nat → Int} {a9 a10 a11 : Nat → Int32} {p q r : Int32} (h : ze_vs v L R K a9 a10 a11) (h1 : L v < 7) (h2 : R v < 7) (h3 : L v ≠ R v) (hp : p = nI (L v)) (hq : q = nI (R v)) (hr : r.toInt = K v) (h4 : -131 ≤ K v) (h5 : K v ≤ 131) :
    ze_vs (v + 1) L R K (upd a9 v p) (upd a10 v q) (upd a11 v r) := by
  intro x hx
  by_cases e : x = v
  · rw [e, pk_us, pk_us, pk_us]
    exact ⟨h1, h2, h3, hp, hq, hr, h4, h5⟩
  · rw [pk_un e, pk_un e, pk_un e]
    exact h x (by omega)
theorem zl_tr_add {v : Nat} {τ : List Nat} {as tr : Nat → Int32} (h : zb_tr v τ as tr) : zb_tr (v + 1) τ (upd as v (-1)) tr := by
  refine ⟨fun l hl => by have := h.1 l hl; omega, h.2.1, h.2.2.1, fun x hx => ?_⟩
  by_cases e : x = v
  · rw [e, pk_us]
    exact (zb_va_un.mpr ⟨fun z => by have := h.1 _ z; omega, fun z => by have := h.1 _ z; omega⟩).symm
  · rw [pk_un e]
    exact h.2.2.2 x (by omega)
theorem zl_z_add {v : Nat} {a23 a24 : Nat → Int32} (h : ∀ x, x < v → a23 x = 0 ∧ a24 x = 0) : ∀ x, x < v + 1 → upd a23 v 0 x = 0 ∧ upd a24 v 0 x = 0 := by
  intro x hx
  by_cases e : x = v
  · rw [e, pk_us, pk_us]
    exact ⟨rfl, rfl⟩
  · rw [pk_un e, pk_un e]
    exact h x (by omega)
theorem zl_st_add {o C : Nat} {a12 a13 a14 b14 : Nat → Int32} (h : zw_st o C a12 a13 a14) (h1 : ∀ j, j < 3 → b14 (3 * C + j) = nI (zw_cl o C j)) (h2 : ∀ j, j < 3 * C → b14 j = a14 j) :
    zw_st o (C + 1) (upd a12 C (nI (3 * C))) (upd a13 C (nI 3)) b14 := by
  intro c hc
  by_cases e : c = C
  · rw [e, pk_us, pk_us]
    exact ⟨rfl, rfl, h1⟩
  · rw [pk_un e, pk_un e]
    have := h c (by omega)
    exact ⟨this.1, this.2.1, fun j hj => by rw [h2 _ (by omega)]; exact this.2.2 j hj⟩
theorem zl_wl_add {o C l0 l1 : Nat} {wt : Nat → Nat} {WL : Nat → List Nat} {a15 a16 a17 : Nat → Int32} (h : zw_wl o (2 * C) wt WL [] 0 a15 a16 a17) (h0 : l0 = zw_cl o C 0) (h1 : l1 = zw_cl o C 1) (hne : l0 ≠ l1) (hl0 : l0 < 42) (hl1 : l1 < 42) :
    zw_wl o (2 * (C + 1)) (fun w => if w = 2 * C then l0 else if w = 2 * C + 1 then l1 else wt w) (fun x => if x = l0 then 2 * C :: WL l0 else if x = l1 then (2 * C + 1) :: WL l1 else WL x) [] 0
      (upd (upd a15 l0 (nI (2 * C))) l1 (nI (2 * C + 1))) (upd (upd a16 (2 * C) (a15 l0)) (2 * C + 1) (upd a15 l0 (nI (2 * C)) l1)) (upd (upd a17 (2 * C) (nI l0)) (2 * C + 1) (nI l1)) := by
  obtain ⟨k1, k2, k3, k4, k5, k6⟩ := h
  have nb : ∀ x, x < 42 → ∀ w, 2 * C ≤ w → w ∉ WL x := fun x hx w hw z => by
    have := ((k3 x hx).2 w z).1
    omega
  have frame : ∀ x, x < 42 → zw_ch (upd (upd a16 (2 * C) (a15 l0)) (2 * C + 1) (upd a15 l0 (nI (2 * C)) l1)) (WL x) (a15 x) := fun x hx => zw_ch_upd (nb x hx _ (by omega)) (zw_ch_upd (nb x hx _ (by omega)) (k2 x hx))
  refine ⟨fun w hw => ⟨?_, ?_, ?_⟩, fun x hx => ?_, fun x hx => ?_, List.nodup_nil, fun w hw => absurd hw List.not_mem_nil, fun w hw => Or.inl ?_⟩
  all_goals (try dsimp only)
  · by_cases e1 : w = 2 * C + 1
    · rw [e1, pk_us, if_neg (by omega), if_pos rfl]
    · rw [pk_un e1]
      by_cases e0 : w = 2 * C
      · rw [e0, pk_us, if_pos rfl]
      · rw [pk_un e0, if_neg e0, if_neg e1]
        exact (k1 w (by omega)).1
  · by_cases e0 : w = 2 * C
    · rw [if_pos e0, e0, show 2 * C / 2 = C by omega]
      exact ⟨0, by decide, h0⟩
    · rw [if_neg e0]
      by_cases e1 : w = 2 * C + 1
      · rw [if_pos e1, e1, show (2 * C + 1) / 2 = C by omega]
        exact ⟨1, by decide, h1⟩
      · rw [if_neg e1]
        exact (k1 w (by omega)).2.1
  · by_cases e0 : w = 2 * C
    · rw [e0, zd_ng0, if_pos rfl, if_neg (by omega), if_pos rfl]
      exact hne
    · by_cases e1 : w = 2 * C + 1
      · rw [e1, zd_ng1, if_pos rfl, if_neg (by omega), if_pos rfl]
        exact fun z => hne z.symm
      · have hg := zb_ng_half w
        have hw2 : w < 2 * C := by omega
        rw [if_neg e0, if_neg e1, if_neg (by omega), if_neg (by omega)]
        exact (k1 w hw2).2.2
  · by_cases e0 : x = l0
    · rw [if_pos e0, e0, pk_un hne, pk_us]
      refine ⟨rfl, ?_⟩
      rw [pk_un (show 2 * C ≠ 2 * C + 1 by omega), pk_us]
      exact frame l0 hl0
    · rw [if_neg e0]
      by_cases e1 : x = l1
      · rw [if_pos e1, e1, pk_us]
        refine ⟨rfl, ?_⟩
        rw [pk_us, pk_un (fun z => hne z.symm)]
        have := frame l1 hl1
        rw [pk_un (fun z => hne z.symm)] at this
        exact this
      · rw [if_neg e1, pk_un e1, pk_un e0]
        exact frame x hx
  · have old : ∀ w, w ∈ WL x → w < 2 * (C + 1) ∧ (if w = 2 * C then l0 else if w = 2 * C + 1 then l1 else wt w) = x := fun w hw => by
      have := (k3 x hx).2 w hw
      rw [if_neg (by omega), if_neg (by omega)]
      exact ⟨by omega, this.2⟩
    by_cases e0 : x = l0
    · rw [if_pos e0]
      rw [e0] at old
      refine ⟨List.nodup_cons.mpr ⟨nb l0 hl0 _ (by omega), (k3 l0 hl0).1⟩, fun w hw => ?_⟩
      rcases List.mem_cons.mp hw with z | z
      · rw [z, if_pos rfl, e0]
        exact ⟨by omega, rfl⟩
      · rw [e0]
        exact old w z
    · rw [if_neg e0]
      by_cases e1 : x = l1
      · rw [if_pos e1]
        rw [e1] at old
        refine ⟨List.nodup_cons.mpr ⟨nb l1 hl1 _ (by omega), (k3 l1 hl1).1⟩, fun w hw => ?_⟩
        rcases List.mem_cons.mp hw with z | z
        · rw [z, if_neg (by omega), if_pos rfl, e1]
          exact ⟨by omega, rfl⟩
        · rw [e1]
          exact old w z
      · rw [if_neg e1]
        exact ⟨(k3 x hx).1, old⟩
  · by_cases e0 : w = 2 * C
    · rw [if_pos e0, if_pos rfl, e0]
      exact List.mem_cons_self
    · rw [if_neg e0]
      by_cases e1 : w = 2 * C + 1
      · rw [if_pos e1, if_neg (fun z => hne z.symm), if_pos rfl, e1]
        exact List.mem_cons_self
      · rw [if_neg e1]
        have := (k6 w (by omega)).resolve_right List.not_mem_nil
        by_cases f0 : wt w = l0
        · rw [if_pos f0]
          rw [f0] at this
          exact List.mem_cons_of_mem _ this
        · rw [if_neg f0]
          by_cases f1 : wt w = l1
          · rw [if_pos f1]
            rw [f1] at this
            exact List.mem_cons_of_mem _ this
          · rw [if_neg f1]
            exact this
end
section
variable {f0_atomCount f0_clauseCount f0_drafted f0_opened f0_variables f0_stock f0_stored f0_hopeless f0_trailSize f0_nextWatch f0_nextEdge f0_depth f0_bump f0_conflictSize f0_learnedSize f0_assumed f0_counted : Int32} {a1 a2 a3 a4 a5 a6 a7 a8 a9 a10 a11 a12 a13 a14 a15 a16 a17 a18 a19 a20 a21 a22 a23 a24 a25 a26 a27 a28 a29 a30 a31 a32 a33 a34 a35 a36 a37 a38 : Nat → Int32}
theorem zl_in {post : Int32 → Prop} {sz : Nat} {l : Int32} (hsz : sz ≤ 24) (h : ∀ j, j < sz → ¬ a36 j = l) (H : post 0) : wpX_inLearned post (f0_atomCount, f0_clauseCount, f0_drafted, f0_opened, f0_variables, f0_stock, f0_stored, f0_hopeless, f0_trailSize, f0_nextWatch, f0_nextEdge, f0_depth, f0_bump, f0_conflictSize, nI sz, f0_assumed, f0_counted, a1, a2, a3, a4, a5, a6, a7, a8, a9, a10, a11, a12, a13, a14, a15, a16, a17, a18, a19, a20, a21, a22, a23, a24, a25, a26, a27, a28, a29, a30, a31, a32, a33, a34, a35, a36, a37, a38) l := by
  have main : ∀ k i, k + i = sz → wX_inLearned_4 post l f0_atomCount f0_clauseCount f0_drafted f0_opened f0_variables f0_stock f0_stored f0_hopeless f0_trailSize f0_nextWatch f0_nextEdge f0_depth f0_bump f0_conflictSize (nI sz) f0_assumed f0_counted a1 a2 a3 a4 a5 a6 a7 a8 a9 a10 a11 a12 a13 a14 a15 a16 a17 a18 a19 a20 a21 a22 a23 a24 a25 a26 a27 a28 a29 a30 a31 a32 a33 a34 a35 a36 a37 a38 (k + 1) 0 (nI i) := by
    intro k
    induction k with
    | zero => exact fun i hk => pk_le sz i (fun _ => ⟨zb_nar0, H⟩) (fun z => absurd z (by omega))
    | succ k ih =>
      intro i hk
      refine pk_le sz i (fun z => absurd z (by omega)) (fun _ => br_t rfl ⟨pk_in i 24 (by omega), ?_⟩)
      rw [nI_clamp (show i < 2 ^ 31 by omega)]
      exact br_f (h i (by omega)) (nm_r (nI_1 i) (ih (i + 1) (by omega)))
  unfold wpX_inLearned
  try dsimp only
  exact ⟨sz + 1, main sz 0 rfl⟩
theorem zl_store {post : Int32 → St2 → Prop} {c sd : Nat} {ls : Nat → Nat} (hc : c < 400) (hsd : sd + 3 ≤ 6000) (hls : ∀ j, j < 3 → a36 j = nI (ls j)) (h0 : ls 0 < 42) (h1 : ls 1 < 42)
    (H : ∀ b14, (∀ j, j < 3 → b14 (sd + j) = nI (ls j)) → (∀ j, j < sd → b14 j = a14 j) →
      post (nI c) (f0_atomCount, f0_clauseCount, f0_drafted, f0_opened, f0_variables, nI (c + 1), nI (sd + 3), f0_hopeless, f0_trailSize, f0_nextWatch, f0_nextEdge, f0_depth, f0_bump, f0_conflictSize, nI 3, f0_assumed, f0_counted, a1, a2, a3, a4, a5, a6, a7, a8, a9, a10, a11, upd a12 c (nI sd), upd a13 c (nI 3), b14, upd (upd a15 (ls 0) (nI (2 * c))) (ls 1) (nI (2 * c + 1)), upd (upd a16 (2 * c) (a15 (ls 0))) (2 * c + 1) (upd a15 (ls 0) (nI (2 * c)) (ls 1)), upd (upd a17 (2 * c) (nI (ls 0))) (2 * c + 1) (nI (ls 1)), a18, a19, a20, a21, a22, a23, a24, a25, a26, a27, a28, a29, a30, a31, a32, a33, a34, a35, a36, a37, a38)) :
    wpX_store post (f0_atomCount, f0_clauseCount, f0_drafted, f0_opened, f0_variables, nI c, nI sd, f0_hopeless, f0_trailSize, f0_nextWatch, f0_nextEdge, f0_depth, f0_bump, f0_conflictSize, nI 3, f0_assumed, f0_counted, a1, a2, a3, a4, a5, a6, a7, a8, a9, a10, a11, a12, a13, a14, a15, a16, a17, a18, a19, a20, a21, a22, a23, a24, a25, a26, a27, a28, a29, a30, a31, a32, a33, a34, a35, a36, a37, a38) := by
  have main : ∀ k i b14, k + i = 3 → (∀ j, j < i → b14 (sd + j) = nI (ls j)) → (∀ j, j < sd → b14 j = a14 j) →
      wX_store_27 post (nI c) f0_atomCount f0_clauseCount f0_drafted f0_opened f0_variables (nI c) f0_hopeless f0_trailSize f0_nextWatch f0_nextEdge f0_depth f0_bump f0_conflictSize (nI 3) f0_assumed f0_counted (k + 1) (nI i) (nI (sd + i)) a1 a2 a3 a4 a5 a6 a7 a8 a9 a10 a11 (upd a12 c (nI sd)) (upd a13 c (nI 3)) b14 a15 a16 a17 a18 a19 a20 a21 a22 a23 a24 a25 a26 a27 a28 a29 a30 a31 a32 a33 a34 a35 a36 a37 a38 := by
    intro k
    induction k with
    | zero =>
      intro i b14 hk g1 g2
      have e : i = 3 := by omega
      rw [e] at g1 ⊢
      refine pk_le 3 3 (fun _ => nm_r (nI_1 c) ?_) (fun z => absurd z (by omega))
      rw [show (2 : Int32) * nI c = nI (2 * c) from pk_mul 2 c, hls 0 (by decide)]
      refine zb_watch (by omega) h0 ?_
      try dsimp only
      rw [nI_1, hls 1 (by decide)]
      exact zb_watch (by omega) h1 (H b14 g1 g2)
    | succ k ih =>
      intro i b14 hk g1 g2
      refine pk_le 3 i (fun z => absurd z (by omega)) (fun _ => ⟨pk_in i 24 (by omega), vp_in_nI (by omega) (by decide), ?_⟩)
      rw [nI_clamp (show i < 2 ^ 31 by omega), nI_clamp (show sd + i < 2 ^ 31 by omega), hls i (by omega)]
      refine nm_e (nm_r (e' := nI (sd + (i + 1))) (by rw [nI_1]; rfl) (nm_r (nI_1 i) (ih (i + 1) _ (by omega) (fun j hj => ?_) (fun j hj => ?_))))
      · by_cases e : j = i
        · rw [e, pk_us]
        · rw [pk_un (by omega)]
          exact g1 j (by omega)
      · rw [pk_un (by omega)]
        exact g2 j hj
  unfold wpX_store
  try dsimp only
  rw [nI_clamp (show c < 2 ^ 31 by omega)]
  have i400 := vp_in_nI (n := c) (N := 400) hc (by decide)
  exact ⟨i400, nm_e ⟨i400, nm_e ⟨4, main 3 0 a14 rfl (fun j hj => absurd hj (by omega)) (fun j _ => rfl)⟩⟩⟩
theorem zl_filter {post : St2 → Prop} {sz : Nat} {ls : Nat → Nat} (hsz : sz ≤ 24) (hlt : ∀ j, j < sz → ls j < 42) (hne : ∀ i j, i < sz → j < i → ls j ≠ ls i ∧ ls j ≠ zb_ng (ls i))
    (H : ∀ b36, (∀ j, j < sz → b36 j = nI (ls j)) → wX_addClause_14 post (nI sz) f0_atomCount f0_clauseCount f0_drafted f0_opened f0_variables f0_stock f0_stored f0_hopeless f0_trailSize f0_nextWatch f0_nextEdge f0_depth f0_bump f0_conflictSize f0_assumed f0_counted 1 0 (nI sz) (nI sz) a1 a2 a3 a4 a5 a6 a7 a8 a9 a10 a11 a12 a13 a14 a15 a16 a17 a18 a19 a20 a21 a22 a23 a24 a25 a26 a27 a28 a29 a30 a31 a32 a33 a34 a35 b36 a37 a38) :
    ∀ k i b36, k + i = sz → (∀ j, j < sz → b36 j = nI (ls j)) → wX_addClause_14 post (nI sz) f0_atomCount f0_clauseCount f0_drafted f0_opened f0_variables f0_stock f0_stored f0_hopeless f0_trailSize f0_nextWatch f0_nextEdge f0_depth f0_bump f0_conflictSize f0_assumed f0_counted (k + 1) 0 (nI i) (nI i) a1 a2 a3 a4 a5 a6 a7 a8 a9 a10 a11 a12 a13 a14 a15 a16 a17 a18 a19 a20 a21 a22 a23 a24 a25 a26 a27 a28 a29 a30 a31 a32 a33 a34 a35 b36 a37 a38 := by
  intro k
  induction k with
  | zero =>
    intro i b36 hk h
    have e : i = sz := by omega
    rw [e]
    exact H b36 h
  | succ k ih =>
    intro i b36 hk h
    refine pk_le sz i (fun z => absurd z (by omega)) (fun _ => ⟨pk_in i 24 (by omega), ?_⟩)
    rw [nI_clamp (show i < 2 ^ 31 by omega), h i (by omega)]
    have hl := hlt i (by omega)
    have hg : zb_ng (ls i) < 42 := zb_ng_lt (n := 21) hl
    refine nm_e (zl_in (by omega) (fun j hj => ?_) (br_t rfl ?_))
    · rw [h j (by omega)]
      exact fun z => (hne i j (by omega) hj).1 ((nI_eq (by have := hlt j (by omega); omega) (by omega)).mp z)
    · rw [zb_xor _ (by omega)]
      refine zl_in (by omega) (fun j hj => ?_) (br_t rfl (br_t rfl ?_))
      · rw [h j (by omega)]
        exact fun z => (hne i j (by omega) hj).2 ((nI_eq (by have := hlt j (by omega); omega) (by omega)).mp z)
      · rw [nI_clamp (show i < 2 ^ 31 by omega)]
        refine ⟨pk_in i 24 (by omega), nm_e (nm_r (nI_1 i) (nm_r (nI_1 i) (ih (i + 1) _ (by omega) (fun j hj => ?_))))⟩
        by_cases e : j = i
        · rw [e, pk_us]
        · rw [pk_un e]
          exact h j hj
theorem zl_add3 {post : St2 → Prop} {c sd : Nat} {ls : Nat → Nat} (hc : c < 400) (hsd : sd + 3 ≤ 6000) (hlt : ∀ j, j < 3 → ls j < 42) (hne : ∀ i j, i < 3 → j < i → ls j ≠ ls i ∧ ls j ≠ zb_ng (ls i)) (hls : ∀ j, j < 3 → a36 j = nI (ls j))
    (H : ∀ b14 b36, (∀ j, j < 3 → b14 (sd + j) = nI (ls j)) → (∀ j, j < sd → b14 j = a14 j) →
      post (f0_atomCount, f0_clauseCount, f0_drafted, f0_opened, f0_variables, nI (c + 1), nI (sd + 3), f0_hopeless, f0_trailSize, f0_nextWatch, f0_nextEdge, f0_depth, f0_bump, f0_conflictSize, nI 3, f0_assumed, f0_counted, a1, a2, a3, a4, a5, a6, a7, a8, a9, a10, a11, upd a12 c (nI sd), upd a13 c (nI 3), b14, upd (upd a15 (ls 0) (nI (2 * c))) (ls 1) (nI (2 * c + 1)), upd (upd a16 (2 * c) (a15 (ls 0))) (2 * c + 1) (upd a15 (ls 0) (nI (2 * c)) (ls 1)), upd (upd a17 (2 * c) (nI (ls 0))) (2 * c + 1) (nI (ls 1)), a18, a19, a20, a21, a22, a23, a24, a25, a26, a27, a28, a29, a30, a31, a32, a33, a34, a35, b36, a37, a38)) :
    wpX_addClause post (f0_atomCount, f0_clauseCount, f0_drafted, f0_opened, f0_variables, nI c, nI sd, f0_hopeless, f0_trailSize, f0_nextWatch, f0_nextEdge, f0_depth, f0_bump, f0_conflictSize, nI 3, f0_assumed, f0_counted, a1, a2, a3, a4, a5, a6, a7, a8, a9, a10, a11, a12, a13, a14, a15, a16, a17, a18, a19, a20, a21, a22, a23, a24, a25, a26, a27, a28, a29, a30, a31, a32, a33, a34, a35, a36, a37, a38) := by
  unfold wpX_addClause
  try dsimp only
  refine ⟨4, zl_filter (sz := 3) (by decide) hlt hne (fun b36 h => ?_) 3 0 a36 rfl hls⟩
  refine pk_le 3 3 (fun _ => br_t rfl (br_f (by decide) (br_f (by decide) ?_))) (fun z => absurd z (by omega))
  exact zl_store hc hsd h (hlt 0 (by decide)) (hlt 1 (by decide)) (fun b14 g1 g2 => H b14 b36 g1 g2)
theorem zl_add1 {post : St2 → Prop} {n l : Nat} (hT : zb_tr n [] a18 a21) (hn : n ≤ 21) (hl : l < 2 * n) (hls : a36 0 = nI l)
    (H : ∀ b18 b19 b20 b21 b25 b26 b36, zb_tr n [l] b18 b21 → post (f0_atomCount, f0_clauseCount, f0_drafted, f0_opened, f0_variables, f0_stock, f0_stored, 0, nI 1, f0_nextWatch, f0_nextEdge, f0_depth, f0_bump, f0_conflictSize, nI 1, f0_assumed, f0_counted, a1, a2, a3, a4, a5, a6, a7, a8, a9, a10, a11, a12, a13, a14, a15, a16, a17, b18, b19, b20, b21, a22, a23, a24, b25, b26, a27, a28, a29, a30, a31, a32, a33, a34, a35, b36, a37, a38)) :
    wpX_addClause post (f0_atomCount, f0_clauseCount, f0_drafted, f0_opened, f0_variables, f0_stock, f0_stored, 0, nI 0, f0_nextWatch, f0_nextEdge, f0_depth, f0_bump, f0_conflictSize, nI 1, f0_assumed, f0_counted, a1, a2, a3, a4, a5, a6, a7, a8, a9, a10, a11, a12, a13, a14, a15, a16, a17, a18, a19, a20, a21, a22, a23, a24, a25, a26, a27, a28, a29, a30, a31, a32, a33, a34, a35, a36, a37, a38) := by
  unfold wpX_addClause
  try dsimp only
  refine ⟨2, zl_filter (sz := 1) (ls := fun _ => l) (by decide) (fun j _ => by omega) (fun i j hi hj => absurd hj (by omega)) (fun b36 h => ?_) 1 0 a36 rfl (fun j hj => by rw [show j = 0 by omega]; exact hls)⟩
  refine pk_le 1 1 (fun _ => br_t rfl (br_f (by decide) (br_t rfl ?_))) (fun z => absurd z (by omega))
  rw [h 0 (by decide)]
  refine zb_truth hT hn hl (fun z => absurd z List.not_mem_nil) (fun z => absurd z List.not_mem_nil) (fun _ _ => br_t rfl (br_f (by decide) ?_))
  refine ⟨zb_nar0, zb_fit0, br_t rfl ?_⟩
  rw [h 0 (by decide)]
  refine zb_assign (τ := []) hT hn hl List.not_mem_nil List.not_mem_nil (fun b18 b19 b20 b21 hT' => ?_)
  try dsimp only
  rw [h 0 (by decide)]
  exact zb_explainAlone (by omega) (H _ _ _ _ _ _ _ hT')
theorem zl_arr {ls : Nat → Nat} {b : Nat → Int32} {X Y Z : Int32} (e0 : X = nI (ls 0)) (e1 : Y = nI (ls 1)) (e2 : Z = nI (ls 2)) : ∀ j, j < 3 → upd (upd (upd b 0 X) 1 Y) 2 Z j = nI (ls j) := by
  intro j hj
  rcases (show j = 0 ∨ j = 1 ∨ j = 2 by omega) with q | q | q <;> rw [q]
  · rw [pk_un (by decide), pk_un (by decide), pk_us, e0]
  · rw [pk_un (by decide), pk_us, e1]
  · rw [pk_us, e2]
theorem zl_cls {o g c : Nat} (ho : o ≤ 2) (hg : g < 3) (hc : c = 2 * g ∨ c = 2 * g + 1) :
    zw_cl o c 0 = 2 * (o + 4 * g) + 1 ∧ zw_cl o c 1 = 2 * (o + 4 * g) + 3 ∧ zw_cl o c 2 = 2 * (o + 4 * g + 2 + (c - 2 * g)) ∧ (∀ j, j < 3 → zw_cl o c j < 42) ∧ (∀ i j, i < 3 → j < i → zw_cl o c j ≠ zw_cl o c i ∧ zw_cl o c j ≠ zb_ng (zw_cl o c i)) := by
  have hd : c / 2 = g := by omega
  have hm : c % 2 = c - 2 * g := by omega
  have e0 : zw_cl o c 0 = 2 * (o + 4 * g) + 1 := by
    unfold zw_cl
    rw [if_pos rfl, hd]
  have e1 : zw_cl o c 1 = 2 * (o + 4 * g) + 3 := by
    unfold zw_cl
    rw [if_neg (by decide), if_pos rfl, hd]
  have e2 : zw_cl o c 2 = 2 * (o + 4 * g + 2 + (c - 2 * g)) := by
    unfold zw_cl
    rw [if_neg (by decide), if_neg (by decide), hd, hm]
  refine ⟨e0, e1, e2, fun j hj => ?_, fun i j hi hj => ?_⟩
  · rcases (show j = 0 ∨ j = 1 ∨ j = 2 by omega) with z | z | z <;> rw [z]
    · rw [e0]
      omega
    · rw [e1]
      omega
    · rw [e2]
      omega
  · rcases (show (i = 1 ∧ j = 0) ∨ (i = 2 ∧ j = 0) ∨ (i = 2 ∧ j = 1) by omega) with ⟨z, y⟩ | ⟨z, y⟩ | ⟨z, y⟩ <;> rw [z, y]
    · rw [e0, e1, zb_ng_o (by omega)]
      omega
    · rw [e0, e2, zb_ng_e (by omega)]
      omega
    · rw [e1, e2, zb_ng_e (by omega)]
      omega
theorem zl_43 {post : St2 → Prop} {o g v0 C sd : Nat} {wt : Nat → Nat} {WL : Nat → List Nat} (ho : o ≤ 2) (hg : g < 3) (ev0 : v0 = o + 4 * g) (eC : C = 2 * g) (esd : sd = 6 * g) (q4 : zw_st o C a12 a13 a14) (q5 : zw_wl o (2 * C) wt WL [] 0 a15 a16 a17)
    (H : ∀ wt WL b12 b13 b14 b15 b16 b17 b36, zw_st o (C + 2) b12 b13 b14 → zw_wl o (2 * (C + 2)) wt WL [] 0 b15 b16 b17 →
      post (f0_atomCount, f0_clauseCount, f0_drafted, f0_opened, f0_variables, nI (C + 2), nI (sd + 6), f0_hopeless, f0_trailSize, f0_nextWatch, f0_nextEdge, f0_depth, f0_bump, f0_conflictSize, nI 3, f0_assumed, f0_counted, a1, a2, a3, a4, a5, a6, a7, a8, a9, a10, a11, b12, b13, b14, b15, b16, b17, a18, a19, a20, a21, a22, a23, a24, a25, a26, a27, a28, a29, a30, a31, a32, a33, a34, a35, b36, a37, a38)) :
    ∃ fu, wX_addFunction_43 post (nI v0) fu 2 f0_atomCount f0_clauseCount f0_drafted f0_opened f0_variables (nI C) (nI sd) f0_hopeless f0_trailSize f0_nextWatch f0_nextEdge f0_depth f0_bump f0_conflictSize f0_learnedSize f0_assumed f0_counted a1 a2 a3 a4 a5 a6 a7 a8 a9 a10 a11 a12 a13 a14 a15 a16 a17 a18 a19 a20 a21 a22 a23 a24 a25 a26 a27 a28 a29 a30 a31 a32 a33 a34 a35 a36 a37 a38 := by
  subst ev0
  obtain ⟨c00, c01, c02, cl0, cn0⟩ := zl_cls (c := C) ho hg (Or.inl eC)
  obtain ⟨c10, c11, c12, cl1, cn1⟩ := zl_cls (c := C + 1) ho hg (Or.inr (by omega))
  have n0 : (2 : Int32) * nI (o + 4 * g) + 1 = nI (2 * (o + 4 * g) + 1) := by rw [show (2 : Int32) = nI 2 from rfl, pk_mul, nI_1]
  have n1 : (2 : Int32) * nI (o + 4 * g) + 3 = nI (2 * (o + 4 * g) + 3) := by rw [show (2 : Int32) = nI 2 from rfl, show (3 : Int32) = nI 3 from rfl, pk_mul, nI_add]
  have n2 : (2 : Int32) * (nI (o + 4 * g) + 2) = nI (2 * (o + 4 * g + 2)) := by rw [show (2 : Int32) = nI 2 from rfl, nI_add, pk_mul]
  have n3 : (2 : Int32) * (nI (o + 4 * g) + nI 3) = nI (2 * (o + 4 * g + 3)) := by rw [show (2 : Int32) = nI 2 from rfl, nI_add, pk_mul]
  refine ⟨3, pk_le 4 2 (fun z => absurd z (by decide)) (fun _ => nm_e (nm_e (nm_e ?_)))⟩
  refine zl_add3 (c := C) (sd := sd) (ls := zw_cl o C) (by omega) (by omega) cl0 cn0 (zl_arr (by rw [c00]; exact n0) (by rw [c01]; exact n1) (by rw [c02, show o + 4 * g + 2 + (C - 2 * g) = o + 4 * g + 2 by omega]; exact n2)) (fun b14 b36 g1 g2 => nm_r (e' := nI 3) (by decide) ?_)
  refine pk_le 4 3 (fun z => absurd z (by decide)) (fun _ => nm_e (nm_e (nm_e ?_)))
  refine zl_add3 (c := C + 1) (sd := sd + 3) (ls := zw_cl o (C + 1)) (by omega) (by omega) cl1 cn1 (zl_arr (by rw [c10]; exact n0) (by rw [c11]; exact n1) (by rw [c12, show o + 4 * g + 2 + (C + 1 - 2 * g) = o + 4 * g + 3 by omega]; exact n3)) (fun d14 d36 g3 g4 => nm_r (e' := nI 4) (by decide) ?_)
  refine pk_le 4 4 (fun _ => ?_) (fun z => absurd z (by decide))
  have s1 := zl_st_add (o := o) (C := C) (b14 := b14) q4 (fun j hj => by rw [show 3 * C + j = sd + j by omega]; exact g1 j hj) (fun j hj => g2 j (by omega))
  have s2 := zl_st_add (o := o) (C := C + 1) (b14 := d14) s1 (fun j hj => by rw [show 3 * (C + 1) + j = sd + 3 + j by omega]; exact g3 j hj) (fun j hj => g4 j (by omega))
  have u1 := zl_wl_add (l0 := zw_cl o C 0) (l1 := zw_cl o C 1) q5 rfl rfl (cn0 1 0 (by decide) (by decide)).1 (cl0 0 (by decide)) (cl0 1 (by decide))
  have u2 := zl_wl_add (l0 := zw_cl o (C + 1) 0) (l1 := zw_cl o (C + 1) 1) u1 rfl rfl (cn1 1 0 (by decide) (by decide)).1 (cl1 0 (by decide)) (cl1 1 (by decide))
  rw [show 3 * C = sd by omega, show 3 * (C + 1) = sd + 3 by omega] at s2
  exact H _ _ _ _ _ _ _ _ _ s2 u2
theorem zl_fun {post : St2 → Prop} {o g v0 C sd : Nat} {L R : Nat → Nat} {K : Nat → Int} {wt : Nat → Nat} {WL : Nat → List Nat} (ho : o ≤ 2) (hg : g < 3) (hL : ∀ x, x < 12 → L (o + x) = zl_TL x ∧ R (o + x) = zl_TR x ∧ K (o + x) = 0)
    (ev0 : v0 = o + 4 * g) (eC : C = 2 * g) (esd : sd = 6 * g) (hq : zl_lq o v0 C L R K wt WL a9 a10 a11 a12 a13 a14 a15 a16 a17 a18 a21 a23 a24)
    (H : ∀ wt WL b9 b10 b11 b12 b13 b14 b15 b16 b17 b18 b23 b24 b36, zl_lq o (v0 + 4) (C + 2) L R K wt WL b9 b10 b11 b12 b13 b14 b15 b16 b17 b18 a21 b23 b24 →
      post (f0_atomCount, f0_clauseCount, f0_drafted, f0_opened, nI (v0 + 4), nI (C + 2), nI (sd + 6), f0_hopeless, f0_trailSize, f0_nextWatch, f0_nextEdge, f0_depth, f0_bump, f0_conflictSize, nI 3, f0_assumed, f0_counted, a1, a2, a3, a4, a5, a6, a7, a8, b9, b10, b11, b12, b13, b14, b15, b16, b17, b18, a19, a20, a21, a22, b23, b24, a25, a26, a27, a28, a29, a30, a31, a32, a33, a34, a35, b36, a37, a38)) :
    wpX_addFunction post (f0_atomCount, f0_clauseCount, f0_drafted, f0_opened, nI v0, nI C, nI sd, f0_hopeless, f0_trailSize, f0_nextWatch, f0_nextEdge, f0_depth, f0_bump, f0_conflictSize, f0_learnedSize, f0_assumed, f0_counted, a1, a2, a3, a4, a5, a6, a7, a8, a9, a10, a11, a12, a13, a14, a15, a16, a17, a18, a19, a20, a21, a22, a23, a24, a25, a26, a27, a28, a29, a30, a31, a32, a33, a34, a35, a36, a37, a38) (nI (zl_i g)) (nI (zl_j g)) := by
  obtain ⟨t1, t2, t3, t4, t5, t6, t7, t8, t9, t10, t11⟩ := zl_tab g hg
  have L0 : L v0 = zl_i g ∧ R v0 = zl_j g ∧ K v0 = 0 := by
    have h := hL (4 * g) (by omega)
    rw [t1, t2, ← ev0] at h
    exact h
  have L1 : L (v0 + 1) = zl_j g ∧ R (v0 + 1) = zl_i g ∧ K (v0 + 1) = 0 := by
    have h := hL (4 * g + 1) (by omega)
    rw [t3, t4, show o + (4 * g + 1) = v0 + 1 by omega] at h
    exact h
  have L2 : L (v0 + 1 + 1) = zl_i g + 3 ∧ R (v0 + 1 + 1) = zl_j g + 3 ∧ K (v0 + 1 + 1) = 0 := by
    have h := hL (4 * g + 2) (by omega)
    rw [t5, t6, show o + (4 * g + 2) = v0 + 1 + 1 by omega] at h
    exact h
  have L3 : L (v0 + 1 + 1 + 1) = zl_j g + 3 ∧ R (v0 + 1 + 1 + 1) = zl_i g + 3 ∧ K (v0 + 1 + 1 + 1) = 0 := by
    have h := hL (4 * g + 3) (by omega)
    rw [t7, t8, show o + (4 * g + 3) = v0 + 1 + 1 + 1 by omega] at h
    exact h
  have z0 : (0 : Int32).toInt = 0 := by decide
  obtain ⟨q1, q2, q3, q4, q5⟩ := hq
  have v1 := zl_vs_add (p := nI (zl_i g)) (q := nI (zl_j g)) (r := 0) q1 (by rw [L0.1]; omega) (by rw [L0.2.1]; omega) (by rw [L0.1, L0.2.1]; omega) (by rw [L0.1]) (by rw [L0.2.1]) (by rw [L0.2.2]; exact z0) (by rw [L0.2.2]; decide) (by rw [L0.2.2]; decide)
  have v2 := zl_vs_add (p := nI (zl_j g)) (q := nI (zl_i g)) (r := 0) v1 (by rw [L1.1]; omega) (by rw [L1.2.1]; omega) (by rw [L1.1, L1.2.1]; omega) (by rw [L1.1]) (by rw [L1.2.1]) (by rw [L1.2.2]; exact z0) (by rw [L1.2.2]; decide) (by rw [L1.2.2]; decide)
  have v3 := zl_vs_add (p := nI (zl_i g) + 3) (q := nI (zl_j g) + 3) (r := 0) v2 (by rw [L2.1]; omega) (by rw [L2.2.1]; omega) (by rw [L2.1, L2.2.1]; omega) (by rw [L2.1]; exact nI_add _ 3) (by rw [L2.2.1]; exact nI_add _ 3) (by rw [L2.2.2]; exact z0) (by rw [L2.2.2]; decide) (by rw [L2.2.2]; decide)
  have v4 := zl_vs_add (p := nI (zl_j g) + 3) (q := nI (zl_i g) + 3) (r := 0) v3 (by rw [L3.1]; omega) (by rw [L3.2.1]; omega) (by rw [L3.1, L3.2.1]; omega) (by rw [L3.1]; exact nI_add _ 3) (by rw [L3.2.1]; exact nI_add _ 3) (by rw [L3.2.2]; exact z0) (by rw [L3.2.2]; decide) (by rw [L3.2.2]; decide)
  have w4 := zl_tr_add (zl_tr_add (zl_tr_add (zl_tr_add q2)))
  have x4 := zl_z_add (zl_z_add (zl_z_add (zl_z_add q3)))
  unfold wpX_addFunction
  dsimp only
  refine zb_variable (by omega) ?_
  dsimp only
  refine zb_variable (by omega) ?_
  dsimp only
  refine zb_variable (by omega) ?_
  dsimp only
  refine zb_variable (by omega) ?_
  dsimp only
  exact zl_43 ho hg ev0 eC esd q4 q5 (fun wt' WL' b12 b13 b14 b15 b16 b17 b36 s2 u2 => H wt' WL' _ _ _ b12 b13 b14 b15 b16 b17 _ _ _ b36 ⟨v4, w4, x4, s2, u2⟩)
end
end
section
section
variable {f0_atomCount f0_clauseCount f0_drafted f0_opened f0_variables f0_stock f0_stored f0_hopeless f0_trailSize f0_nextWatch f0_nextEdge f0_depth f0_bump f0_conflictSize f0_learnedSize f0_assumed f0_counted : Int32} {a1 a2 a3 a4 a5 a6 a7 a8 a9 a10 a11 a12 a13 a14 a15 a16 a17 a18 a19 a20 a21 a22 a23 a24 a25 a26 a27 a28 a29 a30 a31 a32 a33 a34 a35 a36 a37 a38 : Nat → Int32}
theorem zl_151 {post : St2 → Prop} {n cc fl : Nat} (hn : n ≤ 21) (hn0 : 1 ≤ n) (hcc : cc ≤ 1) (hf : cc = 1 → a4 0 = 1 ∧ a5 0 = nI fl ∧ fl < 2) (hT : zb_tr n [] a18 a21)
    (H : ∀ lz b18 b19 b20 b21 b25 b26 b36, zb_tr n (if cc = 1 then [fl] else []) b18 b21 →
      post (f0_atomCount, nI cc, f0_drafted, f0_opened, f0_variables, f0_stock, f0_stored, 0, nI (if cc = 1 then [fl] else []).length, f0_nextWatch, f0_nextEdge, f0_depth, f0_bump, f0_conflictSize, lz, f0_assumed, f0_counted, a1, a2, a3, a4, a5, a6, a7, a8, a9, a10, a11, a12, a13, a14, a15, a16, a17, b18, b19, b20, b21, a22, a23, a24, b25, b26, a27, a28, a29, a30, a31, a32, a33, a34, a35, b36, a37, a38)) :
    ∃ fu, wX_layOut_151 post (-1) fu 0 f0_atomCount (nI cc) f0_drafted f0_opened f0_variables f0_stock f0_stored 0 0 f0_nextWatch f0_nextEdge f0_depth f0_bump f0_conflictSize f0_learnedSize f0_assumed f0_counted a1 a2 a3 a4 a5 a6 a7 a8 a9 a10 a11 a12 a13 a14 a15 a16 a17 a18 a19 a20 a21 a22 a23 a24 a25 a26 a27 a28 a29 a30 a31 a32 a33 a34 a35 a36 a37 a38 := by
  rcases (show cc = 0 ∨ cc = 1 by omega) with e | e
  · subst e
    exact ⟨1, pk_le 0 0 (fun _ => H _ _ _ _ _ _ _ _ hT) (fun z => absurd z (by omega))⟩
  · subst e
    obtain ⟨f1, f2, f3⟩ := hf rfl
    refine ⟨2, pk_le 1 0 (fun z => absurd z (by omega)) (fun _ => br_f (by decide) ⟨pk_in 0 16 (by decide), ?_⟩)⟩
    refine nm_r (e' := nI 1) f1 ⟨2, ?_⟩
    refine pk_le 1 0 (fun z => absurd z (by omega)) (fun _ => ⟨pk_in 0 64 (by decide), pk_in 0 24 (by decide), nm_r (e' := upd a36 0 (nI fl)) (by rw [← f2]; rfl) (nm_r (show (0 : Int32) + 1 = nI 1 from rfl) ?_)⟩)
    refine pk_le 1 1 (fun _ => ?_) (fun z => absurd z (by omega))
    refine zl_add1 (l := fl) hT hn (by omega) pk_us (fun b18 b19 b20 b21 b25 b26 b36 hT' => nm_r (show (0 : Int32) + 1 = nI 1 from rfl) ?_)
    exact pk_le 1 1 (fun _ => H _ _ _ _ _ _ _ _ hT') (fun z => absurd z (by omega))
theorem zl_94 {post : St2 → Prop} {o cc fl : Nat} {L R : Nat → Nat} {K : Nat → Int} {wt : Nat → Nat} {WL : Nat → List Nat} (ho : o ≤ 1) (hcc : cc ≤ 1) (hf : cc = 1 → a4 0 = 1 ∧ a5 0 = nI fl ∧ fl < 2) (hL : ∀ x, x < 12 → L (o + x) = zl_TL x ∧ R (o + x) = zl_TR x ∧ K (o + x) = 0)
    (hq : zl_lq o o 0 L R K wt WL a9 a10 a11 a12 a13 a14 a15 a16 a17 a18 a21 a23 a24)
    (H : ∀ lz wt WL b9 b10 b11 b12 b13 b14 b15 b16 b17 b18 b19 b20 b21 b23 b24 b25 b26 b36, ze_vs (o + 12) L R K b9 b10 b11 → zb_tr (o + 12) (if cc = 1 then [fl] else []) b18 b21 → (∀ x, x < o + 12 → b23 x = 0 ∧ b24 x = 0) → zw_st o 6 b12 b13 b14 → zw_wl o 12 wt WL [] 0 b15 b16 b17 →
      post (f0_atomCount, nI cc, f0_drafted, f0_opened, nI (o + 12), nI 6, nI 18, 0, nI (if cc = 1 then [fl] else []).length, f0_nextWatch, f0_nextEdge, f0_depth, f0_bump, f0_conflictSize, lz, f0_assumed, f0_counted, a1, a2, a3, a4, a5, a6, a7, a8, b9, b10, b11, b12, b13, b14, b15, b16, b17, b18, b19, b20, b21, a22, b23, b24, b25, b26, a27, a28, a29, a30, a31, a32, a33, a34, a35, b36, a37, a38)) :
    wpX_addFunction (fun u => match u with | (f0_atomCount, f0_clauseCount, f0_drafted, f0_opened, f0_variables, f0_stock, f0_stored, f0_hopeless, f0_trailSize, f0_nextWatch, f0_nextEdge, f0_depth, f0_bump, f0_conflictSize, f0_learnedSize, f0_assumed, f0_counted, a1, a2, a3, a4, a5, a6, a7, a8, a9, a10, a11, a12, a13, a14, a15, a16, a17, a18, a19, a20, a21, a22, a23, a24, a25, a26, a27, a28, a29, a30, a31, a32, a33, a34, a35, a36, a37, a38) => wpX_addFunction (fun u => match u with | (f0_atomCount, f0_clauseCount, f0_drafted, f0_opened, f0_variables, f0_stock, f0_stored, f0_hopeless, f0_trailSize, f0_nextWatch, f0_nextEdge, f0_depth, f0_bump, f0_conflictSize, f0_learnedSize, f0_assumed, f0_counted, a1, a2, a3, a4, a5, a6, a7, a8, a9, a10, a11, a12, a13, a14, a15, a16, a17, a18, a19, a20, a21, a22, a23, a24, a25, a26, a27, a28, a29, a30, a31, a32, a33, a34, a35, a36, a37, a38) => wpX_addFunction (fun u => match u with | (f0_atomCount, f0_clauseCount, f0_drafted, f0_opened, f0_variables, f0_stock, f0_stored, f0_hopeless, f0_trailSize, f0_nextWatch, f0_nextEdge, f0_depth, f0_bump, f0_conflictSize, f0_learnedSize, f0_assumed, f0_counted, a1, a2, a3, a4, a5, a6, a7, a8, a9, a10, a11, a12, a13, a14, a15, a16, a17, a18, a19, a20, a21, a22, a23, a24, a25, a26, a27, a28, a29, a30, a31, a32, a33, a34, a35, a36, a37, a38) => ∃ fu, wX_layOut_151 post (-1) fu 0 f0_atomCount f0_clauseCount f0_drafted f0_opened f0_variables f0_stock f0_stored f0_hopeless f0_trailSize f0_nextWatch f0_nextEdge f0_depth f0_bump f0_conflictSize f0_learnedSize f0_assumed f0_counted a1 a2 a3 a4 a5 a6 a7 a8 a9 a10 a11 a12 a13 a14 a15 a16 a17 a18 a19 a20 a21 a22 a23 a24 a25 a26 a27 a28 a29 a30 a31 a32 a33 a34 a35 a36 a37 a38) (f0_atomCount, f0_clauseCount, f0_drafted, f0_opened, f0_variables, f0_stock, f0_stored, f0_hopeless, f0_trailSize, f0_nextWatch, f0_nextEdge, f0_depth, f0_bump, f0_conflictSize, f0_learnedSize, f0_assumed, f0_counted, a1, a2, a3, a4, a5, a6, a7, a8, a9, a10, a11, a12, a13, a14, a15, a16, a17, a18, a19, a20, a21, a22, a23, a24, a25, a26, a27, a28, a29, a30, a31, a32, a33, a34, a35, a36, a37, a38) 1 2) (f0_atomCount, f0_clauseCount, f0_drafted, f0_opened, f0_variables, f0_stock, f0_stored, f0_hopeless, f0_trailSize, f0_nextWatch, f0_nextEdge, f0_depth, f0_bump, f0_conflictSize, f0_learnedSize, f0_assumed, f0_counted, a1, a2, a3, a4, a5, a6, a7, a8, a9, a10, a11, a12, a13, a14, a15, a16, a17, a18, a19, a20, a21, a22, a23, a24, a25, a26, a27, a28, a29, a30, a31, a32, a33, a34, a35, a36, a37, a38) 0 2) (f0_atomCount, nI cc, f0_drafted, f0_opened, nI o, 0, 0, 0, 0, f0_nextWatch, f0_nextEdge, f0_depth, f0_bump, f0_conflictSize, f0_learnedSize, f0_assumed, f0_counted, a1, a2, a3, a4, a5, a6, a7, a8, a9, a10, a11, a12, a13, a14, a15, a16, a17, a18, a19, a20, a21, a22, a23, a24, a25, a26, a27, a28, a29, a30, a31, a32, a33, a34, a35, a36, a37, a38) 0 1 := by
  refine zl_fun (g := 0) (v0 := o) (C := 0) (sd := 0) (by omega) (by decide) hL (by omega) (by omega) (by omega) hq (fun wt1 WL1 b9 b10 b11 b12 b13 b14 b15 b16 b17 b18 b23 b24 b36 h1 => ?_)
  refine zl_fun (g := 1) (v0 := o + 4) (C := 2) (sd := 6) (by omega) (by decide) hL (by omega) (by omega) (by omega) h1 (fun wt2 WL2 c9 c10 c11 c12 c13 c14 c15 c16 c17 c18 c23 c24 c36 h2 => ?_)
  refine zl_fun (g := 2) (v0 := o + 4 + 4) (C := 4) (sd := 12) (by omega) (by decide) hL (by omega) (by omega) (by omega) h2 (fun wt3 WL3 d9 d10 d11 d12 d13 d14 d15 d16 d17 d18 d23 d24 d36 h3 => ?_)
  obtain ⟨q1, q2, q3, q4, q5⟩ := h3
  exact zl_151 (n := o + 12) (by omega) (by omega) hcc hf q2 (fun lz e18 e19 e20 e21 e25 e26 e36 hT => H lz wt3 WL3 _ _ _ _ _ _ _ _ _ _ _ _ _ _ _ _ _ _ q1 hT q3 q4 q5)
theorem zl_lay {post : St2 → Prop} {o cc fl : Nat} {L R : Nat → Nat} {K : Nat → Int} (ho : o ≤ 1) (hcc : cc ≤ 1)
    (hat : o = 1 → a1 0 = nI (L 0) ∧ a2 0 = nI (R 0) ∧ (a3 0).toInt = K 0 ∧ L 0 < 7 ∧ R 0 < 7 ∧ L 0 ≠ R 0 ∧ -131 ≤ K 0 ∧ K 0 ≤ 131)
    (hf : cc = 1 → a4 0 = 1 ∧ a5 0 = nI fl ∧ fl < 2) (hL : ∀ x, x < 12 → L (o + x) = zl_TL x ∧ R (o + x) = zl_TR x ∧ K (o + x) = 0)
    (H : ∀ lz wt WL b9 b10 b11 b12 b13 b14 b15 b16 b17 b18 b19 b20 b21 b23 b24 b25 b26 b30 b36, ze_vs (o + 12) L R K b9 b10 b11 → zb_tr (o + 12) (if cc = 1 then [fl] else []) b18 b21 → (∀ x, x < o + 12 → b23 x = 0 ∧ b24 x = 0) → zw_st o 6 b12 b13 b14 → zw_wl o 12 wt WL [] 0 b15 b16 b17 → (∀ x, x < 7 → b30 x = 0) →
      post (nI o, nI cc, f0_drafted, f0_opened, nI (o + 12), nI 6, nI 18, 0, nI (if cc = 1 then [fl] else []).length, 0, 0, 0, 1, f0_conflictSize, lz, 0, f0_counted, a1, a2, a3, a4, a5, a6, a7, a8, b9, b10, b11, b12, b13, b14, b15, b16, b17, b18, b19, b20, b21, a22, b23, b24, b25, b26, a27, a28, a29, b30, a31, a32, a33, a34, a35, b36, a37, a38)) :
    wpX_layOut post (nI o, nI cc, f0_drafted, f0_opened, f0_variables, f0_stock, f0_stored, f0_hopeless, f0_trailSize, f0_nextWatch, f0_nextEdge, f0_depth, f0_bump, f0_conflictSize, f0_learnedSize, f0_assumed, f0_counted, a1, a2, a3, a4, a5, a6, a7, a8, a9, a10, a11, a12, a13, a14, a15, a16, a17, a18, a19, a20, a21, a22, a23, a24, a25, a26, a27, a28, a29, a30, a31, a32, a33, a34, a35, a36, a37, a38) (-1) := by
  have h94 : ∀ b15 b30, (∀ x, x < 42 → b15 x = -1) → (∀ x, x < 7 → b30 x = 0) → ∃ fu, wX_layOut_94 post (-1) fu 0 (nI o) (nI cc) f0_drafted f0_opened 0 0 0 0 0 0 0 0 1 f0_conflictSize f0_learnedSize 0 f0_counted a1 a2 a3 a4 a5 a6 a7 a8 a9 a10 a11 a12 a13 a14 b15 a16 a17 a18 a19 a20 a21 a22 a23 a24 a25 a26 a27 a28 a29 b30 a31 a32 a33 a34 a35 a36 a37 a38 := by
    intro b15 b30 h15 h30
    have wl0 : zw_wl o (2 * 0) (fun _ => 0) (fun _ => []) [] 0 b15 a16 a17 := ⟨fun w hw => absurd hw (by omega), fun x hx => h15 x hx, fun x _ => ⟨List.nodup_nil, fun w hw => absurd hw List.not_mem_nil⟩, List.nodup_nil, fun w hw => absurd hw List.not_mem_nil, fun w hw => absurd hw (by omega)⟩
    have tr0 : zb_tr 0 [] a18 a21 := ⟨fun l hl => absurd hl List.not_mem_nil, by simp, fun i l h => absurd h (by simp), fun v hv => absurd hv (by omega)⟩
    rcases (show o = 0 ∨ o = 1 by omega) with e | e
    · subst e
      refine ⟨1, pk_le 0 0 (fun _ => ?_) (fun z => absurd z (by omega))⟩
      exact zl_94 (o := 0) ho hcc hf hL ⟨fun v hv => absurd hv (by omega), tr0, fun x hx => absurd hx (by omega), fun c hc => absurd hc (by omega), wl0⟩ (fun lz wt WL b9 b10 b11 b12 b13 b14 c15 b16 b17 b18 b19 b20 b21 b23 b24 b25 b26 b36 k1 k2 k3 k4 k5 => H lz wt WL _ _ _ _ _ _ _ _ _ _ _ _ _ _ _ _ _ _ _ k1 k2 k3 k4 k5 h30)
    · subst e
      obtain ⟨t1, t2, t3, t4, t5, t6, t7, t8⟩ := hat rfl
      have i8 := pk_in (x := 0) 0 8 (by decide)
      refine ⟨2, pk_le 1 0 (fun z => absurd z (by omega)) (fun _ => ⟨i8, i8, i8, ?_⟩)⟩
      refine zb_variable (v := 0) (by decide) (nm_r (show (0 : Int32) + 1 = nI 1 from rfl) ?_)
      refine pk_le 1 1 (fun _ => ?_) (fun z => absurd z (by omega))
      exact zl_94 (o := 1) ho hcc hf hL ⟨zl_vs_add (v := 0) (fun v hv => absurd hv (by omega)) t4 t5 t6 t1 t2 t3 t7 t8, zl_tr_add tr0, zl_z_add (fun x hx => absurd hx (by omega)), fun c hc => absurd hc (by omega), wl0⟩ (fun lz wt WL b9 b10 b11 b12 b13 b14 c15 b16 b17 b18 b19 b20 b21 b23 b24 b25 b26 b36 k1 k2 k3 k4 k5 => H lz wt WL _ _ _ _ _ _ _ _ _ _ _ _ _ _ _ _ _ _ _ k1 k2 k3 k4 k5 h30)
  have h73 : ∀ b15, (∀ x, x < 42 → b15 x = -1) → ∀ k i b30, k + i = 7 → (∀ x, x < i → b30 x = 0) → wX_layOut_73 post (-1) (nI o) (nI cc) f0_drafted f0_opened 0 0 0 0 0 0 0 0 1 f0_conflictSize f0_learnedSize 0 f0_counted (k + 1) (nI i) a1 a2 a3 a4 a5 a6 a7 a8 a9 a10 a11 a12 a13 a14 b15 a16 a17 a18 a19 a20 a21 a22 a23 a24 a25 a26 a27 a28 a29 b30 a31 a32 a33 a34 a35 a36 a37 a38 := by
    intro b15 h15 k
    induction k with
    | zero => exact fun i b30 hk h => pk_le 7 i (fun _ => h94 b15 b30 h15 (fun x hx => h x (by omega))) (fun z => absurd z (by omega))
    | succ k ih =>
      intro i b30 hk h
      refine pk_le 7 i (fun z => absurd z (by omega)) (fun _ => ⟨pk_in i 7 (by omega), ?_⟩)
      rw [nI_clamp (show i < 2 ^ 31 by omega)]
      refine nm_e (nm_r (nI_1 i) (ih (i + 1) _ (by omega) (fun x hx => ?_)))
      by_cases e : x = i
      · rw [e, pk_us]
      · rw [pk_un e]
        exact h x (by omega)
  have h52 : ∀ k i b15, k + i = 42 → (∀ x, x < i → b15 x = -1) → wX_layOut_52 post (-1) (nI o) (nI cc) f0_drafted f0_opened 0 0 0 0 0 0 0 0 1 f0_conflictSize f0_learnedSize 0 f0_counted (k + 1) (nI i) a1 a2 a3 a4 a5 a6 a7 a8 a9 a10 a11 a12 a13 a14 b15 a16 a17 a18 a19 a20 a21 a22 a23 a24 a25 a26 a27 a28 a29 a30 a31 a32 a33 a34 a35 a36 a37 a38 := by
    intro k
    induction k with
    | zero => exact fun i b15 hk h => pk_le 42 i (fun _ => ⟨8, h73 b15 (fun x hx => h x (by omega)) 7 0 a30 rfl (fun x hx => absurd hx (by omega))⟩) (fun z => absurd z (by omega))
    | succ k ih =>
      intro i b15 hk h
      refine pk_le 42 i (fun z => absurd z (by omega)) (fun _ => ⟨pk_in i 42 (by omega), ?_⟩)
      rw [nI_clamp (show i < 2 ^ 31 by omega)]
      refine nm_e (nm_r (nI_1 i) (ih (i + 1) _ (by omega) (fun x hx => ?_)))
      by_cases e : x = i
      · rw [e, pk_us]
      · rw [pk_un e]
        exact h x (by omega)
  unfold wpX_layOut
  try dsimp only
  exact ⟨43, h52 42 0 a15 rfl (fun x hx => absurd hx (by omega))⟩
end
end
section
section
/-- the patterns of order of three terms -/
def zm_pt (q i : Nat) : Int := ([[2, 1, 0], [1, 1, 0], [1, 2, 0], [2, 0, 1], [1, 0, 1], [1, 0, 2], [1, 0, 0]].getD q []).getD i 0
/-- the ranks of the terms: group g (0: a b c, 1: f of them) has the pattern q -/
def zm_rho (g q x : Nat) : Int :=
  if x < 3 then (if g = 0 then zm_pt q x else zm_pt 0 x) else if x < 6 then (if g = 1 ∨ q = 1 ∨ q = 4 ∨ q = 6 then zm_pt q (x - 3) else zm_pt 0 (x - 3)) else 0
def zm_tt (r : Nat → Int) (x : Nat) : Bool := decide (r (zl_TL x) ≤ r (zl_TR x))
/-- the least known weight from a to b: the two given edges, and those of the variables below x -/
def zm_E (r : Nat → Int) (t u : Nat) (hU hL : Int) : Nat → Nat → Nat → Int
  | 0, a, b => if a = b then 0 else if a = u ∧ b = t then hU else if a = t ∧ b = u then hL else 1000
  | x + 1, a, b => if zm_tt r x = true then (if a = zl_TR x ∧ b = zl_TL x then min 0 (zm_E r t u hU hL x a b) else zm_E r t u hU hL x a b)
      else (if a = zl_TL x ∧ b = zl_TR x then min (-1) (zm_E r t u hU hL x a b) else zm_E r t u hU hL x a b)
def zm_ck (r : Nat → Int) (pt : Nat → Bool) (t u : Nat) (hU hL : Int) : Bool :=
  (List.range 12).all (fun x => (zm_tt r x == pt x) || (decide (2 ≤ x % 4) && zm_tt r (x / 4 * 4) && zm_tt r (x / 4 * 4 + 1)) ||
    (if zm_tt r x = true then (List.range 7).any (fun y => decide (zm_E r t u hU hL x (zl_TR x) y + zm_E r t u hU hL x y (zl_TL x) ≤ 0))
      else (List.range 7).any (fun y => decide (zm_E r t u hU hL x (zl_TL x) y + zm_E r t u hU hL x y (zl_TR x) ≤ -1))))
def zm_gd (r : Nat → Int) : Bool := (List.range 3).all (fun g => !(zm_tt r (4 * g) && zm_tt r (4 * g + 1)) || (zm_tt r (4 * g + 2) && zm_tt r (4 * g + 3)))
theorem zm_T7 : ∀ x, x < 12 → zl_TL x < 7 ∧ zl_TR x < 7 ∧ zl_TL x ≠ zl_TR x ∧ zl_TL x / 3 = zl_TR x / 3 ∧ zl_TL x < 6 ∧ zl_TR x < 6 := by decide
theorem zm_E_lo {r : Nat → Int} {t u : Nat} {hU hL : Int} (h1 : -3 ≤ hU) (h2 : -3 ≤ hL) : ∀ x a b, -3 ≤ zm_E r t u hU hL x a b := by
  intro x
  induction x with
  | zero =>
    intro a b
    unfold zm_E
    split
    · decide
    · split
      · exact h1
      · split
        · exact h2
        · decide
  | succ x ih =>
    intro a b
    have := ih a b
    unfold zm_E
    split
    · split <;> omega
    · split <;> omega
theorem zm_E_ok {r : Nat → Int} {t u : Nat} {hU hL : Int} {b0 : Nat → Int} (hD : ∀ y, y < 7 → b0 (7 * y + y) = 0) (h1 : hU < 500 → b0 (7 * u + t) ≤ hU) (h2 : hL < 500 → b0 (7 * t + u) ≤ hL) :
    ∀ x, (∀ y, y < x → (zm_tt r y = true → b0 (7 * zl_TR y + zl_TL y) ≤ 0) ∧ (zm_tt r y = false → b0 (7 * zl_TL y + zl_TR y) ≤ -1)) → ∀ a b, a < 7 → b < 7 → zm_E r t u hU hL x a b < 500 → b0 (7 * a + b) ≤ zm_E r t u hU hL x a b := by
  intro x
  induction x with
  | zero =>
    intro _ a b ha hb
    unfold zm_E
    split
    · next e =>
      intro _
      rw [← e, hD a ha]
      exact Int.le_refl _
    · split
      · next e =>
        intro h
        rw [e.1, e.2]
        exact h1 h
      · split
        · next e =>
          intro h
          rw [e.1, e.2]
          exact h2 h
        · intro h
          exact absurd h (by decide)
  | succ x ih =>
    intro hT a b ha hb
    have ih' := ih (fun y hy => hT y (by omega)) a b ha hb
    have hx := hT x (by omega)
    unfold zm_E
    split
    · next e =>
      split
      · next e2 =>
        intro h
        have := hx.1 e
        rw [← e2.1, ← e2.2] at this
        rcases Int.lt_or_le (zm_E r t u hU hL x a b) 0 with g | g
        · have := ih' (by omega)
          omega
        · omega
      · exact ih'
    · next e =>
      split
      · next e2 =>
        intro h
        have := hx.2 (by simpa using e)
        rw [← e2.1, ← e2.2] at this
        rcases Int.lt_or_le (zm_E r t u hU hL x a b) (-1) with g | g
        · have := ih' (by omega)
          omega
        · omega
      · exact ih'
/-- the choice agrees with M -/
theorem zm_pick {o n : Nat} {L R : Nat → Nat} {K M : Nat → Int} {τ : List Nat} {p : Nat → Nat} {pt : Nat → Bool} {t u : Nat} {hU hL : Int} {r : Nat → Int} (hn : o + 12 ≤ n) (h12 : ∀ x, x < 12 → L (o + x) = zl_TL x ∧ R (o + x) = zl_TR x ∧ K (o + x) = 0)
    (hpat : ∀ x, x < 12 → (M (zl_TL x) ≤ M (zl_TR x) ↔ r (zl_TL x) ≤ r (zl_TR x))) (hck : zm_ck r pt t u hU hL = true) (hU3 : -3 ≤ hU) (hL3 : -3 ≤ hL)
    (hp : ∀ x, x < 12 → p (o + x) = if pt x = true then 1 else 0) (hsat : ∀ x, x ∈ τ → ze_sat L R K M x) (hcl : zd_cl n L R K τ) (hb3 : zs_b3 o τ)
    (g1 : hU < 500 → ∃ l, l ∈ τ ∧ ze_f L R l = u ∧ ze_t L R l = t ∧ ze_w K l ≤ hU) (g2 : hL < 500 → ∃ l, l ∈ τ ∧ ze_f L R l = t ∧ ze_t L R l = u ∧ ze_w K l ≤ hL) :
    ∀ x, x < 12 → 2 * (o + x) ∉ τ → 2 * (o + x) + 1 ∉ τ → (∀ k, k < o + x → 2 * k ∈ τ ∨ 2 * k + 1 ∈ τ) → ze_sat L R K M (2 * (o + x) + 1 - p (o + x)) := by
  intro x hx u1 u2 hlow
  obtain ⟨b0, d1, d2, d3⟩ := hcl
  have sat0 : ∀ y, y < 12 → (ze_sat L R K M (2 * (o + y)) ↔ zm_tt r y = true) := by
    intro y hy
    obtain ⟨e1, e2, e3⟩ := zd_e0 (L := L) (R := R) (K := K) (o + y)
    obtain ⟨f1, f2, f3⟩ := h12 y hy
    unfold ze_sat zm_tt
    rw [e1, e2, e3, f1, f2, f3, decide_eq_true_iff, ← hpat y hy]
    constructor <;> intro <;> omega
  have sat1 : ∀ y, y < 12 → (ze_sat L R K M (2 * (o + y) + 1) ↔ zm_tt r y = false) := by
    intro y hy
    obtain ⟨e1, e2, e3⟩ := zd_e1 (L := L) (R := R) (K := K) (o + y)
    obtain ⟨f1, f2, f3⟩ := h12 y hy
    unfold ze_sat zm_tt
    rw [e1, e2, e3, f1, f2, f3, decide_eq_false_iff_not, ← hpat y hy]
    constructor <;> intro <;> omega
  have asg : ∀ y, y < x → (zm_tt r y = true → 2 * (o + y) ∈ τ) ∧ (zm_tt r y = false → 2 * (o + y) + 1 ∈ τ) := by
    intro y hy
    rcases hlow (o + y) (by omega) with z | z
    · have := (sat0 y (by omega)).mp (hsat _ z)
      exact ⟨fun _ => z, fun e => by rw [this] at e; exact absurd e (by decide)⟩
    · have := (sat1 y (by omega)).mp (hsat _ z)
      exact ⟨fun e => by rw [this] at e; exact absurd e (by decide), fun _ => z⟩
  have hT : ∀ y, y < x → (zm_tt r y = true → b0 (7 * zl_TR y + zl_TL y) ≤ 0) ∧ (zm_tt r y = false → b0 (7 * zl_TL y + zl_TR y) ≤ -1) := by
    intro y hy
    obtain ⟨f1, f2, f3⟩ := h12 y (by omega)
    refine ⟨fun e => ?_, fun e => ?_⟩
    · have := d2 _ ((asg y hy).1 e)
      obtain ⟨e1, e2, e3⟩ := zd_e0 (L := L) (R := R) (K := K) (o + y)
      rw [e1, e2, e3, f1, f2, f3] at this
      exact this
    · have := d2 _ ((asg y hy).2 e)
      obtain ⟨e1, e2, e3⟩ := zd_e1 (L := L) (R := R) (K := K) (o + y)
      rw [e1, e2, e3, f1, f2, f3] at this
      exact this
  have hE := zm_E_ok (r := r) (t := t) (u := u) (hU := hU) (hL := hL) (b0 := b0) d1 (fun h => by
    obtain ⟨l, l1, l2, l3, l4⟩ := g1 h
    have := d2 l l1
    rw [l2, l3] at this
    omega) (fun h => by
    obtain ⟨l, l1, l2, l3, l4⟩ := g2 h
    have := d2 l l1
    rw [l2, l3] at this
    omega) x hT
  have hlo := zm_E_lo (r := r) (t := t) (u := u) hU3 hL3 x
  obtain ⟨t7a, t7b, _⟩ := zm_T7 x hx
  have hN := d3 (o + x) (by omega) u1 u2
  obtain ⟨f1, f2, f3⟩ := h12 x hx
  rw [f1, f2, f3] at hN
  have hc := List.all_eq_true.mp hck x (List.mem_range.mpr hx)
  rw [Bool.or_eq_true, Bool.or_eq_true] at hc
  rcases hc with (hc | hc) | hc
  · have e : zm_tt r x = pt x := by simpa using hc
    rw [hp x hx]
    by_cases h : pt x = true
    · rw [if_pos h]
      exact (sat0 x hx).mpr (by rw [e]; exact h)
    · rw [if_neg h]
      exact (sat1 x hx).mpr (by rw [e]; simpa using h)
  · exfalso
    rw [Bool.and_eq_true, Bool.and_eq_true, decide_eq_true_iff] at hc
    obtain ⟨⟨c1, c2⟩, c3⟩ := hc
    have m1 := (asg (x / 4 * 4) (by omega)).1 c2
    have m2 := (asg (x / 4 * 4 + 1) (by omega)).1 c3
    have hc6 : 2 * (x / 4) + (x % 4 - 2) < 6 := by omega
    have hd : (2 * (x / 4) + (x % 4 - 2)) / 2 = x / 4 := by omega
    have hm : (2 * (x / 4) + (x % 4 - 2)) % 2 = x % 4 - 2 := by omega
    have k0 : zw_cl o (2 * (x / 4) + (x % 4 - 2)) 0 = 2 * (o + x / 4 * 4) + 1 := by
      unfold zw_cl
      rw [if_pos rfl, hd]
      omega
    have k1 : zw_cl o (2 * (x / 4) + (x % 4 - 2)) 1 = 2 * (o + (x / 4 * 4 + 1)) + 1 := by
      unfold zw_cl
      rw [if_neg (by decide), if_pos rfl, hd]
      omega
    have k2 : zw_cl o (2 * (x / 4) + (x % 4 - 2)) 2 = 2 * (o + x) := by
      unfold zw_cl
      rw [if_neg (by decide), if_neg (by decide), hd, hm]
      omega
    have := hb3 _ hc6 (by rw [k0, zd_ng1]; exact m1) (by rw [k1, zd_ng1]; exact m2)
    rw [k2] at this
    exact u1 this
  · exfalso
    split at hc
    · obtain ⟨y, hy, hy2⟩ := List.any_eq_true.mp hc
      have hy7 := List.mem_range.mp hy
      have hy3 := of_decide_eq_true hy2
      have l1 := hlo (zl_TR x) y
      have l2 := hlo y (zl_TL x)
      have a1 := hE (zl_TR x) y t7b hy7 (by omega)
      have a2 := hE y (zl_TL x) hy7 t7a (by omega)
      have := (hN y hy7).1
      omega
    · obtain ⟨y, hy, hy2⟩ := List.any_eq_true.mp hc
      have hy7 := List.mem_range.mp hy
      have hy3 := of_decide_eq_true hy2
      have l1 := hlo (zl_TL x) y
      have l2 := hlo y (zl_TR x)
      have a1 := hE (zl_TL x) y t7a hy7 (by omega)
      have a2 := hE y (zl_TR x) hy7 t7b (by omega)
      have := (hN y hy7).2
      omega
/-- the third term of a group, and its value -/
def zm_w (t u : Nat) : Nat := 9 * (t / 3) + 3 - t - u
def zm_W (r : Nat → Int) (t u : Nat) (d : Int) : Int :=
  if r (zm_w t u) = r t then d else if r (zm_w t u) = r u then 0 else if r t < r (zm_w t u) ∧ r u < r (zm_w t u) then max d 0 + 1
  else if r (zm_w t u) < r t ∧ r (zm_w t u) < r u then min d 0 - 1 else if 0 < d then 1 else -1
/-- a valuation with the order of r in which t less u is d -/
def zm_M (r : Nat → Int) (t u : Nat) (d : Int) (x : Nat) : Int :=
  if t / 3 = u / 3 then (if x / 3 = t / 3 then (if x = t then d else if x = u then 0 else zm_W r t u d) else r x)
  else (if x / 3 = t / 3 then r x + (d - r t + r u) else r x)
theorem zm_M_tu {r : Nat → Int} {t u : Nat} {d : Int} (h : t ≠ u) : zm_M r t u d t - zm_M r t u d u = d := by
  unfold zm_M
  by_cases hs : t / 3 = u / 3
  · rw [if_pos hs, if_pos rfl, if_pos rfl, if_pos hs, if_pos hs.symm, if_neg (fun e => h e.symm), if_pos rfl]
    omega
  · rw [if_neg hs, if_pos rfl, if_neg hs, if_neg (fun e => hs e.symm)]
    omega
theorem zm_M_bd {r : Nat → Int} {t u : Nat} {d : Int} (hr : ∀ x, 0 ≤ r x ∧ r x ≤ 2) (h1 : -140 ≤ d) (h2 : d ≤ 140) : ∀ x, -200 ≤ zm_M r t u d x ∧ zm_M r t u d x ≤ 200 := by
  intro x
  have a := hr x
  have b := hr t
  have c := hr u
  unfold zm_M
  split
  · split
    · split
      · omega
      · split
        · omega
        · unfold zm_W
          split
          · omega
          · split
            · omega
            · split
              · omega
              · split
                · omega
                · split <;> omega
    · omega
  · split <;> omega
theorem zm_M_pat {r : Nat → Int} {t u : Nat} {d : Int} (htu : t ≠ u) (hs : t / 3 = u / 3 → (0 < d ↔ r u < r t) ∧ (d = 0 ↔ r t = r u) ∧ ((r t < r (zm_w t u) ∧ r (zm_w t u) < r u) ∨ (r u < r (zm_w t u) ∧ r (zm_w t u) < r t) → 2 ≤ d ∨ d ≤ -2)) :
    ∀ x, x < 12 → (zm_M r t u d (zl_TL x) ≤ zm_M r t u d (zl_TR x) ↔ r (zl_TL x) ≤ r (zl_TR x)) := by
  intro x hx
  obtain ⟨_, _, hne, hg, h6a, h6b⟩ := zm_T7 x hx
  generalize zl_TL x = a at *
  generalize zl_TR x = b at *
  unfold zm_M
  by_cases h : t / 3 = u / 3
  · rw [if_pos h, if_pos h]
    obtain ⟨s1, s2, s3⟩ := hs h
    by_cases ha : a / 3 = t / 3
    · rw [if_pos ha, if_pos (show b / 3 = t / 3 by omega)]
      have third : ∀ c, c / 3 = t / 3 → c ≠ t → c ≠ u → c = zm_w t u := by
        intro c h1 h2 h3
        unfold zm_w
        omega
      by_cases e1 : a = t
      · rw [if_pos e1, if_neg (show ¬ b = t by omega)]
        by_cases e2 : b = u
        · rw [if_pos e2, e1, e2]
          omega
        · rw [if_neg e2, e1, third b (by omega) (by omega) e2]
          unfold zm_W
          split
          · omega
          · split
            · omega
            · split
              · omega
              · split
                · omega
                · split <;> omega
      · rw [if_neg e1]
        by_cases e3 : a = u
        · rw [if_pos e3]
          by_cases e2 : b = t
          · rw [if_pos e2, e2, e3]
            omega
          · rw [if_neg e2, if_neg (show ¬ b = u by omega), e3, third b (by omega) e2 (by omega)]
            unfold zm_W
            split
            · omega
            · split
              · omega
              · split
                · omega
                · split
                  · omega
                  · split <;> omega
        · rw [if_neg e3]
          by_cases e2 : b = t
          · rw [if_pos e2, e2, third a (by omega) e1 e3]
            unfold zm_W
            split
            · omega
            · split
              · omega
              · split
                · omega
                · split
                  · omega
                  · split <;> omega
          · have e4 : b = u := by
              apply Classical.byContradiction
              intro e4
              exact hne ((third a ha e1 e3).trans (third b (by omega) e2 e4).symm)
            rw [if_neg e2, if_pos e4, e4, third a (by omega) e1 e3]
            unfold zm_W
            split
            · omega
            · split
              · omega
              · split
                · omega
                · split
                  · omega
                  · split <;> omega
    · rw [if_neg ha, if_neg (show ¬ b / 3 = t / 3 by omega)]
  · rw [if_neg h, if_neg h]
    by_cases ha : a / 3 = t / 3
    · rw [if_pos ha, if_pos (show b / 3 = t / 3 by omega)]
      omega
    · rw [if_neg ha, if_neg (show ¬ b / 3 = t / 3 by omega)]
end
end
section
section
def zm_wt (x : Int) : Int := if 2 ≤ x then 1000 else max (-1) x
def zm_cp (x : Int) : Int := max (-1) (min 2 x)
def zm_c4 (x : Int) : Int := max (-4) (min 4 x)
def zm_q (ty : Nat) (hi nl : Int) : Nat :=
  if ty = 1 then (if 1 ≤ hi then 0 else if hi = 0 ∧ nl = 0 then 1 else 2)
  else if ty = 2 then (if 2 ≤ hi then 0 else if hi = 1 then 3 else if hi = 0 ∧ nl = 0 then 4 else 5)
  else (if 1 ≤ hi then 0 else if hi = 0 ∧ nl = 0 then 6 else 3)
def zm_qD (t u : Nat) (U N : Int) : Nat := if t / 3 = u / 3 then (if t < u then zm_q (t % 3 + u % 3) U N else zm_q (t % 3 + u % 3) N U) else 0
def zm_q2 (t u : Nat) (k : Int) : Nat :=
  if t / 3 = u / 3 then
    (if t < u then (if t % 3 + u % 3 = 1 then (if 1 ≤ k then 0 else if k = 0 then 1 else 2) else if t % 3 + u % 3 = 2 then (if 2 ≤ k then 0 else if k = 1 then 6 else if k = 0 then 4 else 5) else (if 1 ≤ k then 0 else if k = 0 then 6 else 3))
     else (if t % 3 + u % 3 = 1 then (if k ≤ -1 then 0 else if k = 0 then 1 else 2) else if t % 3 + u % 3 = 2 then (if k ≤ -3 then 0 else if k ≤ -1 then 3 else if k = 0 then 4 else 5) else (if k ≤ -1 then 0 else if k = 0 then 6 else 3)))
  else 0
def zm_dl (ty : Nat) (hi nl : Int) : Int :=
  if ty = 2 then (if 2 ≤ hi then max (-nl) 2 else if hi = 1 then 1 else if hi = 0 ∧ nl = 0 then 0 else min hi (-1)) else (if 1 ≤ hi then max (-nl) 1 else if hi = 0 ∧ nl = 0 then 0 else min hi (-1))
def zm_dD (t u : Nat) (U N : Int) : Int := if t / 3 = u / 3 then (if t < u then zm_dl (t % 3 + u % 3) U N else -zm_dl (t % 3 + u % 3) N U) else (if U < 500 then U else if N < 500 then -N else 0)
def zm_d2 (t u : Nat) (k : Int) : Int := if t / 3 = u / 3 then (if t < u ∧ t % 3 + u % 3 = 2 then min k 2 else min k 1) else k
theorem zm_wt_lo (x : Int) : -3 ≤ zm_wt x := by
  unfold zm_wt
  split <;> omega
theorem zm_wt_ge {x : Int} (h : zm_wt x < 500) : x ≤ zm_wt x := by
  unfold zm_wt at h ⊢
  split at h
  · omega
  · next g =>
    rw [if_neg g]
    omega
theorem zm_wt_cp (x : Int) : zm_wt (zm_cp x) = zm_wt x := by
  unfold zm_wt zm_cp
  split
  · rw [if_pos (by omega)]
  · rw [if_neg (by omega)]
    omega
theorem zm_q_cp (ty : Nat) (hi nl : Int) : zm_q ty (zm_cp hi) (zm_cp nl) = zm_q ty hi nl := by
  have a1 : (1 ≤ zm_cp hi) ↔ (1 ≤ hi) := by unfold zm_cp; omega
  have a2 : (2 ≤ zm_cp hi) ↔ (2 ≤ hi) := by unfold zm_cp; omega
  have a3 : (zm_cp hi = 0) ↔ (hi = 0) := by unfold zm_cp; omega
  have a4 : (zm_cp nl = 0) ↔ (nl = 0) := by unfold zm_cp; omega
  have a5 : (zm_cp hi = 1) ↔ (hi = 1) := by unfold zm_cp; omega
  unfold zm_q
  simp only [a1, a2, a3, a4, a5]
theorem zm_qD_cp (t u : Nat) (U N : Int) : zm_qD t u (zm_cp U) (zm_cp N) = zm_qD t u U N := by
  unfold zm_qD
  rw [zm_q_cp, zm_q_cp]
theorem zm_q2_c4 (t u : Nat) (k : Int) : zm_q2 t u (zm_c4 k) = zm_q2 t u k := by
  have a1 : (1 ≤ zm_c4 k) ↔ (1 ≤ k) := by unfold zm_c4; omega
  have a2 : (2 ≤ zm_c4 k) ↔ (2 ≤ k) := by unfold zm_c4; omega
  have a3 : (zm_c4 k = 0) ↔ (k = 0) := by unfold zm_c4; omega
  have a4 : (zm_c4 k ≤ -1) ↔ (k ≤ -1) := by unfold zm_c4; omega
  have a5 : (zm_c4 k = 1) ↔ (k = 1) := by unfold zm_c4; omega
  have a6 : (zm_c4 k ≤ -3) ↔ (k ≤ -3) := by unfold zm_c4; omega
  unfold zm_q2
  simp only [a1, a2, a3, a4, a5, a6]
theorem zm_pt_bd : ∀ q, q < 7 → ∀ i, i < 3 → 0 ≤ zm_pt q i ∧ zm_pt q i ≤ 2 := by decide
theorem zm_pt_ge (q i : Nat) (h : 3 ≤ i ∨ 7 ≤ q) : zm_pt q i = 0 := by
  unfold zm_pt
  rcases h with h | h
  · match q with
    | 0 | 1 | 2 | 3 | 4 | 5 | 6 => exact (by rw [List.getD_eq_getElem?_getD (i := i), List.getElem?_eq_none (by exact h)]; rfl)
    | q + 7 => rfl
  · match q, h with
    | q + 7, _ => rfl
theorem zm_pt_b (q i : Nat) : 0 ≤ zm_pt q i ∧ zm_pt q i ≤ 2 := by
  rcases Nat.lt_or_ge q 7 with h | h
  · rcases Nat.lt_or_ge i 3 with g | g
    · exact zm_pt_bd q h i g
    · rw [zm_pt_ge q i (Or.inl g)]
      decide
  · rw [zm_pt_ge q i (Or.inr h)]
    decide
theorem zm_rho_b (g q x : Nat) : 0 ≤ zm_rho g q x ∧ zm_rho g q x ≤ 2 := by
  unfold zm_rho
  split
  · split <;> exact zm_pt_b _ _
  · split
    · split <;> exact zm_pt_b _ _
    · decide
theorem zm_rho0 (g : Nat) : zm_rho g 0 = zm_rho 0 0 := by
  funext x
  unfold zm_rho
  split
  · rw [if_pos rfl]
    split <;> rfl
  · split
    · split
      · rw [if_neg (by decide)]
      · rw [if_neg (by decide)]
    · rfl
def zm_cD (g i j a b : Nat) : Bool :=
  (i == j) || !(decide (0 ≤ ((a : Int) - 1) + ((b : Int) - 1)) || decide (2 ≤ (a : Int) - 1) || decide (2 ≤ (b : Int) - 1)) ||
    (zm_gd (zm_rho g (zm_qD (3 * g + i) (3 * g + j) ((a : Int) - 1) ((b : Int) - 1))) && zm_ck (zm_rho g (zm_qD (3 * g + i) (3 * g + j) ((a : Int) - 1) ((b : Int) - 1))) (fun _ => false) (3 * g + i) (3 * g + j) (zm_wt ((a : Int) - 1)) (zm_wt ((b : Int) - 1)))
theorem zm_cD_all : ((List.range 2).all fun g => (List.range 3).all fun i => (List.range 3).all fun j => (List.range 4).all fun a => (List.range 4).all fun b => zm_cD g i j a b) = true := by decide +kernel
theorem zm_ckD {g i j a b : Nat} (hg : g < 2) (hi : i < 3) (hj : j < 3) (hij : i ≠ j) (ha : a < 4) (hb : b < 4) (h : 0 ≤ ((a : Int) - 1) + ((b : Int) - 1) ∨ 2 ≤ (a : Int) - 1 ∨ 2 ≤ (b : Int) - 1) :
    zm_gd (zm_rho g (zm_qD (3 * g + i) (3 * g + j) ((a : Int) - 1) ((b : Int) - 1))) = true ∧ zm_ck (zm_rho g (zm_qD (3 * g + i) (3 * g + j) ((a : Int) - 1) ((b : Int) - 1))) (fun _ => false) (3 * g + i) (3 * g + j) (zm_wt ((a : Int) - 1)) (zm_wt ((b : Int) - 1)) = true := by
  have k1 := List.all_eq_true.mp zm_cD_all g (List.mem_range.mpr hg)
  have k2 := List.all_eq_true.mp k1 i (List.mem_range.mpr hi)
  have k3 := List.all_eq_true.mp k2 j (List.mem_range.mpr hj)
  have k4 := List.all_eq_true.mp k3 a (List.mem_range.mpr ha)
  have k5 : zm_cD g i j a b = true := List.all_eq_true.mp k4 b (List.mem_range.mpr hb)
  unfold zm_cD at k5
  rw [Bool.or_eq_true, Bool.or_eq_true] at k5
  rcases k5 with (k | k) | k
  · exact absurd (by simpa using k) hij
  · exfalso
    have e : (decide (0 ≤ ((a : Int) - 1) + ((b : Int) - 1)) || decide (2 ≤ (a : Int) - 1) || decide (2 ≤ (b : Int) - 1)) = true := by
      rw [Bool.or_eq_true, Bool.or_eq_true, decide_eq_true_iff, decide_eq_true_iff, decide_eq_true_iff]
      rcases h with h | h | h
      · exact Or.inl (Or.inl h)
      · exact Or.inl (Or.inr h)
      · exact Or.inr h
    rw [e] at k
    exact absurd k (by decide)
  · exact (Bool.and_eq_true _ _).mp k
def zm_cR (g i j a : Nat) : Bool :=
  (i == j) || (zm_gd (zm_rho g (zm_q2 (3 * g + i) (3 * g + j) ((a : Int) - 4))) && zm_ck (zm_rho g (zm_q2 (3 * g + i) (3 * g + j) ((a : Int) - 4))) (zm_tt (zm_rho g (zm_qD (3 * g + i) (3 * g + j) 1000 (-((a : Int) - 4) - 1)))) (3 * g + i) (3 * g + j) (zm_wt ((a : Int) - 4)) 1000)
theorem zm_cR_all : ((List.range 2).all fun g => (List.range 3).all fun i => (List.range 3).all fun j => (List.range 9).all fun a => zm_cR g i j a) = true := by decide +kernel
theorem zm_ckR {g i j a : Nat} (hg : g < 2) (hi : i < 3) (hj : j < 3) (hij : i ≠ j) (ha : a < 9) :
    zm_gd (zm_rho g (zm_q2 (3 * g + i) (3 * g + j) ((a : Int) - 4))) = true ∧ zm_ck (zm_rho g (zm_q2 (3 * g + i) (3 * g + j) ((a : Int) - 4))) (zm_tt (zm_rho g (zm_qD (3 * g + i) (3 * g + j) 1000 (-((a : Int) - 4) - 1)))) (3 * g + i) (3 * g + j) (zm_wt ((a : Int) - 4)) 1000 = true := by
  have k1 := List.all_eq_true.mp zm_cR_all g (List.mem_range.mpr hg)
  have k2 := List.all_eq_true.mp k1 i (List.mem_range.mpr hi)
  have k3 := List.all_eq_true.mp k2 j (List.mem_range.mpr hj)
  have k4 : zm_cR g i j a = true := List.all_eq_true.mp k3 a (List.mem_range.mpr ha)
  unfold zm_cR at k4
  rw [Bool.or_eq_true] at k4
  rcases k4 with k | k
  · exact absurd (by simpa using k) hij
  · exact (Bool.and_eq_true _ _).mp k
theorem zm_ckX : ∀ t, t < 7 → ∀ u, u < 7 → zm_ck (zm_rho 0 0) (fun _ => false) t u 1000 1000 = true ∧ zm_ck (zm_rho 0 0) (zm_tt (zm_rho 0 0)) t u 1000 1000 = true := by decide +kernel
theorem zm_gdX : zm_gd (zm_rho 0 0) = true := by decide +kernel
theorem zm_idx (x : Int) : ∃ a : Nat, a < 4 ∧ (a : Int) - 1 = zm_cp x := ⟨(zm_cp x + 1).toNat, by unfold zm_cp; omega, by unfold zm_cp; omega⟩
theorem zm_idx4 (x : Int) : ∃ a : Nat, a < 9 ∧ (a : Int) - 4 = zm_c4 x := ⟨(zm_c4 x + 4).toNat, by unfold zm_c4; omega, by unfold zm_c4; omega⟩
theorem zm_wt_c4 (x : Int) : zm_wt (zm_c4 x) = zm_wt x := by
  unfold zm_wt zm_c4
  split
  · rw [if_pos (by omega)]
  · rw [if_neg (by omega)]
    omega
/-- what a model must be like for its valuation to have the order of r -/
def zm_pc (r : Nat → Int) (t u : Nat) (d : Int) : Prop :=
  t / 3 = u / 3 → (0 < d ↔ r u < r t) ∧ (d = 0 ↔ r t = r u) ∧ ((r t < r (zm_w t u) ∧ r (zm_w t u) < r u) ∨ (r u < r (zm_w t u) ∧ r (zm_w t u) < r t) → 2 ≤ d ∨ d ≤ -2)
theorem zm_rho_g : ∀ g, g < 2 → ∀ q, q < 7 → ∀ i, i < 3 → zm_rho g q (3 * g + i) = zm_pt q i := by decide
theorem zm_pt_t : zm_pt 0 0 = 2 ∧ zm_pt 0 1 = 1 ∧ zm_pt 0 2 = 0 ∧ zm_pt 1 0 = 1 ∧ zm_pt 1 1 = 1 ∧ zm_pt 1 2 = 0 ∧ zm_pt 2 0 = 1 ∧ zm_pt 2 1 = 2 ∧ zm_pt 2 2 = 0 ∧ zm_pt 3 0 = 2 ∧ zm_pt 3 1 = 0 ∧ zm_pt 3 2 = 1 ∧
    zm_pt 4 0 = 1 ∧ zm_pt 4 1 = 0 ∧ zm_pt 4 2 = 1 ∧ zm_pt 5 0 = 1 ∧ zm_pt 5 1 = 0 ∧ zm_pt 5 2 = 2 ∧ zm_pt 6 0 = 1 ∧ zm_pt 6 1 = 0 ∧ zm_pt 6 2 = 0 := by decide
/-- the order that the pattern q gives to places i, j (w the third), against their difference d -/
def zm_Q (q i j : Nat) (d : Int) : Prop :=
  q < 7 ∧ (0 < d ↔ zm_pt q j < zm_pt q i) ∧ (d = 0 ↔ zm_pt q i = zm_pt q j) ∧ ((zm_pt q i < zm_pt q (3 - i - j) ∧ zm_pt q (3 - i - j) < zm_pt q j) ∨ (zm_pt q j < zm_pt q (3 - i - j) ∧ zm_pt q (3 - i - j) < zm_pt q i) → 2 ≤ d ∨ d ≤ -2)
theorem zm_Q_sw {q i j : Nat} {d : Int} (h : zm_Q q i j d) : zm_Q q j i (-d) := by
  obtain ⟨h1, h2, h3, h4⟩ := h
  refine ⟨h1, by omega, by omega, ?_⟩
  rw [show 3 - j - i = 3 - i - j by omega]
  omega
theorem zm_asm {g q i j : Nat} {d : Int} (hg : g < 2) (hi : i < 3) (hj : j < 3) (hij : i ≠ j) (h : zm_Q q i j d) : zm_pc (zm_rho g q) (3 * g + i) (3 * g + j) d := by
  intro _
  obtain ⟨hq, h⟩ := h
  have hw : zm_w (3 * g + i) (3 * g + j) = 3 * g + (3 - i - j) := by
    unfold zm_w
    omega
  rw [hw, zm_rho_g g hg q hq i hi, zm_rho_g g hg q hq j hj, zm_rho_g g hg q hq (3 - i - j) (by omega)]
  exact h
theorem zm_s1 {hi nl : Int} (h : 0 ≤ hi + nl) : zm_Q (zm_q 1 hi nl) 0 1 (zm_dl 1 hi nl) ∧ -nl ≤ zm_dl 1 hi nl ∧ zm_dl 1 hi nl ≤ hi := by
  obtain ⟨p00, p01, p02, p10, p11, p12, p20, p21, p22, p30, p31, p32, p40, p41, p42, p50, p51, p52, p60, p61, p62⟩ := zm_pt_t
  have eq : zm_q 1 hi nl = if 1 ≤ hi then 0 else if hi = 0 ∧ nl = 0 then 1 else 2 := rfl
  have ed : zm_dl 1 hi nl = if 1 ≤ hi then max (-nl) 1 else if hi = 0 ∧ nl = 0 then 0 else min hi (-1) := rfl
  rw [eq, ed]
  unfold zm_Q
  by_cases c1 : 1 ≤ hi
  · rw [if_pos c1, if_pos c1, p00, p01, p02]
    omega
  · rw [if_neg c1, if_neg c1]
    by_cases c2 : hi = 0 ∧ nl = 0
    · rw [if_pos c2, if_pos c2, p10, p11, p12]
      omega
    · rw [if_neg c2, if_neg c2, p20, p21, p22]
      omega
theorem zm_s3 {hi nl : Int} (h : 0 ≤ hi + nl) : zm_Q (zm_q 3 hi nl) 1 2 (zm_dl 3 hi nl) ∧ -nl ≤ zm_dl 3 hi nl ∧ zm_dl 3 hi nl ≤ hi := by
  obtain ⟨p00, p01, p02, p10, p11, p12, p20, p21, p22, p30, p31, p32, p40, p41, p42, p50, p51, p52, p60, p61, p62⟩ := zm_pt_t
  have eq : zm_q 3 hi nl = if 1 ≤ hi then 0 else if hi = 0 ∧ nl = 0 then 6 else 3 := rfl
  have ed : zm_dl 3 hi nl = if 1 ≤ hi then max (-nl) 1 else if hi = 0 ∧ nl = 0 then 0 else min hi (-1) := rfl
  rw [eq, ed]
  unfold zm_Q
  by_cases c1 : 1 ≤ hi
  · rw [if_pos c1, if_pos c1, p00, p01, p02]
    omega
  · rw [if_neg c1, if_neg c1]
    by_cases c2 : hi = 0 ∧ nl = 0
    · rw [if_pos c2, if_pos c2, p60, p61, p62]
      omega
    · rw [if_neg c2, if_neg c2, p30, p31, p32]
      omega
theorem zm_s2 {hi nl : Int} (h : 0 ≤ hi + nl) : zm_Q (zm_q 2 hi nl) 0 2 (zm_dl 2 hi nl) ∧ -nl ≤ zm_dl 2 hi nl ∧ zm_dl 2 hi nl ≤ hi := by
  obtain ⟨p00, p01, p02, p10, p11, p12, p20, p21, p22, p30, p31, p32, p40, p41, p42, p50, p51, p52, p60, p61, p62⟩ := zm_pt_t
  have eq : zm_q 2 hi nl = if 2 ≤ hi then 0 else if hi = 1 then 3 else if hi = 0 ∧ nl = 0 then 4 else 5 := rfl
  have ed : zm_dl 2 hi nl = if 2 ≤ hi then max (-nl) 2 else if hi = 1 then 1 else if hi = 0 ∧ nl = 0 then 0 else min hi (-1) := rfl
  rw [eq, ed]
  unfold zm_Q
  by_cases c1 : 2 ≤ hi
  · rw [if_pos c1, if_pos c1, p00, p01, p02]
    omega
  · rw [if_neg c1, if_neg c1]
    by_cases c3 : hi = 1
    · rw [if_pos c3, if_pos c3, p30, p31, p32]
      omega
    · rw [if_neg c3, if_neg c3]
      by_cases c2 : hi = 0 ∧ nl = 0
      · rw [if_pos c2, if_pos c2, p40, p41, p42]
        omega
      · rw [if_neg c2, if_neg c2, p50, p51, p52]
        omega
theorem zm_loc {t u : Nat} (hne : t ≠ u) (hs : t / 3 = u / 3) : (t % 3 = 0 ∧ u % 3 = 1) ∨ (t % 3 = 0 ∧ u % 3 = 2) ∨ (t % 3 = 1 ∧ u % 3 = 2) ∨ (t % 3 = 1 ∧ u % 3 = 0) ∨ (t % 3 = 2 ∧ u % 3 = 0) ∨ (t % 3 = 2 ∧ u % 3 = 1) := by omega
/-- one group: the pattern and the difference fit -/
theorem zm_sameD {t u : Nat} {U N : Int} (hne : t ≠ u) (hs : t / 3 = u / 3) (h0 : 0 ≤ U + N) : zm_Q (zm_qD t u U N) (t % 3) (u % 3) (zm_dD t u U N) ∧ -N ≤ zm_dD t u U N ∧ zm_dD t u U N ≤ U := by
  unfold zm_qD zm_dD
  rw [if_pos hs, if_pos hs]
  rcases zm_loc hne hs with ⟨a, b⟩ | ⟨a, b⟩ | ⟨a, b⟩ | ⟨a, b⟩ | ⟨a, b⟩ | ⟨a, b⟩
  · rw [if_pos (by omega), if_pos (by omega), a, b]
    exact zm_s1 h0
  · rw [if_pos (by omega), if_pos (by omega), a, b]
    exact zm_s2 h0
  · rw [if_pos (by omega), if_pos (by omega), a, b]
    exact zm_s3 h0
  · rw [if_neg (by omega), if_neg (by omega), a, b]
    have := zm_s1 (hi := N) (nl := U) (by omega)
    exact ⟨zm_Q_sw this.1, Int.neg_le_neg this.2.2, Int.neg_le_of_neg_le this.2.1⟩
  · rw [if_neg (by omega), if_neg (by omega), a, b]
    have := zm_s2 (hi := N) (nl := U) (by omega)
    exact ⟨zm_Q_sw this.1, Int.neg_le_neg this.2.2, Int.neg_le_of_neg_le this.2.1⟩
  · rw [if_neg (by omega), if_neg (by omega), a, b]
    have := zm_s3 (hi := N) (nl := U) (by omega)
    exact ⟨zm_Q_sw this.1, Int.neg_le_neg this.2.2, Int.neg_le_of_neg_le this.2.1⟩
theorem zm_sameR {t u : Nat} {k : Int} (hne : t ≠ u) (hs : t / 3 = u / 3) : zm_Q (zm_q2 t u k) (t % 3) (u % 3) (zm_d2 t u k) ∧ zm_d2 t u k ≤ k := by
  obtain ⟨p00, p01, p02, p10, p11, p12, p20, p21, p22, p30, p31, p32, p40, p41, p42, p50, p51, p52, p60, p61, p62⟩ := zm_pt_t
  unfold zm_q2 zm_d2 zm_Q
  rw [if_pos hs, if_pos hs]
  rcases zm_loc hne hs with ⟨a, b⟩ | ⟨a, b⟩ | ⟨a, b⟩ | ⟨a, b⟩ | ⟨a, b⟩ | ⟨a, b⟩
  · rw [if_pos (show t < u by omega), if_neg (show ¬ (t < u ∧ t % 3 + u % 3 = 2) by omega), a, b, if_pos rfl]
    by_cases c1 : 1 ≤ k
    · rw [if_pos c1, p00, p01, p02]
      omega
    · rw [if_neg c1]
      by_cases c2 : k = 0
      · rw [if_pos c2, p10, p11, p12]
        omega
      · rw [if_neg c2, p20, p21, p22]
        omega
  · rw [if_pos (show t < u by omega), if_pos (show (t < u ∧ t % 3 + u % 3 = 2) by omega), a, b, if_neg (by decide), if_pos rfl]
    by_cases c1 : 2 ≤ k
    · rw [if_pos c1, p00, p01, p02]
      omega
    · rw [if_neg c1]
      by_cases c3 : k = 1
      · rw [if_pos c3, p60, p61, p62]
        omega
      · rw [if_neg c3]
        by_cases c2 : k = 0
        · rw [if_pos c2, p40, p41, p42]
          omega
        · rw [if_neg c2, p50, p51, p52]
          omega
  · rw [if_pos (show t < u by omega), if_neg (show ¬ (t < u ∧ t % 3 + u % 3 = 2) by omega), a, b, if_neg (by decide), if_neg (by decide)]
    by_cases c1 : 1 ≤ k
    · rw [if_pos c1, p00, p01, p02]
      omega
    · rw [if_neg c1]
      by_cases c2 : k = 0
      · rw [if_pos c2, p60, p61, p62]
        omega
      · rw [if_neg c2, p30, p31, p32]
        omega
  · rw [if_neg (show ¬ t < u by omega), if_neg (show ¬ (t < u ∧ t % 3 + u % 3 = 2) by omega), a, b, if_pos (by decide)]
    by_cases c1 : k ≤ -1
    · rw [if_pos c1, p00, p01, p02]
      omega
    · rw [if_neg c1]
      by_cases c2 : k = 0
      · rw [if_pos c2, p10, p11, p12]
        omega
      · rw [if_neg c2, p20, p21, p22]
        omega
  · rw [if_neg (show ¬ t < u by omega), if_neg (show ¬ (t < u ∧ t % 3 + u % 3 = 2) by omega), a, b, if_neg (by decide), if_pos (by decide)]
    by_cases c1 : k ≤ -3
    · rw [if_pos c1, p00, p01, p02]
      omega
    · rw [if_neg c1]
      by_cases c3 : k ≤ -1
      · rw [if_pos c3, p30, p31, p32]
        omega
      · rw [if_neg c3]
        by_cases c2 : k = 0
        · rw [if_pos c2, p40, p41, p42]
          omega
        · rw [if_neg c2, p50, p51, p52]
          omega
  · rw [if_neg (show ¬ t < u by omega), if_neg (show ¬ (t < u ∧ t % 3 + u % 3 = 2) by omega), a, b, if_neg (by decide), if_neg (by decide)]
    by_cases c1 : k ≤ -1
    · rw [if_pos c1, p00, p01, p02]
      omega
    · rw [if_neg c1]
      by_cases c2 : k = 0
      · rw [if_pos c2, p60, p61, p62]
        omega
      · rw [if_neg c2, p30, p31, p32]
        omega
theorem zm_pcs {t u q : Nat} {d : Int} (ht : t < 7) (hu : u < 7) (hne : t ≠ u) (h : t / 3 = u / 3 → zm_Q q (t % 3) (u % 3) d) : zm_pc (zm_rho (t / 3) q) t u d := by
  intro hs
  have k := zm_asm (g := t / 3) (i := t % 3) (j := u % 3) (by omega) (by omega) (by omega) (by omega) (h hs)
  rw [show 3 * (t / 3) + t % 3 = t by omega, show 3 * (t / 3) + u % 3 = u by omega] at k
  exact k hs
/-- the model of a search that begins with all choices false: t less u lies between -N and U -/
theorem zm_D {t u : Nat} {U N : Int} (ht : t < 7) (hu : u < 7) (hne : t ≠ u) (h0 : 0 ≤ U + N) (hU : -130 ≤ U ∧ (U ≤ 130 ∨ U = 1000)) (hN : -130 ≤ N ∧ (N ≤ 130 ∨ N = 1000)) :
    zm_gd (zm_rho (t / 3) (zm_qD t u U N)) = true ∧ (∃ hu' hl' : Int, zm_ck (zm_rho (t / 3) (zm_qD t u U N)) (fun _ => false) t u hu' hl' = true ∧ -3 ≤ hu' ∧ -3 ≤ hl' ∧ (hu' < 500 → U ≤ hu') ∧ (hl' < 500 → N ≤ hl')) ∧
    -N ≤ zm_dD t u U N ∧ zm_dD t u U N ≤ U ∧ -140 ≤ zm_dD t u U N ∧ zm_dD t u U N ≤ 140 ∧ zm_pc (zm_rho (t / 3) (zm_qD t u U N)) t u (zm_dD t u U N) := by
  by_cases hs : t / 3 = u / 3
  · obtain ⟨k1, k2, k3⟩ := zm_sameD (U := U) (N := N) hne hs h0
    obtain ⟨a, ha, ea⟩ := zm_idx U
    obtain ⟨b, hb, eb⟩ := zm_idx N
    have c := zm_ckD (g := t / 3) (i := t % 3) (j := u % 3) (by omega) (by omega) (by omega) (by omega) ha hb (by rw [ea, eb]; unfold zm_cp; omega)
    rw [ea, eb, show 3 * (t / 3) + t % 3 = t by omega, show 3 * (t / 3) + u % 3 = u by omega, zm_qD_cp, zm_wt_cp, zm_wt_cp] at c
    refine ⟨c.1, ⟨zm_wt U, zm_wt N, c.2, zm_wt_lo _, zm_wt_lo _, zm_wt_ge, zm_wt_ge⟩, k2, k3, ?_, ?_, zm_pcs ht hu hne (fun _ => k1)⟩
    · unfold zm_dD zm_dl
      rw [if_pos hs]
      split
      · split
        · split
          · omega
          · split
            · omega
            · split <;> omega
        · split
          · omega
          · split <;> omega
      · split
        · split
          · omega
          · split
            · omega
            · split <;> omega
        · split
          · omega
          · split <;> omega
    · unfold zm_dD zm_dl
      rw [if_pos hs]
      split
      · split
        · split
          · omega
          · split
            · omega
            · split <;> omega
        · split
          · omega
          · split <;> omega
      · split
        · split
          · omega
          · split
            · omega
            · split <;> omega
        · split
          · omega
          · split <;> omega
  · have e : zm_qD t u U N = 0 := by
      unfold zm_qD
      rw [if_neg hs]
    have ed : zm_dD t u U N = (if U < 500 then U else if N < 500 then -N else 0) := by
      unfold zm_dD
      rw [if_neg hs]
    rw [e, ed, zm_rho0]
    refine ⟨zm_gdX, ⟨1000, 1000, (zm_ckX t ht u hu).1, by decide, by decide, fun h => absurd h (by decide), fun h => absurd h (by decide)⟩, ?_, ?_, ?_, ?_, fun z => absurd z hs⟩
    · split
      · omega
      · split <;> omega
    · split
      · omega
      · split <;> omega
    · split
      · omega
      · split <;> omega
    · split
      · omega
      · split <;> omega
/-- the model of the second search of patterns: its choices follow the first model -/
theorem zm_R {t u : Nat} {k : Int} (ht : t < 7) (hu : u < 7) (hne : t ≠ u) (hk : -20 ≤ k ∧ k ≤ 20) :
    zm_gd (zm_rho (t / 3) (zm_q2 t u k)) = true ∧ (∃ hu' : Int, zm_ck (zm_rho (t / 3) (zm_q2 t u k)) (zm_tt (zm_rho (t / 3) (zm_qD t u 1000 (-k - 1)))) t u hu' 1000 = true ∧ -3 ≤ hu' ∧ (hu' < 500 → k ≤ hu')) ∧
    zm_d2 t u k ≤ k ∧ -140 ≤ zm_d2 t u k ∧ zm_pc (zm_rho (t / 3) (zm_q2 t u k)) t u (zm_d2 t u k) := by
  by_cases hs : t / 3 = u / 3
  · obtain ⟨k1, k2⟩ := zm_sameR (k := k) hne hs
    obtain ⟨a, ha, ea⟩ := zm_idx4 k
    have c := zm_ckR (g := t / 3) (i := t % 3) (j := u % 3) (by omega) (by omega) (by omega) (by omega) ha
    have e1 : zm_qD t u 1000 (-zm_c4 k - 1) = zm_qD t u 1000 (-k - 1) := by
      unfold zm_qD zm_q
      have a1 : (1 ≤ -zm_c4 k - 1) ↔ (1 ≤ -k - 1) := by unfold zm_c4; omega
      have a2 : (2 ≤ -zm_c4 k - 1) ↔ (2 ≤ -k - 1) := by unfold zm_c4; omega
      have a3 : (-zm_c4 k - 1 = 0) ↔ (-k - 1 = 0) := by unfold zm_c4; omega
      have a4 : (-zm_c4 k - 1 = 1) ↔ (-k - 1 = 1) := by unfold zm_c4; omega
      simp only [a1, a2, a3, a4]
    rw [ea, show 3 * (t / 3) + t % 3 = t by omega, show 3 * (t / 3) + u % 3 = u by omega, zm_q2_c4, zm_wt_c4, e1] at c
    refine ⟨c.1, ⟨zm_wt k, c.2, zm_wt_lo _, zm_wt_ge⟩, k2, ?_, zm_pcs ht hu hne (fun _ => k1)⟩
    unfold zm_d2
    rw [if_pos hs]
    split <;> omega
  · have e : zm_q2 t u k = 0 := by
      unfold zm_q2
      rw [if_neg hs]
    have e1 : zm_qD t u 1000 (-k - 1) = 0 := by
      unfold zm_qD
      rw [if_neg hs]
    have ed : zm_d2 t u k = k := by
      unfold zm_d2
      rw [if_neg hs]
    rw [e, ed, e1, zm_rho0]
    exact ⟨zm_gdX, ⟨1000, (zm_ckX t ht u hu).2, by decide, fun h => absurd h (by decide)⟩, Int.le_refl _, by omega, fun z => absurd z hs⟩
end
end
section
section
def zt_L (o t v : Nat) : Nat := if o ≤ v ∧ v < o + 12 then zl_TL (v - o) else t
def zt_R (o u v : Nat) : Nat := if o ≤ v ∧ v < o + 12 then zl_TR (v - o) else u
def zt_K (o : Nat) (k kq : Int) (v : Nat) : Int := if o ≤ v ∧ v < o + 12 then 0 else if v < o then k else kq
theorem zt_12 {o t u : Nat} {k kq : Int} : ∀ x, x < 12 → zt_L o t (o + x) = zl_TL x ∧ zt_R o u (o + x) = zl_TR x ∧ zt_K o k kq (o + x) = 0 := by
  intro x hx
  unfold zt_L zt_R zt_K
  rw [if_pos (by omega), if_pos (by omega), if_pos (by omega), show o + x - o = x by omega]
  exact ⟨rfl, rfl, rfl⟩
theorem zt_at {t u : Nat} {k kq : Int} : zt_L 1 t 0 = t ∧ zt_R 1 u 0 = u ∧ zt_K 1 k kq 0 = k := by
  unfold zt_L zt_R zt_K
  rw [if_neg (by omega), if_neg (by omega), if_neg (by omega), if_pos (by omega)]
  exact ⟨rfl, rfl, rfl⟩
theorem zt_qu {o t u : Nat} {k kq : Int} : zt_L o t (o + 12) = t ∧ zt_R o u (o + 12) = u ∧ zt_K o k kq (o + 12) = kq := by
  unfold zt_L zt_R zt_K
  rw [if_neg (by omega), if_neg (by omega), if_neg (by omega), if_neg (by omega)]
  exact ⟨rfl, rfl, rfl⟩
/-- the edges of the literals about t and u -/
theorem zt_e0 {t u : Nat} {k kq : Int} : ze_f (zt_L 1 t) (zt_R 1 u) 0 = u ∧ ze_t (zt_L 1 t) (zt_R 1 u) 0 = t ∧ ze_w (zt_K 1 k kq) 0 = k := by
  obtain ⟨e1, e2, e3⟩ := zd_e0 (L := zt_L 1 t) (R := zt_R 1 u) (K := zt_K 1 k kq) 0
  obtain ⟨f1, f2, f3⟩ := zt_at (t := t) (u := u) (k := k) (kq := kq)
  rw [f1] at e2
  rw [f2] at e1
  rw [f3] at e3
  exact ⟨e1, e2, e3⟩
theorem zt_e1 {t u : Nat} {k kq : Int} : ze_f (zt_L 1 t) (zt_R 1 u) 1 = t ∧ ze_t (zt_L 1 t) (zt_R 1 u) 1 = u ∧ ze_w (zt_K 1 k kq) 1 = -k - 1 := by
  obtain ⟨e1, e2, e3⟩ := zd_e1 (L := zt_L 1 t) (R := zt_R 1 u) (K := zt_K 1 k kq) 0
  obtain ⟨f1, f2, f3⟩ := zt_at (t := t) (u := u) (k := k) (kq := kq)
  rw [f1] at e1
  rw [f2] at e2
  rw [f3] at e3
  exact ⟨e1, e2, e3⟩
theorem zt_eq {o t u : Nat} {k kq : Int} : ze_f (zt_L o t) (zt_R o u) (2 * (o + 12)) = u ∧ ze_t (zt_L o t) (zt_R o u) (2 * (o + 12)) = t ∧ ze_w (zt_K o k kq) (2 * (o + 12)) = kq := by
  obtain ⟨e1, e2, e3⟩ := zd_e0 (L := zt_L o t) (R := zt_R o u) (K := zt_K o k kq) (o + 12)
  obtain ⟨f1, f2, f3⟩ := zt_qu (o := o) (t := t) (u := u) (k := k) (kq := kq)
  rw [f1] at e2
  rw [f2] at e1
  rw [f3] at e3
  exact ⟨e1, e2, e3⟩
theorem zt_sat0 {o : Nat} {L R : Nat → Nat} {K M r : Nat → Int} (h12 : ∀ x, x < 12 → L (o + x) = zl_TL x ∧ R (o + x) = zl_TR x ∧ K (o + x) = 0) (hpat : ∀ x, x < 12 → (M (zl_TL x) ≤ M (zl_TR x) ↔ r (zl_TL x) ≤ r (zl_TR x))) :
    ∀ y, y < 12 → (ze_sat L R K M (2 * (o + y)) ↔ zm_tt r y = true) ∧ (ze_sat L R K M (2 * (o + y) + 1) ↔ zm_tt r y = false) := by
  intro y hy
  obtain ⟨f1, f2, f3⟩ := h12 y hy
  constructor
  · obtain ⟨e1, e2, e3⟩ := zd_e0 (L := L) (R := R) (K := K) (o + y)
    unfold ze_sat zm_tt
    rw [e1, e2, e3, f1, f2, f3, decide_eq_true_iff, ← hpat y hy]
    constructor <;> intro <;> omega
  · obtain ⟨e1, e2, e3⟩ := zd_e1 (L := L) (R := R) (K := K) (o + y)
    unfold ze_sat zm_tt
    rw [e1, e2, e3, f1, f2, f3, decide_eq_false_iff_not, ← hpat y hy]
    constructor <;> intro <;> omega
theorem zt_good {o : Nat} {L R : Nat → Nat} {K M r : Nat → Int} (h12 : ∀ x, x < 12 → L (o + x) = zl_TL x ∧ R (o + x) = zl_TR x ∧ K (o + x) = 0) (hpat : ∀ x, x < 12 → (M (zl_TL x) ≤ M (zl_TR x) ↔ r (zl_TL x) ≤ r (zl_TR x))) (hg : zm_gd r = true) : zw_good o L R K M := by
  intro c hc
  have s := zt_sat0 (o := o) h12 hpat
  have h := List.all_eq_true.mp hg (c / 2) (List.mem_range.mpr (by omega))
  have k0 : zw_cl o c 0 = 2 * (o + 4 * (c / 2)) + 1 := by
    unfold zw_cl
    rw [if_pos rfl]
  have k1 : zw_cl o c 1 = 2 * (o + (4 * (c / 2) + 1)) + 1 := by
    unfold zw_cl
    rw [if_neg (by decide), if_pos rfl]
    omega
  have k2 : zw_cl o c 2 = 2 * (o + (4 * (c / 2) + 2 + c % 2)) := by
    unfold zw_cl
    rw [if_neg (by decide), if_neg (by decide)]
    omega
  cases h1 : zm_tt r (4 * (c / 2)) with
  | false => exact ⟨0, by decide, by rw [k0]; exact (s _ (by omega)).2.mpr h1⟩
  | true =>
    cases h2 : zm_tt r (4 * (c / 2) + 1) with
    | false => exact ⟨1, by decide, by rw [k1]; exact (s _ (by omega)).2.mpr h2⟩
    | true =>
      rw [h1, h2] at h
      have h' : zm_tt r (4 * (c / 2) + 2) = true ∧ zm_tt r (4 * (c / 2) + 3) = true := by simpa using h
      refine ⟨2, by decide, ?_⟩
      rw [k2]
      refine (s _ (by omega)).1.mpr ?_
      rcases (show c % 2 = 0 ∨ c % 2 = 1 by omega) with z | z
      · rw [z]
        exact h'.1
      · rw [z]
        exact h'.2
/-- every choice agrees with M -/
theorem zt_CH {o n ac la : Nat} {L R : Nat → Nat} {K M r : Nat → Int} {τ0 : List Nat} {p : Nat → Nat} {pt : Nat → Bool} {t u : Nat} {hU hL : Int} (ho : o ≤ 1) (hn : n = o + 12 ∨ n = o + 13) (h12 : ∀ x, x < 12 → L (o + x) = zl_TL x ∧ R (o + x) = zl_TR x ∧ K (o + x) = 0)
    (hpat : ∀ x, x < 12 → (M (zl_TL x) ≤ M (zl_TR x) ↔ r (zl_TL x) ≤ r (zl_TR x))) (hck : zm_ck r pt t u hU hL = true) (hU3 : -3 ≤ hU) (hL3 : -3 ≤ hL) (hp : ∀ x, x < 12 → p (o + x) = if pt x = true then 1 else 0)
    (hA : o = 1 → ∀ τ : List Nat, (∀ x, x ∈ τ → ze_sat L R K M x) → (∀ x, x ∈ τ0 → x ∈ τ) → (ac = 1 → la ∈ τ) → zd_cl n L R K τ → 0 ∉ τ → 1 ∉ τ → ze_sat L R K M (1 - p 0))
    (hQ : n = o + 13 → ac = 1 ∧ la = 2 * (o + 12))
    (g1 : hU < 500 → ∀ τ : List Nat, (∀ x, x ∈ τ → ze_sat L R K M x) → (∀ x, x ∈ τ0 → x ∈ τ) → (ac = 1 → la ∈ τ) → (o = 1 → 0 ∈ τ ∨ 1 ∈ τ) → ∃ l, l ∈ τ ∧ ze_f L R l = u ∧ ze_t L R l = t ∧ ze_w K l ≤ hU)
    (g2 : hL < 500 → ∀ τ : List Nat, (∀ x, x ∈ τ → ze_sat L R K M x) → (∀ x, x ∈ τ0 → x ∈ τ) → (ac = 1 → la ∈ τ) → (o = 1 → 0 ∈ τ ∨ 1 ∈ τ) → ∃ l, l ∈ τ ∧ ze_f L R l = t ∧ ze_t L R l = u ∧ ze_w K l ≤ hL) :
    ∀ τ : List Nat, (∀ x, x ∈ τ → ze_sat L R K M x) → (∀ x, x ∈ τ0 → x ∈ τ) → (ac = 1 → la ∈ τ) → zd_cl n L R K τ → zs_b3 o τ → ∀ v, v < n → 2 * v ∉ τ → 2 * v + 1 ∉ τ → (∀ k, k < v → 2 * k ∈ τ ∨ 2 * k + 1 ∈ τ) → ze_sat L R K M (2 * v + 1 - p v) := by
  intro τ h1 h2 h3 h4 h5 v hv u1 u2 hlow
  rcases Nat.lt_or_ge v o with g | g
  · have e : o = 1 := by omega
    have e0 : v = 0 := by omega
    rw [e0] at u1 u2 ⊢
    exact hA e τ h1 h2 h3 h4 u1 u2
  · rcases Nat.lt_or_ge v (o + 12) with g' | g'
    · have hl : o = 1 → 0 ∈ τ ∨ 1 ∈ τ ∨ v = 0 := fun e => by
        rcases Nat.eq_zero_or_pos v with z | z
        · exact Or.inr (Or.inr z)
        · rcases hlow 0 z with y | y
          · exact Or.inl y
          · exact Or.inr (Or.inl y)
      have hl' : o = 1 → 0 ∈ τ ∨ 1 ∈ τ := fun e => by
        rcases hl e with z | z | z
        · exact Or.inl z
        · exact Or.inr z
        · exact absurd z (by omega)
      obtain ⟨x, rfl⟩ : ∃ x, v = o + x := ⟨v - o, by omega⟩
      exact zm_pick (t := t) (u := u) (hU := hU) (hL := hL) (by omega) h12 hpat hck hU3 hL3 hp h1 h4 h5 (fun h => g1 h τ h1 h2 h3 hl') (fun h => g2 h τ h1 h2 h3 hl') x (by omega) u1 u2 hlow
    · have hq := hQ (by omega)
      have := h3 hq.1
      rw [hq.2, show o + 12 = v by omega] at this
      exact absurd this u1
/-- what a question leaves alone -/
def zt_pr (w : St2) : Int32 × Int32 × Int32 × Int32 × (Nat → Int32) × (Nat → Int32) × (Nat → Int32) × (Nat → Int32) × (Nat → Int32) × (Nat → Int32) × (Nat → Int32) × (Nat → Int32) := match w with
  | (f0_atomCount, f0_clauseCount, f0_drafted, f0_opened, f0_variables, f0_stock, f0_stored, f0_hopeless, f0_trailSize, f0_nextWatch, f0_nextEdge, f0_depth, f0_bump, f0_conflictSize, f0_learnedSize, f0_assumed, f0_counted, a1, a2, a3, a4, a5, a6, a7, a8, a9, a10, a11, a12, a13, a14, a15, a16, a17, a18, a19, a20, a21, a22, a23, a24, a25, a26, a27, a28, a29, a30, a31, a32, a33, a34, a35, a36, a37, a38) => (f0_atomCount, f0_clauseCount, f0_drafted, f0_opened, a1, a2, a3, a4, a5, a6, a7, a8)
variable {f0_atomCount f0_clauseCount f0_drafted f0_opened f0_variables f0_stock f0_stored f0_hopeless f0_trailSize f0_nextWatch f0_nextEdge f0_depth f0_bump f0_conflictSize f0_learnedSize f0_assumed f0_counted : Int32} {a1 a2 a3 a4 a5 a6 a7 a8 a9 a10 a11 a12 a13 a14 a15 a16 a17 a18 a19 a20 a21 a22 a23 a24 a25 a26 a27 a28 a29 a30 a31 a32 a33 a34 a35 a36 a37 a38 : Nat → Int32}
theorem zt_el {P : St2 → Prop} (h : ∀ f0_variables f0_stock f0_stored f0_hopeless f0_trailSize f0_nextWatch f0_nextEdge f0_depth f0_bump f0_conflictSize f0_learnedSize f0_assumed f0_counted a9 a10 a11 a12 a13 a14 a15 a16 a17 a18 a19 a20 a21 a22 a23 a24 a25 a26 a27 a28 a29 a30 a31 a32 a33 a34 a35 a36 a37 a38, P (f0_atomCount, f0_clauseCount, f0_drafted, f0_opened, f0_variables, f0_stock, f0_stored, f0_hopeless, f0_trailSize, f0_nextWatch, f0_nextEdge, f0_depth, f0_bump, f0_conflictSize, f0_learnedSize, f0_assumed, f0_counted, a1, a2, a3, a4, a5, a6, a7, a8, a9, a10, a11, a12, a13, a14, a15, a16, a17, a18, a19, a20, a21, a22, a23, a24, a25, a26, a27, a28, a29, a30, a31, a32, a33, a34, a35, a36, a37, a38)) : ∀ w, zt_pr w = (f0_atomCount, f0_clauseCount, f0_drafted, f0_opened, a1, a2, a3, a4, a5, a6, a7, a8) → P w := by
  intro w e
  obtain ⟨f1_atomCount, f1_clauseCount, f1_drafted, f1_opened, f1_variables, f1_stock, f1_stored, f1_hopeless, f1_trailSize, f1_nextWatch, f1_nextEdge, f1_depth, f1_bump, f1_conflictSize, f1_learnedSize, f1_assumed, f1_counted, b1, b2, b3, b4, b5, b6, b7, b8, b9, b10, b11, b12, b13, b14, b15, b16, b17, b18, b19, b20, b21, b22, b23, b24, b25, b26, b27, b28, b29, b30, b31, b32, b33, b34, b35, b36, b37, b38⟩ := w
  unfold zt_pr at e
  try dsimp only at e
  obtain ⟨rfl, rfl, rfl, rfl, rfl, rfl, rfl, rfl, rfl, rfl, rfl, rfl⟩ := (by simpa only [Prod.mk.injEq] using e : f1_atomCount = f0_atomCount ∧ f1_clauseCount = f0_clauseCount ∧ f1_drafted = f0_drafted ∧ f1_opened = f0_opened ∧ b1 = a1 ∧ b2 = a2 ∧ b3 = a3 ∧ b4 = a4 ∧ b5 = a5 ∧ b6 = a6 ∧ b7 = a7 ∧ b8 = a8)
  exact h _ _ _ _ _ _ _ _ _ _ _ _ _ _ _ _ _ _ _ _ _ _ _ _ _ _ _ _ _ _ _ _ _ _ _ _ _ _ _ _ _ _ _
end
end
section
section
variable {f0_atomCount f0_clauseCount f0_drafted f0_opened f0_variables f0_stock f0_stored f0_hopeless f0_trailSize f0_nextWatch f0_nextEdge f0_depth f0_bump f0_conflictSize f0_learnedSize f0_assumed f0_counted : Int32} {a1 a2 a3 a4 a5 a6 a7 a8 a9 a10 a11 a12 a13 a14 a15 a16 a17 a18 a19 a20 a21 a22 a23 a24 a25 a26 a27 a28 a29 a30 a31 a32 a33 a34 a35 a36 a37 a38 : Nat → Int32}
theorem zt_go {post : Int32 → St2 → Prop} {o n ac la t u : Nat} {k kq U N : Int} {τ0 : List Nat} {wt : Nat → Nat} {WL : Nat → List Nat} (ho : o ≤ 1) (hn : n = o + 12 ∨ n = o + 13) (ht : t < 7) (hu : u < 7) (hne : t ≠ u) (h0 : 0 ≤ U + N) (hU : -130 ≤ U ∧ (U ≤ 130 ∨ U = 1000)) (hN : -130 ≤ N ∧ (N ≤ 130 ∨ N = 1000)) (hac : ac ≤ 1)
    (hla : ac = 1 → a38 0 = nI la ∧ la < 2 * n ∧ ∀ M : Nat → Int, M t - M u ≤ U → -N ≤ M t - M u → ze_sat (zt_L o t) (zt_R o u) (zt_K o k kq) M la)
    (hτ : ∀ M : Nat → Int, M t - M u ≤ U → -N ≤ M t - M u → ∀ x, x ∈ τ0 → ze_sat (zt_L o t) (zt_R o u) (zt_K o k kq) M x)
    (hA : o = 1 → ∀ M : Nat → Int, M t - M u ≤ U → -N ≤ M t - M u → ∀ τ : List Nat, (∀ x, x ∈ τ → ze_sat (zt_L o t) (zt_R o u) (zt_K o k kq) M x) → (∀ x, x ∈ τ0 → x ∈ τ) → (ac = 1 → la ∈ τ) → zd_cl n (zt_L o t) (zt_R o u) (zt_K o k kq) τ → 0 ∉ τ → 1 ∉ τ → ze_sat (zt_L o t) (zt_R o u) (zt_K o k kq) M 1)
    (hQ : n = o + 13 → ac = 1 ∧ la = 2 * (o + 12))
    (g1 : U < 500 → ∀ M : Nat → Int, M t - M u ≤ U → -N ≤ M t - M u → ∀ τ : List Nat, (∀ x, x ∈ τ → ze_sat (zt_L o t) (zt_R o u) (zt_K o k kq) M x) → (∀ x, x ∈ τ0 → x ∈ τ) → (ac = 1 → la ∈ τ) → (o = 1 → 0 ∈ τ ∨ 1 ∈ τ) → ∃ l, l ∈ τ ∧ ze_f (zt_L o t) (zt_R o u) l = u ∧ ze_t (zt_L o t) (zt_R o u) l = t ∧ ze_w (zt_K o k kq) l ≤ U)
    (g2 : N < 500 → ∀ M : Nat → Int, M t - M u ≤ U → -N ≤ M t - M u → ∀ τ : List Nat, (∀ x, x ∈ τ → ze_sat (zt_L o t) (zt_R o u) (zt_K o k kq) M x) → (∀ x, x ∈ τ0 → x ∈ τ) → (ac = 1 → la ∈ τ) → (o = 1 → 0 ∈ τ ∨ 1 ∈ τ) → ∃ l, l ∈ τ ∧ ze_f (zt_L o t) (zt_R o u) l = t ∧ ze_t (zt_L o t) (zt_R o u) l = u ∧ ze_w (zt_K o k kq) l ≤ N)
    (hv : ze_vs n (zt_L o t) (zt_R o u) (zt_K o k kq) a9 a10 a11) (hT : zb_tr n τ0 a18 a21) (hz : ∀ x, x < n → a23 x = 0 ∧ a24 x = 0) (hst : zw_st o 6 a12 a13 a14) (hwl : zw_wl o 12 wt WL [] 0 a15 a16 a17) (h30 : ∀ x, x < 7 → a30 x = 0)
    (H : ∀ σ d z wt WL l0 b15 b16 b17 b18 b19 b20 b21 b22 b25 b26 b27 b28 b29 b30 b31 b32 b33 b34, zs_px τ0 σ → (∀ v, v < n → 2 * v ∈ σ ∨ 2 * v + 1 ∈ σ) → zp_iv True n o (zt_L o t) (zt_R o u) (zt_K o k kq) (zm_M (zm_rho (t / 3) (zm_qD t u U N)) t u (zm_dD t u U N)) 200 σ σ.length σ.length wt WL l0 b15 b16 b17 b18 b21 b27 b28 b29 b30 → (ac = 1 → 1 ≤ d) → d < 25 →
      (1 ≤ d → b22 1 = nI z ∧ z ≤ σ.length ∧ τ0.length ≤ z ∧ (τ0 = [] → z = 0)) →
      post 1 (f0_atomCount, f0_clauseCount, f0_drafted, f0_opened, nI n, f0_stock, f0_stored, 0, nI σ.length, nI σ.length, nI σ.length, nI d, f0_bump, f0_conflictSize, f0_learnedSize, nI ac, f0_counted, a1, a2, a3, a4, a5, a6, a7, a8, a9, a10, a11, a12, a13, a14, b15, b16, b17, b18, b19, b20, b21, b22, a23, a24, b25, b26, b27, b28, b29, b30, b31, b32, b33, b34, a35, a36, a37, a38)) :
    wpX_solve post (f0_atomCount, f0_clauseCount, f0_drafted, f0_opened, nI n, f0_stock, f0_stored, 0, nI τ0.length, 0, 0, 0, f0_bump, f0_conflictSize, f0_learnedSize, nI ac, f0_counted, a1, a2, a3, a4, a5, a6, a7, a8, a9, a10, a11, a12, a13, a14, a15, a16, a17, a18, a19, a20, a21, a22, a23, a24, a25, a26, a27, a28, a29, a30, a31, a32, a33, a34, a35, a36, a37, a38) := by
  obtain ⟨m1, ⟨hu', hl', m2, m3, m4, m5, m6⟩, m7, m8, m9, m10, m11⟩ := zm_D (U := U) (N := N) ht hu hne h0 hU hN
  generalize hr : zm_rho (t / 3) (zm_qD t u U N) = r at *
  generalize hd : zm_dD t u U N = d at *
  have hrb : ∀ x, 0 ≤ r x ∧ r x ≤ 2 := fun x => by
    rw [← hr]
    exact zm_rho_b _ _ _
  have htu := zm_M_tu (r := r) (d := d) hne
  have hB := zm_M_bd (t := t) (u := u) hrb m9 m10
  have hpat := zm_M_pat hne m11
  have b1 : zm_M r t u d t - zm_M r t u d u ≤ U := by omega
  have b2 : -N ≤ zm_M r t u d t - zm_M r t u d u := by omega
  have hlen := zb_tr_len hT
  have h30' : ∀ x, x < 7 → (a30 x).toInt = 0 := fun x hx => by
    rw [h30 x hx]
    decide
  unfold wpX_solve
  try dsimp only
  refine zs_back0 (br_t rfl ⟨n + 1 + 2, ?_⟩)
  refine zs_sat (p := fun _ => 0) (s := 200) hv (by omega) (by omega) hst (zt_good zt_12 hpat m1) (fun x _ => hB x) (by decide) hac (fun a => ⟨(hla a).1, (hla a).2.1, (hla a).2.2 _ b1 b2⟩) (fun v hv => (hz v hv).2) (fun v hv => ⟨by decide, (hz v hv).1⟩)
    (zt_CH (pt := fun _ => false) (t := t) (u := u) (hU := hu') (hL := hl') ho hn zt_12 hpat m2 m3 m4 (fun x _ => rfl) (fun e => hA e _ b1 b2) hQ
      (fun h τ q1 q2 q3 q4 => by
        obtain ⟨l, l1, l2, l3, l4⟩ := g1 (by have := m5 h; omega) _ b1 b2 τ q1 q2 q3 q4
        exact ⟨l, l1, l2, l3, Int.le_trans l4 (m5 h)⟩)
      (fun h τ q1 q2 q3 q4 => by
        obtain ⟨l, l1, l2, l3, l4⟩ := g2 (by have := m6 h; omega) _ b1 b2 τ q1 q2 q3 q4
        exact ⟨l, l1, l2, l3, Int.le_trans l4 (m6 h)⟩))
    H (n + 1) 0 τ0 0 0 0 0 wt WL 0 _ _ _ _ _ _ _ _ _ _ _ _ _ _ _ _ _ _ (by omega) (by omega) (by omega) ⟨[], by rw [List.append_nil]⟩ (fun _ e => e) (fun _ e => absurd e (by decide)) (fun e => absurd e (by decide))
    ⟨hT, hτ _ b1 b2, hwl, fun _ w _ i hi => absurd hi (by omega), fun i l hi => absurd hi (by omega), ⟨fun i l hi => absurd hi (by omega), fun x hx => by rw [h30' x hx]; have := hB x; omega⟩, by omega, by omega⟩
/-- a search at whose first depth the assumption is false already -/
theorem zt_goU {post : Int32 → St2 → Prop} {o n la t u : Nat} {k kq U N : Int} {τ0 : List Nat} {wt : Nat → Nat} {WL : Nat → List Nat} (ho : o ≤ 1) (hn : n = o + 12 ∨ n = o + 13) (ht : t < 7) (hu : u < 7) (hne : t ≠ u) (h0 : 0 ≤ U + N) (hU : -130 ≤ U ∧ (U ≤ 130 ∨ U = 1000)) (hN : -130 ≤ N ∧ (N ≤ 130 ∨ N = 1000))
    (hla : a38 0 = nI la ∧ la < 2 * n)
    (hτ : ∀ M : Nat → Int, M t - M u ≤ U → -N ≤ M t - M u → ∀ x, x ∈ τ0 → ze_sat (zt_L o t) (zt_R o u) (zt_K o k kq) M x)
    (HU : ∀ M : Nat → Int, M t - M u ≤ U → -N ≤ M t - M u → ∀ τ : List Nat, (∀ x, x ∈ τ → ze_sat (zt_L o t) (zt_R o u) (zt_K o k kq) M x) → (∀ x, x ∈ τ0 → x ∈ τ) → zd_cl n (zt_L o t) (zt_R o u) (zt_K o k kq) τ → zb_ng la ∈ τ)
    (hv : ze_vs n (zt_L o t) (zt_R o u) (zt_K o k kq) a9 a10 a11) (hT : zb_tr n τ0 a18 a21) (hst : zw_st o 6 a12 a13 a14) (hwl : zw_wl o 12 wt WL [] 0 a15 a16 a17) (h30 : ∀ x, x < 7 → a30 x = 0)
    (H : ∀ σ wt WL l0 b15 b16 b17 b18 b19 b20 b21 b22 b25 b26 b27 b28 b29 b30 b31 b32 b33 b34, zs_px τ0 σ → zp_iv True n o (zt_L o t) (zt_R o u) (zt_K o k kq) (zm_M (zm_rho (t / 3) (zm_qD t u U N)) t u (zm_dD t u U N)) 200 σ σ.length σ.length wt WL l0 b15 b16 b17 b18 b21 b27 b28 b29 b30 → b22 1 = nI σ.length →
      post 0 (f0_atomCount, f0_clauseCount, f0_drafted, f0_opened, nI n, f0_stock, f0_stored, 0, nI σ.length, nI σ.length, nI σ.length, nI 1, f0_bump, f0_conflictSize, f0_learnedSize, nI 1, f0_counted, a1, a2, a3, a4, a5, a6, a7, a8, a9, a10, a11, a12, a13, a14, b15, b16, b17, b18, b19, b20, b21, b22, a23, a24, b25, b26, b27, b28, b29, b30, b31, b32, b33, b34, a35, a36, a37, a38)) :
    wpX_solve post (f0_atomCount, f0_clauseCount, f0_drafted, f0_opened, nI n, f0_stock, f0_stored, 0, nI τ0.length, 0, 0, 0, f0_bump, f0_conflictSize, f0_learnedSize, nI 1, f0_counted, a1, a2, a3, a4, a5, a6, a7, a8, a9, a10, a11, a12, a13, a14, a15, a16, a17, a18, a19, a20, a21, a22, a23, a24, a25, a26, a27, a28, a29, a30, a31, a32, a33, a34, a35, a36, a37, a38) := by
  obtain ⟨m1, _, m7, m8, m9, m10, m11⟩ := zm_D (U := U) (N := N) ht hu hne h0 hU hN
  generalize hr : zm_rho (t / 3) (zm_qD t u U N) = r at *
  generalize hd : zm_dD t u U N = d at *
  have hrb : ∀ x, 0 ≤ r x ∧ r x ≤ 2 := fun x => by
    rw [← hr]
    exact zm_rho_b _ _ _
  have htu := zm_M_tu (r := r) (d := d) hne
  have hB := zm_M_bd (t := t) (u := u) hrb m9 m10
  have hpat := zm_M_pat hne m11
  have b1 : zm_M r t u d t - zm_M r t u d u ≤ U := by omega
  have b2 : -N ≤ zm_M r t u d t - zm_M r t u d u := by omega
  have h30' : ∀ x, x < 7 → (a30 x).toInt = 0 := fun x hx => by
    rw [h30 x hx]
    decide
  unfold wpX_solve
  try dsimp only
  refine zs_back0 (br_t rfl ?_)
  exact zs_unsat (B := True) (s := 200) (nw := 0) (ne := 0) hv (by omega) (by omega) hst (zt_good zt_12 hpat m1) (fun x _ => hB x) (by decide) hla (HU _ b1 b2)
    ⟨hT, hτ _ b1 b2, hwl, fun _ w _ i hi => absurd hi (by omega), fun i l hi => absurd hi (by omega), ⟨fun i l hi => absurd hi (by omega), fun x hx => by rw [h30' x hx]; have := hB x; omega⟩, by omega, by omega⟩ H
theorem zt_possible {post : Int32 → St2 → Prop} {o cc fl t u : Nat} {k : Int} (ho : o ≤ 1) (hcc : cc ≤ o) (hfl : fl < 2) (ht : t < 7) (hu : u < 7) (hne : t ≠ u) (hk : -20 ≤ k ∧ k ≤ 20)
    (hat : o = 1 → a1 0 = nI t ∧ a2 0 = nI u ∧ (a3 0).toInt = k) (hf : cc = 1 → a4 0 = 1 ∧ a5 0 = nI fl) (H : ∀ w, zt_pr w = (nI o, nI cc, f0_drafted, f0_opened, a1, a2, a3, a4, a5, a6, a7, a8) → post 1 w) :
    wpX_possible post (nI o, nI cc, f0_drafted, f0_opened, f0_variables, f0_stock, f0_stored, f0_hopeless, f0_trailSize, f0_nextWatch, f0_nextEdge, f0_depth, f0_bump, f0_conflictSize, f0_learnedSize, f0_assumed, f0_counted, a1, a2, a3, a4, a5, a6, a7, a8, a9, a10, a11, a12, a13, a14, a15, a16, a17, a18, a19, a20, a21, a22, a23, a24, a25, a26, a27, a28, a29, a30, a31, a32, a33, a34, a35, a36, a37, a38) := by
  unfold wpX_possible
  try dsimp only
  refine zl_lay (o := o) (cc := cc) (fl := fl) (L := zt_L o t) (R := zt_R o u) (K := zt_K o k 0) ho (by omega) (fun e => ?_) (fun e => ⟨(hf e).1, (hf e).2, hfl⟩) zt_12 (fun lz wt WL b9 b10 b11 b12 b13 b14 b15 b16 b17 b18 b19 b20 b21 b23 b24 b25 b26 b30 b36 k1 k2 k3 k4 k5 k6 => ?_)
  · subst e
    obtain ⟨e1, e2, e3⟩ := zt_at (t := t) (u := u) (k := k) (kq := 0)
    rw [e1, e2, e3]
    exact ⟨(hat rfl).1, (hat rfl).2.1, (hat rfl).2.2, ht, hu, hne, by omega, by omega⟩
  · rcases (show (o = 0 ∧ cc = 0) ∨ (o = 1 ∧ cc = 0) ∨ (o = 1 ∧ cc = 1 ∧ fl = 0) ∨ (o = 1 ∧ cc = 1 ∧ fl = 1) by omega) with ⟨e1, e2⟩ | ⟨e1, e2⟩ | ⟨e1, e2, e3⟩ | ⟨e1, e2, e3⟩
    · subst e1 e2
      exact zt_go (ac := 0) (la := 0) (U := 1000) (N := 1000) ho (Or.inl rfl) ht hu hne (by decide) (by decide) (by decide) (by decide) (fun e => absurd e (by decide)) (fun M _ _ x hx => absurd hx List.not_mem_nil) (fun e => absurd e (by decide)) (fun e => absurd e (by decide)) (fun e => absurd e (by decide)) (fun e => absurd e (by decide)) k1 k2 k3 k4 k5 k6
        (fun σ d z wt WL l0 b15 b16 b17 b18 b19 b20 b21 b22 b25 b26 b27 b28 b29 b30 b31 b32 b33 b34 _ _ _ _ _ _ => ⟨zb_nar1, H _ rfl⟩)
    · subst e1 e2
      obtain ⟨f0, f1, f2⟩ := zt_e0 (t := t) (u := u) (k := k) (kq := 0)
      obtain ⟨f3, f4, f5⟩ := zt_e1 (t := t) (u := u) (k := k) (kq := 0)
      have s1 : ∀ M : Nat → Int, -(-k - 1) ≤ M t - M u → ze_sat (zt_L 1 t) (zt_R 1 u) (zt_K 1 k 0) M 1 := fun M h => by
        unfold ze_sat
        rw [f3, f4, f5]
        omega
      have s0 : ∀ M : Nat → Int, -(-k - 1) ≤ M t - M u → ¬ ze_sat (zt_L 1 t) (zt_R 1 u) (zt_K 1 k 0) M 0 := fun M h => by
        unfold ze_sat
        rw [f0, f1, f2]
        omega
      exact zt_go (ac := 0) (la := 0) (U := 1000) (N := -k - 1) ho (Or.inl rfl) ht hu hne (by omega) (by decide) (by omega) (by decide) (fun e => absurd e (by decide)) (fun M _ _ x hx => absurd hx List.not_mem_nil) (fun _ M _ h τ _ _ _ _ _ _ => s1 M h) (fun e => absurd e (by decide)) (fun e => absurd e (by decide))
        (fun _ M _ h τ q1 _ _ q4 => by
          rcases q4 rfl with z | z
          · exact absurd (q1 _ z) (s0 M h)
          · exact ⟨1, z, f3, f4, by rw [f5]; exact Int.le_refl _⟩) k1 k2 k3 k4 k5 k6
        (fun σ d z wt WL l0 b15 b16 b17 b18 b19 b20 b21 b22 b25 b26 b27 b28 b29 b30 b31 b32 b33 b34 _ _ _ _ _ _ => ⟨zb_nar1, H _ rfl⟩)
    · subst e1 e2 e3
      obtain ⟨f0, f1, f2⟩ := zt_e0 (t := t) (u := u) (k := k) (kq := 0)
      exact zt_go (ac := 0) (la := 0) (U := k) (N := 1000) ho (Or.inl rfl) ht hu hne (by omega) (by omega) (by decide) (by decide) (fun e => absurd e (by decide))
        (fun M h _ x hx => by
          rw [List.mem_singleton.mp hx]
          unfold ze_sat
          rw [f0, f1, f2]
          omega) (fun _ M _ _ τ _ q2 _ _ q5 _ => absurd (q2 0 List.mem_cons_self) q5) (fun e => absurd e (by decide))
        (fun _ M _ _ τ _ q2 _ _ => ⟨0, q2 0 List.mem_cons_self, f0, f1, by rw [f2]; exact Int.le_refl _⟩) (fun e => absurd e (by decide)) k1 k2 k3 k4 k5 k6
        (fun σ d z wt WL l0 b15 b16 b17 b18 b19 b20 b21 b22 b25 b26 b27 b28 b29 b30 b31 b32 b33 b34 _ _ _ _ _ _ => ⟨zb_nar1, H _ rfl⟩)
    · subst e1 e2 e3
      obtain ⟨f3, f4, f5⟩ := zt_e1 (t := t) (u := u) (k := k) (kq := 0)
      exact zt_go (ac := 0) (la := 0) (U := 1000) (N := -k - 1) ho (Or.inl rfl) ht hu hne (by omega) (by decide) (by omega) (by decide) (fun e => absurd e (by decide))
        (fun M _ h x hx => by
          rw [List.mem_singleton.mp hx]
          unfold ze_sat
          rw [f3, f4, f5]
          omega) (fun _ M _ _ τ _ q2 _ _ _ q6 => absurd (q2 1 List.mem_cons_self) q6) (fun e => absurd e (by decide)) (fun e => absurd e (by decide))
        (fun _ M _ _ τ _ q2 _ _ => ⟨1, q2 1 List.mem_cons_self, f3, f4, by rw [f5]; exact Int.le_refl _⟩) k1 k2 k3 k4 k5 k6
        (fun σ d z wt WL l0 b15 b16 b17 b18 b19 b20 b21 b22 b25 b26 b27 b28 b29 b30 b31 b32 b33 b34 _ _ _ _ _ _ => ⟨zb_nar1, H _ rfl⟩)
end
end
section
section
variable {f0_atomCount f0_clauseCount f0_drafted f0_opened f0_variables f0_stock f0_stored f0_hopeless f0_trailSize f0_nextWatch f0_nextEdge f0_depth f0_bump f0_conflictSize f0_learnedSize f0_assumed f0_counted : Int32} {a1 a2 a3 a4 a5 a6 a7 a8 a9 a10 a11 a12 a13 a14 a15 a16 a17 a18 a19 a20 a21 a22 a23 a24 a25 a26 a27 a28 a29 a30 a31 a32 a33 a34 a35 a36 a37 a38 : Nat → Int32}
theorem zt_bt {post : Int32 → Prop} {t : Nat} (ht : t < 7) (H : post 0) : wpX_badTerm post (f0_atomCount, f0_clauseCount, f0_drafted, f0_opened, f0_variables, f0_stock, f0_stored, f0_hopeless, f0_trailSize, f0_nextWatch, f0_nextEdge, f0_depth, f0_bump, f0_conflictSize, f0_learnedSize, f0_assumed, f0_counted, a1, a2, a3, a4, a5, a6, a7, a8, a9, a10, a11, a12, a13, a14, a15, a16, a17, a18, a19, a20, a21, a22, a23, a24, a25, a26, a27, a28, a29, a30, a31, a32, a33, a34, a35, a36, a37, a38) (nI t) := by
  unfold wpX_badTerm
  exact br_f (nI_pos (by omega)) (br_t (nI_lt (b := 7) ht (by decide)) H)
theorem zt_lay {post : St2 → Prop} {o cc fl t u : Nat} {k kq : Int} (ho : o ≤ 1) (hcc : cc ≤ o) (hfl : fl < 2) (ht : t < 7) (hu : u < 7) (hne : t ≠ u) (hk : -20 ≤ k ∧ k ≤ 20)
    (hat : o = 1 → a1 0 = nI t ∧ a2 0 = nI u ∧ (a3 0).toInt = k) (hf : cc = 1 → a4 0 = 1 ∧ a5 0 = nI fl)
    (H : ∀ lz wt WL b9 b10 b11 b12 b13 b14 b15 b16 b17 b18 b19 b20 b21 b23 b24 b25 b26 b30 b36, ze_vs (o + 12) (zt_L o t) (zt_R o u) (zt_K o k kq) b9 b10 b11 → zb_tr (o + 12) (if cc = 1 then [fl] else []) b18 b21 → (∀ x, x < o + 12 → b23 x = 0 ∧ b24 x = 0) → zw_st o 6 b12 b13 b14 → zw_wl o 12 wt WL [] 0 b15 b16 b17 → (∀ x, x < 7 → b30 x = 0) →
      post (nI o, nI cc, f0_drafted, f0_opened, nI (o + 12), nI 6, nI 18, 0, nI (if cc = 1 then [fl] else []).length, 0, 0, 0, 1, f0_conflictSize, lz, 0, f0_counted, a1, a2, a3, a4, a5, a6, a7, a8, b9, b10, b11, b12, b13, b14, b15, b16, b17, b18, b19, b20, b21, a22, b23, b24, b25, b26, a27, a28, a29, b30, a31, a32, a33, a34, a35, b36, a37, a38)) :
    wpX_layOut post (nI o, nI cc, f0_drafted, f0_opened, f0_variables, f0_stock, f0_stored, f0_hopeless, f0_trailSize, f0_nextWatch, f0_nextEdge, f0_depth, f0_bump, f0_conflictSize, f0_learnedSize, f0_assumed, f0_counted, a1, a2, a3, a4, a5, a6, a7, a8, a9, a10, a11, a12, a13, a14, a15, a16, a17, a18, a19, a20, a21, a22, a23, a24, a25, a26, a27, a28, a29, a30, a31, a32, a33, a34, a35, a36, a37, a38) (-1) := by
  refine zl_lay (o := o) (cc := cc) (fl := fl) (L := zt_L o t) (R := zt_R o u) (K := zt_K o k kq) ho (by omega) (fun e => ?_) (fun e => ⟨(hf e).1, (hf e).2, hfl⟩) zt_12 H
  subst e
  obtain ⟨e1, e2, e3⟩ := zt_at (t := t) (u := u) (k := k) (kq := kq)
  rw [e1, e2, e3]
  exact ⟨(hat rfl).1, (hat rfl).2.1, (hat rfl).2.2, ht, hu, hne, by omega, by omega⟩
theorem zt_pwS {post : Int32 → St2 → Prop} {o cc fl t u : Nat} {k kq : Int} {kI : Int32} (ho : o ≤ 1) (hcc : cc ≤ o) (hfl : fl < 2) (ht : t < 7) (hu : u < 7) (hne : t ≠ u) (hk : -20 ≤ k ∧ k ≤ 20)
    (hat : o = 1 → a1 0 = nI t ∧ a2 0 = nI u ∧ (a3 0).toInt = k) (hf : cc = 1 → a4 0 = 1 ∧ a5 0 = nI fl) (hkI : kI.toInt = kq) (hkr : -130 ≤ kq ∧ kq ≤ 130) (hc1 : cc = 1 → fl = 1 → k + 1 ≤ kq) (hc0 : ¬ (cc = 1 ∧ fl = 1) → kq = -130)
    (H : ∀ w, zt_pr w = (nI o, nI cc, f0_drafted, f0_opened, a1, a2, a3, a4, a5, a6, a7, a8) → post 1 w) :
    wpX_possibleWith post (nI o, nI cc, f0_drafted, f0_opened, f0_variables, f0_stock, f0_stored, f0_hopeless, f0_trailSize, f0_nextWatch, f0_nextEdge, f0_depth, f0_bump, f0_conflictSize, f0_learnedSize, f0_assumed, f0_counted, a1, a2, a3, a4, a5, a6, a7, a8, a9, a10, a11, a12, a13, a14, a15, a16, a17, a18, a19, a20, a21, a22, a23, a24, a25, a26, a27, a28, a29, a30, a31, a32, a33, a34, a35, a36, a37, a38) (nI t) (nI u) kI := by
  unfold wpX_possibleWith
  dsimp only
  refine zt_lay (kq := kq) ho hcc hfl ht hu hne hk hat hf (fun lz wt WL b9 b10 b11 b12 b13 b14 b15 b16 b17 b18 b19 b20 b21 b23 b24 b25 b26 b30 b36 k1 k2 k3 k4 k5 k6 => ?_)
  dsimp only
  obtain ⟨q1, q2, q3⟩ := zt_qu (o := o) (t := t) (u := u) (k := k) (kq := kq)
  obtain ⟨f1, f2, f3⟩ := zt_eq (o := o) (t := t) (u := u) (k := k) (kq := kq)
  have v1 := zl_vs_add (p := nI t) (q := nI u) (r := kI) k1 (by rw [q1]; exact ht) (by rw [q2]; exact hu) (by rw [q1, q2]; exact hne) (by rw [q1]) (by rw [q2]) (by rw [q3]; exact hkI) (by rw [q3]; omega) (by rw [q3]; omega)
  have hsl : ∀ M : Nat → Int, M t - M u ≤ kq → ze_sat (zt_L o t) (zt_R o u) (zt_K o k kq) M (2 * (o + 12)) := fun M h => by
    unfold ze_sat
    rw [f1, f2, f3]
    omega
  have hla : ∀ b38 : Nat → Int32, upd b38 0 (2 * nI (o + 12)) 0 = nI (2 * (o + 12)) := fun b38 => by
    rw [pk_us]
    exact pk_mul 2 _
  refine zb_variable (by omega) ?_
  dsimp only
  refine zb_assume (k := 0) (by decide) ?_
  dsimp only
  rcases (show (o = 0 ∧ cc = 0) ∨ (o = 1 ∧ cc = 0) ∨ (o = 1 ∧ cc = 1 ∧ fl = 0) ∨ (o = 1 ∧ cc = 1 ∧ fl = 1) by omega) with ⟨e1, e2⟩ | ⟨e1, e2⟩ | ⟨e1, e2, e3⟩ | ⟨e1, e2, e3⟩
  · subst e1 e2
    have ekq := hc0 (by omega)
    exact zt_go (τ0 := []) (ac := 1) (la := 2 * (0 + 12)) (U := kq) (N := 1000) ho (Or.inr rfl) ht hu hne (by omega) (by omega) (by decide) (by decide) (fun _ => ⟨hla _, by omega, fun M h _ => hsl M h⟩) (fun M _ _ x hx => absurd hx List.not_mem_nil) (fun e => absurd e (by decide)) (fun _ => ⟨rfl, rfl⟩)
      (fun _ M _ _ τ _ _ p3 _ => ⟨_, p3 rfl, f1, f2, by rw [f3]; exact Int.le_refl _⟩) (fun e => absurd e (by decide)) v1 (zl_tr_add k2) (zl_z_add k3) k4 k5 k6
      (fun σ d z wt WL l0 b15 b16 b17 b18 b19 b20 b21 b22 b25 b26 b27 b28 b29 b30 b31 b32 b33 b34 _ _ _ _ _ _ => ⟨zb_nar1, H _ rfl⟩)
  · subst e1 e2
    have ekq := hc0 (by omega)
    exact zt_go (τ0 := []) (ac := 1) (la := 2 * (1 + 12)) (U := kq) (N := 1000) ho (Or.inr rfl) ht hu hne (by omega) (by omega) (by decide) (by decide) (fun _ => ⟨hla _, by omega, fun M h _ => hsl M h⟩) (fun M _ _ x hx => absurd hx List.not_mem_nil)
      (fun _ M _ _ τ _ _ p3 p4 n0 n1 => by
        exfalso
        obtain ⟨b0, c1, c2, c3⟩ := p4
        obtain ⟨r1, r2, r3⟩ := zt_at (t := t) (u := u) (k := k) (kq := kq)
        have c4 := (c3 0 (by omega) n0 n1 u hu).1
        have c5 := c2 _ (p3 rfl)
        have c6 := c1 u hu
        rw [f1, f2, f3] at c5
        rw [r1, r2, r3] at c4
        omega) (fun _ => ⟨rfl, rfl⟩)
      (fun _ M _ _ τ _ _ p3 _ => ⟨_, p3 rfl, f1, f2, by rw [f3]; exact Int.le_refl _⟩) (fun e => absurd e (by decide)) v1 (zl_tr_add k2) (zl_z_add k3) k4 k5 k6
      (fun σ d z wt WL l0 b15 b16 b17 b18 b19 b20 b21 b22 b25 b26 b27 b28 b29 b30 b31 b32 b33 b34 _ _ _ _ _ _ => ⟨zb_nar1, H _ rfl⟩)
  · subst e1 e2 e3
    have ekq := hc0 (by omega)
    obtain ⟨g0, g1, g2⟩ := zt_e0 (t := t) (u := u) (k := k) (kq := kq)
    exact zt_go (τ0 := [0]) (ac := 1) (la := 2 * (1 + 12)) (U := kq) (N := 1000) ho (Or.inr rfl) ht hu hne (by omega) (by omega) (by decide) (by decide) (fun _ => ⟨hla _, by omega, fun M h _ => hsl M h⟩)
      (fun M h _ x hx => by
        rw [List.mem_singleton.mp hx]
        unfold ze_sat
        rw [g0, g1, g2]
        omega) (fun _ M _ _ τ _ p2 _ _ n0 _ => absurd (p2 0 List.mem_cons_self) n0) (fun _ => ⟨rfl, rfl⟩)
      (fun _ M _ _ τ _ _ p3 _ => ⟨_, p3 rfl, f1, f2, by rw [f3]; exact Int.le_refl _⟩) (fun e => absurd e (by decide)) v1 (zl_tr_add k2) (zl_z_add k3) k4 k5 k6
      (fun σ d z wt WL l0 b15 b16 b17 b18 b19 b20 b21 b22 b25 b26 b27 b28 b29 b30 b31 b32 b33 b34 _ _ _ _ _ _ => ⟨zb_nar1, H _ rfl⟩)
  · subst e1 e2 e3
    have ekq := hc1 rfl rfl
    obtain ⟨g0, g1, g2⟩ := zt_e1 (t := t) (u := u) (k := k) (kq := kq)
    exact zt_go (τ0 := [1]) (ac := 1) (la := 2 * (1 + 12)) (U := kq) (N := -k - 1) ho (Or.inr rfl) ht hu hne (by omega) (by omega) (by omega) (by decide) (fun _ => ⟨hla _, by omega, fun M h _ => hsl M h⟩)
      (fun M _ h x hx => by
        rw [List.mem_singleton.mp hx]
        unfold ze_sat
        rw [g0, g1, g2]
        omega) (fun _ M _ _ τ _ p2 _ _ _ n1 => absurd (p2 1 List.mem_cons_self) n1) (fun _ => ⟨rfl, rfl⟩)
      (fun _ M _ _ τ _ _ p3 _ => ⟨_, p3 rfl, f1, f2, by rw [f3]; exact Int.le_refl _⟩) (fun _ M _ _ τ _ p2 _ _ => ⟨1, p2 1 List.mem_cons_self, g0, g1, by rw [g2]; exact Int.le_refl _⟩) v1 (zl_tr_add k2) (zl_z_add k3) k4 k5 k6
      (fun σ d z wt WL l0 b15 b16 b17 b18 b19 b20 b21 b22 b25 b26 b27 b28 b29 b30 b31 b32 b33 b34 _ _ _ _ _ _ => ⟨zb_nar1, H _ rfl⟩)
theorem zt_pwU {post : Int32 → St2 → Prop} {t u : Nat} {k kq : Int} {kI : Int32} (ht : t < 7) (hu : u < 7) (hne : t ≠ u) (hk : -20 ≤ k ∧ k ≤ 20)
    (hat : a1 0 = nI t ∧ a2 0 = nI u ∧ (a3 0).toInt = k) (hf : a4 0 = 1 ∧ a5 0 = nI 1) (hkI : kI.toInt = kq) (hkr : -130 ≤ kq ∧ kq ≤ k)
    (H : ∀ w, zt_pr w = (nI 1, nI 1, f0_drafted, f0_opened, a1, a2, a3, a4, a5, a6, a7, a8) → post 0 w) :
    wpX_possibleWith post (nI 1, nI 1, f0_drafted, f0_opened, f0_variables, f0_stock, f0_stored, f0_hopeless, f0_trailSize, f0_nextWatch, f0_nextEdge, f0_depth, f0_bump, f0_conflictSize, f0_learnedSize, f0_assumed, f0_counted, a1, a2, a3, a4, a5, a6, a7, a8, a9, a10, a11, a12, a13, a14, a15, a16, a17, a18, a19, a20, a21, a22, a23, a24, a25, a26, a27, a28, a29, a30, a31, a32, a33, a34, a35, a36, a37, a38) (nI t) (nI u) kI := by
  unfold wpX_possibleWith
  dsimp only
  refine zt_lay (o := 1) (cc := 1) (fl := 1) (kq := kq) (by decide) (by decide) (by decide) ht hu hne hk (fun _ => hat) (fun _ => hf) (fun lz wt WL b9 b10 b11 b12 b13 b14 b15 b16 b17 b18 b19 b20 b21 b23 b24 b25 b26 b30 b36 k1 k2 k3 k4 k5 k6 => ?_)
  dsimp only
  obtain ⟨q1, q2, q3⟩ := zt_qu (o := 1) (t := t) (u := u) (k := k) (kq := kq)
  obtain ⟨f1, f2, f3⟩ := zt_eq (o := 1) (t := t) (u := u) (k := k) (kq := kq)
  obtain ⟨g0, g1, g2⟩ := zt_e1 (t := t) (u := u) (k := k) (kq := kq)
  have v1 := zl_vs_add (p := nI t) (q := nI u) (r := kI) k1 (by rw [q1]; exact ht) (by rw [q2]; exact hu) (by rw [q1, q2]; exact hne) (by rw [q1]) (by rw [q2]) (by rw [q3]; exact hkI) (by rw [q3]; omega) (by rw [q3]; omega)
  have hla : ∀ b38 : Nat → Int32, upd b38 0 (2 * nI (1 + 12)) 0 = nI (2 * (1 + 12)) := fun b38 => by
    rw [pk_us]
    exact pk_mul 2 _
  refine zb_variable (by omega) ?_
  dsimp only
  refine zb_assume (k := 0) (by decide) ?_
  dsimp only
  exact zt_goU (τ0 := [1]) (la := 2 * (1 + 12)) (U := 1000) (N := -k - 1) (by decide) (Or.inr rfl) ht hu hne (by omega) (by decide) (by omega) ⟨hla _, by omega⟩
    (fun M _ h x hx => by
      rw [List.mem_singleton.mp hx]
      unfold ze_sat
      rw [g0, g1, g2]
      omega)
    (fun M _ h τ p1 p2 p4 => by
      rw [zd_ng0]
      apply Classical.byContradiction
      intro n1
      have n0 : 2 * (1 + 12) ∉ τ := fun z => by
        have := p1 _ z
        unfold ze_sat at this
        rw [f1, f2, f3] at this
        omega
      obtain ⟨b0, c1, c2, c3⟩ := p4
      have c4 := (c3 (1 + 12) (by omega) n0 n1 t ht).2
      have c5 := c2 _ (p2 1 List.mem_cons_self)
      have c6 := c1 t ht
      rw [g0, g1, g2] at c5
      rw [q1, q2, q3] at c4
      omega) v1 (zl_tr_add k2) k4 k5 k6
    (fun σ wt WL l0 b15 b16 b17 b18 b19 b20 b21 b22 b25 b26 b27 b28 b29 b30 b31 b32 b33 b34 _ _ _ => ⟨zb_nar0, H _ rfl⟩)
theorem zt_leastE {post : Int32 → St2 → Prop} {o cc fl t u : Nat} {k : Int} (ho : o ≤ 1) (hcc : cc ≤ o) (hfl : fl < 2) (ht : t < 7) (hu : u < 7) (hne : t ≠ u) (hk : -20 ≤ k ∧ k ≤ 20)
    (hat : o = 1 → a1 0 = nI t ∧ a2 0 = nI u ∧ (a3 0).toInt = k) (hf : cc = 1 → a4 0 = 1 ∧ a5 0 = nI fl) (hc : ¬ (cc = 1 ∧ fl = 1))
    (H : ∀ w, zt_pr w = (nI o, nI cc, f0_drafted, f0_opened, a1, a2, a3, a4, a5, a6, a7, a8) → post (-4000) w) :
    wpX_least post (nI o, nI cc, f0_drafted, f0_opened, f0_variables, f0_stock, f0_stored, f0_hopeless, f0_trailSize, f0_nextWatch, f0_nextEdge, f0_depth, f0_bump, f0_conflictSize, f0_learnedSize, f0_assumed, f0_counted, a1, a2, a3, a4, a5, a6, a7, a8, a9, a10, a11, a12, a13, a14, a15, a16, a17, a18, a19, a20, a21, a22, a23, a24, a25, a26, a27, a28, a29, a30, a31, a32, a33, a34, a35, a36, a37, a38) (nI t) (nI u) := by
  unfold wpX_least
  dsimp only
  refine zt_bt ht (br_t rfl (zt_bt hu (br_t rfl (br_f (fun e => hne ((nI_eq (by omega) (by omega)).mp e)) ?_))))
  refine zt_possible ho hcc hfl ht hu hne hk hat hf (zt_el (fun f0_variables f0_stock f0_stored f0_hopeless f0_trailSize f0_nextWatch f0_nextEdge f0_depth f0_bump f0_conflictSize f0_learnedSize f0_assumed f0_counted a9 a10 a11 a12 a13 a14 a15 a16 a17 a18 a19 a20 a21 a22 a23 a24 a25 a26 a27 a28 a29 a30 a31 a32 a33 a34 a35 a36 a37 a38 => br_f (by decide) ?_))
  dsimp only
  exact zt_pwS (kq := -130) ho hcc hfl ht hu hne hk hat hf (by decide) (by decide) (fun e1 e2 => absurd ⟨e1, e2⟩ hc) (fun _ => rfl) (zt_el (fun f0_variables f0_stock f0_stored f0_hopeless f0_trailSize f0_nextWatch f0_nextEdge f0_depth f0_bump f0_conflictSize f0_learnedSize f0_assumed f0_counted a9 a10 a11 a12 a13 a14 a15 a16 a17 a18 a19 a20 a21 a22 a23 a24 a25 a26 a27 a28 a29 a30 a31 a32 a33 a34 a35 a36 a37 a38 => br_f (by decide) (H _ rfl)))
theorem zt_leastF {post : Int32 → St2 → Prop} {t u : Nat} {k : Int} (ht : t < 7) (hu : u < 7) (hne : t ≠ u) (hk : -20 ≤ k ∧ k ≤ 20)
    (hat : a1 0 = nI t ∧ a2 0 = nI u ∧ (a3 0).toInt = k) (hf : a4 0 = 1 ∧ a5 0 = nI 1)
    (H : ∀ w r, zt_pr w = (nI 1, nI 1, f0_drafted, f0_opened, a1, a2, a3, a4, a5, a6, a7, a8) → r.toInt = k + 1 → post r w) :
    wpX_least post (nI 1, nI 1, f0_drafted, f0_opened, f0_variables, f0_stock, f0_stored, f0_hopeless, f0_trailSize, f0_nextWatch, f0_nextEdge, f0_depth, f0_bump, f0_conflictSize, f0_learnedSize, f0_assumed, f0_counted, a1, a2, a3, a4, a5, a6, a7, a8, a9, a10, a11, a12, a13, a14, a15, a16, a17, a18, a19, a20, a21, a22, a23, a24, a25, a26, a27, a28, a29, a30, a31, a32, a33, a34, a35, a36, a37, a38) (nI t) (nI u) := by
  have main : ∀ (j i : Nat) (lo hi : Int32) (D : Nat) f0_variables f0_stock f0_stored f0_hopeless f0_trailSize f0_nextWatch f0_nextEdge f0_depth f0_bump f0_conflictSize f0_learnedSize f0_assumed f0_counted a9 a10 a11 a12 a13 a14 a15 a16 a17 a18 a19 a20 a21 a22 a23 a24 a25 a26 a27 a28 a29 a30 a31 a32 a33 a34 a35 a36 a37 a38, j + i = 10 → D = 2 ^ (9 - i) → -130 ≤ lo.toInt → lo.toInt ≤ k → k + 1 ≤ hi.toInt → hi.toInt ≤ 130 → hi.toInt - lo.toInt ≤ D →
      wX_least_71 post (nI t) (nI u) (j + 1) lo hi (nI i) (nI 1) (nI 1) f0_drafted f0_opened f0_variables f0_stock f0_stored f0_hopeless f0_trailSize f0_nextWatch f0_nextEdge f0_depth f0_bump f0_conflictSize f0_learnedSize f0_assumed f0_counted a1 a2 a3 a4 a5 a6 a7 a8 a9 a10 a11 a12 a13 a14 a15 a16 a17 a18 a19 a20 a21 a22 a23 a24 a25 a26 a27 a28 a29 a30 a31 a32 a33 a34 a35 a36 a37 a38 := by
    intro j
    induction j with
    | zero =>
      intro i lo hi D f0_variables f0_stock f0_stored f0_hopeless f0_trailSize f0_nextWatch f0_nextEdge f0_depth f0_bump f0_conflictSize f0_learnedSize f0_assumed f0_counted a9 a10 a11 a12 a13 a14 a15 a16 a17 a18 a19 a20 a21 a22 a23 a24 a25 a26 a27 a28 a29 a30 a31 a32 a33 a34 a35 a36 a37 a38 hj hD h1 h2 h3 h4 h5
      have e : i = 10 := by omega
      rw [e] at hD ⊢
      have hD' : D = 1 := hD
      exact pk_le 10 10 (fun _ => H _ hi rfl (by omega)) (fun z => absurd z (by omega))
    | succ j ih =>
      intro i lo hi D f0_variables f0_stock f0_stored f0_hopeless f0_trailSize f0_nextWatch f0_nextEdge f0_depth f0_bump f0_conflictSize f0_learnedSize f0_assumed f0_counted a9 a10 a11 a12 a13 a14 a15 a16 a17 a18 a19 a20 a21 a22 a23 a24 a25 a26 a27 a28 a29 a30 a31 a32 a33 a34 a35 a36 a37 a38 hj hD h1 h2 h3 h4 h5
      have hl1 : (lo + 1).toInt = lo.toInt + 1 := zb_add rfl (show (1 : Int32).toInt = 1 by decide) (by omega) (by omega)
      refine pk_le 10 i (fun z => absurd z (by omega)) (fun _ => br_c (fun g => ?_) (fun g => ?_))
      · have g' := (zb_le rfl hl1).mp g
        exact H _ hi rfl (by omega)
      · have g' : ¬ (hi.toInt ≤ lo.toInt + 1) := fun z => g ((zb_le rfl hl1).mpr z)
        have hs : (lo + hi).toInt = lo.toInt + hi.toInt := zb_add rfl rfl (by omega) (by omega)
        have hm : ((lo + hi) >>> ((1 : Int32) &&& 31)).toInt = (lo.toInt + hi.toInt) / 2 := by
          rw [pk_shr (lo + hi) ((1 : Int32) &&& 31) 1 (by decide), hs, Int.shiftRight_eq_div_pow]
          rfl
        have hD2 : D = 2 * 2 ^ (9 - (i + 1)) := by
          rcases Nat.lt_or_ge i 9 with z | z
          · rw [hD, show 9 - i = (9 - (i + 1)) + 1 by omega, Nat.pow_succ]
            omega
          · have e : 9 - i = 0 := by omega
            rw [e] at hD
            exact absurd h5 (by omega)
        refine nm_e ?_
        generalize (lo + hi) >>> ((1 : Int32) &&& 31) = mid at *
        generalize hE : 2 ^ (9 - (i + 1)) = E at *
        rcases Int.lt_or_le k mid.toInt with z | z
        · exact zt_pwS (o := 1) (cc := 1) (fl := 1) (by decide) (by decide) (by decide) ht hu hne hk (fun _ => hat) (fun _ => hf) rfl (by omega) (fun _ _ => by omega) (fun z => absurd ⟨rfl, rfl⟩ z)
            (zt_el (fun f0_variables f0_stock f0_stored f0_hopeless f0_trailSize f0_nextWatch f0_nextEdge f0_depth f0_bump f0_conflictSize f0_learnedSize f0_assumed f0_counted a9 a10 a11 a12 a13 a14 a15 a16 a17 a18 a19 a20 a21 a22 a23 a24 a25 a26 a27 a28 a29 a30 a31 a32 a33 a34 a35 a36 a37 a38 => br_f (by decide) (nm_r (nI_1 i) (ih (i + 1) lo mid E f0_variables f0_stock f0_stored f0_hopeless f0_trailSize f0_nextWatch f0_nextEdge f0_depth f0_bump f0_conflictSize f0_learnedSize f0_assumed f0_counted a9 a10 a11 a12 a13 a14 a15 a16 a17 a18 a19 a20 a21 a22 a23 a24 a25 a26 a27 a28 a29 a30 a31 a32 a33 a34 a35 a36 a37 a38 (by omega) hE.symm h1 h2 (by omega) (by omega) (by omega)))))
        · exact zt_pwU ht hu hne hk hat hf rfl (by omega)
            (zt_el (fun f0_variables f0_stock f0_stored f0_hopeless f0_trailSize f0_nextWatch f0_nextEdge f0_depth f0_bump f0_conflictSize f0_learnedSize f0_assumed f0_counted a9 a10 a11 a12 a13 a14 a15 a16 a17 a18 a19 a20 a21 a22 a23 a24 a25 a26 a27 a28 a29 a30 a31 a32 a33 a34 a35 a36 a37 a38 => br_t rfl (nm_r (nI_1 i) (ih (i + 1) mid hi E f0_variables f0_stock f0_stored f0_hopeless f0_trailSize f0_nextWatch f0_nextEdge f0_depth f0_bump f0_conflictSize f0_learnedSize f0_assumed f0_counted a9 a10 a11 a12 a13 a14 a15 a16 a17 a18 a19 a20 a21 a22 a23 a24 a25 a26 a27 a28 a29 a30 a31 a32 a33 a34 a35 a36 a37 a38 (by omega) hE.symm (by omega) z h3 h4 (by omega)))))
  unfold wpX_least
  dsimp only
  refine zt_bt ht (br_t rfl (zt_bt hu (br_t rfl (br_f (fun e => hne ((nI_eq (by omega) (by omega)).mp e)) ?_))))
  refine zt_possible (o := 1) (cc := 1) (fl := 1) (by decide) (by decide) (by decide) ht hu hne hk (fun _ => hat) (fun _ => hf) (zt_el (fun f0_variables f0_stock f0_stored f0_hopeless f0_trailSize f0_nextWatch f0_nextEdge f0_depth f0_bump f0_conflictSize f0_learnedSize f0_assumed f0_counted a9 a10 a11 a12 a13 a14 a15 a16 a17 a18 a19 a20 a21 a22 a23 a24 a25 a26 a27 a28 a29 a30 a31 a32 a33 a34 a35 a36 a37 a38 => br_f (by decide) ?_))
  dsimp only
  refine zt_pwU (kq := -130) ht hu hne hk hat hf (by decide) (by omega) (zt_el (fun f0_variables f0_stock f0_stored f0_hopeless f0_trailSize f0_nextWatch f0_nextEdge f0_depth f0_bump f0_conflictSize f0_learnedSize f0_assumed f0_counted a9 a10 a11 a12 a13 a14 a15 a16 a17 a18 a19 a20 a21 a22 a23 a24 a25 a26 a27 a28 a29 a30 a31 a32 a33 a34 a35 a36 a37 a38 => br_t rfl ⟨11, ?_⟩))
  dsimp only
  have e1 : (-130 : Int32).toInt = -130 := by decide
  have e2 : (130 : Int32).toInt = 130 := by decide
  exact main 10 0 (-130) 130 512 f0_variables f0_stock f0_stored f0_hopeless f0_trailSize f0_nextWatch f0_nextEdge f0_depth f0_bump f0_conflictSize f0_learnedSize f0_assumed f0_counted a9 a10 a11 a12 a13 a14 a15 a16 a17 a18 a19 a20 a21 a22 a23 a24 a25 a26 a27 a28 a29 a30 a31 a32 a33 a34 a35 a36 a37 a38 rfl rfl (by omega) (by omega) (by omega) (by omega) (by omega)
end
end
section
section
theorem zq_egt {L R : Nat → Nat} {K : Nat → Int} {τ : List Nat} {z : Nat} {a27 a28 a29 : Nat → Int32} (h : ze_eg L R K τ τ.length a27 a28 a29) : ze_eg L R K (τ.take z) (min τ.length z) a27 a28 a29 := by
  intro i l hi hil
  rw [List.getElem?_take, if_pos (by omega)] at hil
  exact h i l (by omega) hil
theorem zq_lvt {L R : Nat → Nat} {K : Nat → Int} {τ : List Nat} {z : Nat} {M : Nat → Int} {s : Int} {a30 : Nat → Int32} (h : ze_lv L R K τ τ.length M s a30) : ze_lv L R K (τ.take z) (min τ.length z) M s a30 := by
  refine ⟨fun i l hi hil => ?_, h.2⟩
  rw [List.getElem?_take, if_pos (by omega)] at hil
  exact h.1 i l (by omega) hil
variable {f0_atomCount f0_clauseCount f0_drafted f0_opened f0_variables f0_stock f0_stored f0_hopeless f0_trailSize f0_nextWatch f0_nextEdge f0_depth f0_bump f0_conflictSize f0_learnedSize f0_assumed f0_counted : Int32} {a1 a2 a3 a4 a5 a6 a7 a8 a9 a10 a11 a12 a13 a14 a15 a16 a17 a18 a19 a20 a21 a22 a23 a24 a25 a26 a27 a28 a29 a30 a31 a32 a33 a34 a35 a36 a37 a38 : Nat → Int32}
theorem zq_slv {post : Int32 → St2 → Prop} {n z d nw ne : Nat} {τ : List Nat} (hT : zb_tr n τ a18 a21) (hn : n ≤ 21) (hz : z ≤ τ.length) (hd : 1 ≤ d) (hd2 : d < 100) (h22 : a22 1 = nI z) (hnw : nw ≤ τ.length) (hne : ne ≤ τ.length)
    (H : ∀ b18 b23, zb_tr n (τ.take z) b18 a21 → (∀ v, v < n → v ∉ (τ.drop z).map (fun l => l / 2) → b23 v = a23 v) → (∀ v, v < n → v ∈ (τ.drop z).map (fun l => l / 2) → b23 v = zb_va τ v) →
      ∃ fu, wX_solve_22 post fu 0 1 0 f0_atomCount f0_clauseCount f0_drafted f0_opened f0_variables f0_stock f0_stored 0 (nI (τ.take z).length) (nI (min nw z)) (nI (min ne z)) 0 f0_bump f0_conflictSize f0_learnedSize f0_assumed f0_counted a1 a2 a3 a4 a5 a6 a7 a8 a9 a10 a11 a12 a13 a14 a15 a16 a17 b18 a19 a20 a21 a22 b23 a24 a25 a26 a27 a28 a29 a30 a31 a32 a33 a34 a35 a36 a37 a38) :
    wpX_solve post (f0_atomCount, f0_clauseCount, f0_drafted, f0_opened, f0_variables, f0_stock, f0_stored, 0, nI τ.length, nI nw, nI ne, nI d, f0_bump, f0_conflictSize, f0_learnedSize, f0_assumed, f0_counted, a1, a2, a3, a4, a5, a6, a7, a8, a9, a10, a11, a12, a13, a14, a15, a16, a17, a18, a19, a20, a21, a22, a23, a24, a25, a26, a27, a28, a29, a30, a31, a32, a33, a34, a35, a36, a37, a38) := by
  unfold wpX_solve
  dsimp only
  have e : (τ.take z).length = z := by rw [List.length_take]; omega
  rw [e] at H
  exact zs_back hT hn hz hd hd2 h22 hnw hne (fun b18 b23 t1 t2 t3 => br_t rfl (H b18 b23 t1 t2 t3))
theorem zq_pf0 {post : Int32 → St2 → Prop} (H : wpX_solve (fun r u => match u with | (f0_atomCount, f0_clauseCount, f0_drafted, f0_opened, f0_variables, f0_stock, f0_stored, f0_hopeless, f0_trailSize, f0_nextWatch, f0_nextEdge, f0_depth, f0_bump, f0_conflictSize, f0_learnedSize, f0_assumed, f0_counted, a1, a2, a3, a4, a5, a6, a7, a8, a9, a10, a11, a12, a13, a14, a15, a16, a17, a18, a19, a20, a21, a22, a23, a24, a25, a26, a27, a28, a29, a30, a31, a32, a33, a34, a35, a36, a37, a38) => ((r = 0 → ∃ fu, wX_patternFrom_41 post 0 fu 0 f0_atomCount f0_clauseCount f0_drafted f0_opened f0_variables f0_stock f0_stored f0_hopeless f0_trailSize f0_nextWatch f0_nextEdge f0_depth f0_bump f0_conflictSize f0_learnedSize f0_assumed f0_counted a1 a2 a3 a4 a5 a6 a7 a8 a9 a10 a11 a12 a13 a14 a15 a16 a17 a18 a19 a20 a21 a22 a23 a24 a25 a26 a27 a28 a29 a30 a31 a32 a33 a34 a35 a36 a37 a38) ∧ (¬ r = 0 → post 0 (f0_atomCount, f0_clauseCount, f0_drafted, f0_opened, f0_variables, f0_stock, f0_stored, f0_hopeless, f0_trailSize, f0_nextWatch, f0_nextEdge, f0_depth, f0_bump, f0_conflictSize, f0_learnedSize, f0_assumed, f0_counted, a1, a2, a3, a4, a5, a6, a7, a8, a9, a10, a11, a12, a13, a14, a15, a16, a17, a18, a19, a20, a21, a22, a23, a24, a25, a26, a27, a28, a29, a30, a31, a32, a33, a34, a35, a36, a37, a38)))) (nI 0, f0_clauseCount, f0_drafted, f0_opened, f0_variables, f0_stock, f0_stored, f0_hopeless, f0_trailSize, f0_nextWatch, f0_nextEdge, f0_depth, f0_bump, f0_conflictSize, f0_learnedSize, 0, f0_counted, a1, a2, a3, a4, a5, a6, a7, a8, a9, a10, a11, a12, a13, a14, a15, a16, a17, a18, a19, a20, a21, a22, a23, a24, a25, a26, a27, a28, a29, a30, a31, a32, a33, a34, a35, a36, a37, a38)) :
    wpX_patternFrom post (nI 0, f0_clauseCount, f0_drafted, f0_opened, f0_variables, f0_stock, f0_stored, f0_hopeless, f0_trailSize, f0_nextWatch, f0_nextEdge, f0_depth, f0_bump, f0_conflictSize, f0_learnedSize, f0_assumed, f0_counted, a1, a2, a3, a4, a5, a6, a7, a8, a9, a10, a11, a12, a13, a14, a15, a16, a17, a18, a19, a20, a21, a22, a23, a24, a25, a26, a27, a28, a29, a30, a31, a32, a33, a34, a35, a36, a37, a38) 0 := by
  unfold wpX_patternFrom
  dsimp only
  exact nm_r (e' := -1) (by decide) ⟨1, br_t (by decide) H⟩
theorem zq_pf1 {post : Int32 → St2 → Prop} {p l : Int32} (hl : (2 * 0 + (1 - ((p >>> ((0 : Int32) &&& 31)) &&& 1)) : Int32) = l)
    (H : wpX_solve (fun r u => match u with | (f0_atomCount, f0_clauseCount, f0_drafted, f0_opened, f0_variables, f0_stock, f0_stored, f0_hopeless, f0_trailSize, f0_nextWatch, f0_nextEdge, f0_depth, f0_bump, f0_conflictSize, f0_learnedSize, f0_assumed, f0_counted, a1, a2, a3, a4, a5, a6, a7, a8, a9, a10, a11, a12, a13, a14, a15, a16, a17, a18, a19, a20, a21, a22, a23, a24, a25, a26, a27, a28, a29, a30, a31, a32, a33, a34, a35, a36, a37, a38) => ((r = 0 → ∃ fu, wX_patternFrom_41 post p fu 0 f0_atomCount f0_clauseCount f0_drafted f0_opened f0_variables f0_stock f0_stored f0_hopeless f0_trailSize f0_nextWatch f0_nextEdge f0_depth f0_bump f0_conflictSize f0_learnedSize f0_assumed f0_counted a1 a2 a3 a4 a5 a6 a7 a8 a9 a10 a11 a12 a13 a14 a15 a16 a17 a18 a19 a20 a21 a22 a23 a24 a25 a26 a27 a28 a29 a30 a31 a32 a33 a34 a35 a36 a37 a38) ∧ (¬ r = 0 → post p (f0_atomCount, f0_clauseCount, f0_drafted, f0_opened, f0_variables, f0_stock, f0_stored, f0_hopeless, f0_trailSize, f0_nextWatch, f0_nextEdge, f0_depth, f0_bump, f0_conflictSize, f0_learnedSize, f0_assumed, f0_counted, a1, a2, a3, a4, a5, a6, a7, a8, a9, a10, a11, a12, a13, a14, a15, a16, a17, a18, a19, a20, a21, a22, a23, a24, a25, a26, a27, a28, a29, a30, a31, a32, a33, a34, a35, a36, a37, a38)))) (nI 1, f0_clauseCount, f0_drafted, f0_opened, f0_variables, f0_stock, f0_stored, f0_hopeless, f0_trailSize, f0_nextWatch, f0_nextEdge, f0_depth, f0_bump, f0_conflictSize, f0_learnedSize, nI 1, f0_counted, a1, a2, a3, a4, a5, a6, a7, a8, a9, a10, a11, a12, a13, a14, a15, a16, a17, a18, a19, a20, a21, a22, a23, a24, a25, a26, a27, a28, a29, a30, a31, a32, a33, a34, a35, a36, a37, upd a38 0 l)) :
    wpX_patternFrom post (nI 1, f0_clauseCount, f0_drafted, f0_opened, f0_variables, f0_stock, f0_stored, f0_hopeless, f0_trailSize, f0_nextWatch, f0_nextEdge, f0_depth, f0_bump, f0_conflictSize, f0_learnedSize, f0_assumed, f0_counted, a1, a2, a3, a4, a5, a6, a7, a8, a9, a10, a11, a12, a13, a14, a15, a16, a17, a18, a19, a20, a21, a22, a23, a24, a25, a26, a27, a28, a29, a30, a31, a32, a33, a34, a35, a36, a37, a38) p := by
  subst hl
  unfold wpX_patternFrom
  dsimp only
  refine nm_r (e' := 0) (by decide) ⟨2, br_f (by decide) ?_⟩
  unfold wpX_assumeBit
  dsimp only
  refine nm_e (zb_assume (k := 0) (by decide) (nm_r (e' := -1) (by decide) (br_t (by decide) ?_)))
  exact H
theorem zq_patA {post : Int32 → St2 → Prop} (H : ∀ w, zt_pr w = (nI 0, nI 0, f0_drafted, f0_opened, a1, a2, a3, a4, a5, a6, a7, a8) → post 1 w) : wpX_patterns post (nI 0, nI 0, f0_drafted, f0_opened, f0_variables, f0_stock, f0_stored, f0_hopeless, f0_trailSize, f0_nextWatch, f0_nextEdge, f0_depth, f0_bump, f0_conflictSize, f0_learnedSize, f0_assumed, f0_counted, a1, a2, a3, a4, a5, a6, a7, a8, a9, a10, a11, a12, a13, a14, a15, a16, a17, a18, a19, a20, a21, a22, a23, a24, a25, a26, a27, a28, a29, a30, a31, a32, a33, a34, a35, a36, a37, a38) := by
  unfold wpX_patterns
  dsimp only
  refine zt_lay (o := 0) (cc := 0) (fl := 0) (t := 0) (u := 1) (k := 0) (kq := 0) (by decide) (by decide) (by decide) (by decide) (by decide) (by decide) (by decide) (fun e => absurd e (by decide)) (fun e => absurd e (by decide)) (fun lz wt WL b9 b10 b11 b12 b13 b14 b15 b16 b17 b18 b19 b20 b21 b23 b24 b25 b26 b30 b36 k1 k2 k3 k4 k5 k6 => ?_)
  try dsimp only
  refine zq_pf0 ?_
  try dsimp only
  refine zt_go (τ0 := []) (ac := 0) (la := 0) (U := 1000) (N := 1000) (by decide) (Or.inl rfl) (by decide) (by decide) (by decide) (by decide) (by decide) (by decide) (by decide) (fun e => absurd e (by decide)) (fun M _ _ x hx => absurd hx List.not_mem_nil) (fun e => absurd e (by decide)) (fun e => absurd e (by decide)) (fun e => absurd e (by decide)) (fun e => absurd e (by decide)) k1 k2 k3 k4 k5 k6
    (fun σ d z wt WL l0 b15 b16 b17 b18 b19 b20 b21 b22 b25 b26 b27 b28 b29 b30 b31 b32 b33 b34 _ _ _ _ _ _ => br_f (by decide) ⟨2, ?_⟩)
  try dsimp only
  refine pk_le 256 0 (fun z => absurd z (by decide)) (fun _ => br_f (by decide) (nm_r (e' := 1) (by decide) (br_t (by decide) (nm_r (e' := 1) (by decide) ?_))))
  try dsimp only
  exact pk_le 256 1 (fun z => absurd z (by decide)) (fun _ => br_t rfl (H _ rfl))
theorem zq_patD {post : Int32 → St2 → Prop} {t u : Nat} {k : Int} (ht : t < 7) (hu : u < 7) (hne : t ≠ u) (hk : -20 ≤ k ∧ k ≤ 20) (hat : a1 0 = nI t ∧ a2 0 = nI u ∧ (a3 0).toInt = k) (hf : a4 0 = 1 ∧ a5 0 = nI 1)
    (H : ∀ w, zt_pr w = (nI 1, nI 1, f0_drafted, f0_opened, a1, a2, a3, a4, a5, a6, a7, a8) → post 1 w) : wpX_patterns post (nI 1, nI 1, f0_drafted, f0_opened, f0_variables, f0_stock, f0_stored, f0_hopeless, f0_trailSize, f0_nextWatch, f0_nextEdge, f0_depth, f0_bump, f0_conflictSize, f0_learnedSize, f0_assumed, f0_counted, a1, a2, a3, a4, a5, a6, a7, a8, a9, a10, a11, a12, a13, a14, a15, a16, a17, a18, a19, a20, a21, a22, a23, a24, a25, a26, a27, a28, a29, a30, a31, a32, a33, a34, a35, a36, a37, a38) := by
  unfold wpX_patterns
  dsimp only
  refine zt_lay (o := 1) (cc := 1) (fl := 1) (t := t) (u := u) (k := k) (kq := 0) (by decide) (by decide) (by decide) ht hu hne hk (fun _ => hat) (fun _ => hf) (fun lz wt WL b9 b10 b11 b12 b13 b14 b15 b16 b17 b18 b19 b20 b21 b23 b24 b25 b26 b30 b36 k1 k2 k3 k4 k5 k6 => ?_)
  try dsimp only
  refine zq_pf1 (l := nI 1) (by decide) ?_
  obtain ⟨g0, g1, g2⟩ := zt_e1 (t := t) (u := u) (k := k) (kq := 0)
  have s1 : ∀ M : Nat → Int, -(-k - 1) ≤ M t - M u → ze_sat (zt_L 1 t) (zt_R 1 u) (zt_K 1 k 0) M 1 := fun M h => by
    unfold ze_sat
    rw [g0, g1, g2]
    omega
  try dsimp only
  refine zt_go (τ0 := [1]) (ac := 1) (la := 1) (U := 1000) (N := -k - 1) (by decide) (Or.inl rfl) ht hu hne (by omega) (by decide) (by omega) (by decide) (fun _ => ⟨pk_us, by decide, fun M _ h => s1 M h⟩)
    (fun M _ h x hx => by
      rw [List.mem_singleton.mp hx]
      exact s1 M h) (fun _ M _ _ τ _ q2 _ _ _ q6 => absurd (q2 1 List.mem_cons_self) q6) (fun e => absurd e (by decide)) (fun e => absurd e (by decide))
    (fun _ M _ _ τ _ q2 _ _ => ⟨1, q2 1 List.mem_cons_self, g0, g1, by rw [g2]; exact Int.le_refl _⟩) k1 k2 k3 k4 k5 k6
    (fun σ d z wt WL l0 b15 b16 b17 b18 b19 b20 b21 b22 b25 b26 b27 b28 b29 b30 b31 b32 b33 b34 r1 r2 r3 r4 r5 r6 => br_f (by decide) ⟨3, ?_⟩)
  try dsimp only
  refine pk_le 256 0 (fun z => absurd z (by decide)) (fun _ => br_f (by decide) (nm_r (e' := 1) (by decide) (br_f (by decide) ?_)))
  obtain ⟨y1, y2, y3, y4⟩ := r6 (r4 rfl)
  obtain ⟨m1, _, m7, m8, m9, m10, m11⟩ := zm_D (t := t) (u := u) (U := 1000) (N := -k - 1) ht hu hne (by omega) (by decide) (by omega)
  generalize hr : zm_rho (t / 3) (zm_qD t u 1000 (-k - 1)) = r at *
  generalize hd : zm_dD t u 1000 (-k - 1) = dd at *
  have hrb : ∀ x, 0 ≤ r x ∧ r x ≤ 2 := fun x => by
    rw [← hr]
    exact zm_rho_b _ _ _
  have hB := zm_M_bd (t := t) (u := u) hrb m9 m10
  have hpat := zm_M_pat hne m11
  have hpx := zs_px_take r1 y3
  have htl : (σ.take z).length = z := by rw [List.length_take]; omega
  try dsimp only
  refine zq_pf1 (l := nI 0) (by decide) ?_
  try dsimp only
  refine zq_slv r3.1 (by decide) y2 (r4 rfl) (by omega) y1 (Nat.le_refl _) (Nat.le_refl _) (fun c18 c23 t1 t2 t3 => ?_)
  try dsimp only
  refine zs_unsat (τ0 := σ.take z) (B := False) (n := 13) (o := 1) (la := 0) (s := 200) (nw := min σ.length z) (ne := min σ.length z) k1 (by decide) (by decide) k4 (zt_good zt_12 hpat m1) (fun x _ => hB x) (by decide) ⟨pk_us, by decide⟩ (fun τ _ q2 _ => q2 1 (zs_px_mem hpx List.mem_cons_self))
    ⟨t1, fun x hx => r3.2.1 x (List.mem_of_mem_take hx), r3.2.2.1, fun b => absurd b id, zq_egt r3.2.2.2.2.1, zq_lvt r3.2.2.2.2.2.1, by omega, by omega⟩
    (fun σ' wt WL l0 b15 b16 b17 b18 b19 b20 b21 b22 b25 b26 b27 b28 b29 b30 b31 b32 b33 b34 _ _ _ => br_t rfl ⟨2, ?_⟩)
  try dsimp only
  refine pk_le 1 0 (fun z => absurd z (by decide)) (fun _ => br_f (by decide) (nm_r (e' := nI 1) (by decide) ?_))
  try dsimp only
  refine pk_le 1 1 (fun _ => nm_r (e' := nI 1) (by decide) ?_) (fun z => absurd z (by decide))
  try dsimp only
  exact pk_le 256 1 (fun z => absurd z (by decide)) (fun _ => br_t rfl (H _ rfl))
theorem zq_patC {post : Int32 → St2 → Prop} {t u : Nat} {k : Int} (ht : t < 7) (hu : u < 7) (hne : t ≠ u) (hk : -20 ≤ k ∧ k ≤ 20) (hat : a1 0 = nI t ∧ a2 0 = nI u ∧ (a3 0).toInt = k) (hf : a4 0 = 1 ∧ a5 0 = nI 0)
    (H : ∀ w, zt_pr w = (nI 1, nI 1, f0_drafted, f0_opened, a1, a2, a3, a4, a5, a6, a7, a8) → post 1 w) : wpX_patterns post (nI 1, nI 1, f0_drafted, f0_opened, f0_variables, f0_stock, f0_stored, f0_hopeless, f0_trailSize, f0_nextWatch, f0_nextEdge, f0_depth, f0_bump, f0_conflictSize, f0_learnedSize, f0_assumed, f0_counted, a1, a2, a3, a4, a5, a6, a7, a8, a9, a10, a11, a12, a13, a14, a15, a16, a17, a18, a19, a20, a21, a22, a23, a24, a25, a26, a27, a28, a29, a30, a31, a32, a33, a34, a35, a36, a37, a38) := by
  unfold wpX_patterns
  dsimp only
  refine zt_lay (o := 1) (cc := 1) (fl := 0) (t := t) (u := u) (k := k) (kq := 0) (by decide) (by decide) (by decide) ht hu hne hk (fun _ => hat) (fun _ => hf) (fun lz wt WL b9 b10 b11 b12 b13 b14 b15 b16 b17 b18 b19 b20 b21 b23 b24 b25 b26 b30 b36 k1 k2 k3 k4 k5 k6 => ?_)
  try dsimp only
  refine zq_pf1 (l := nI 1) (by decide) ?_
  obtain ⟨g0, g1, g2⟩ := zt_e0 (t := t) (u := u) (k := k) (kq := 0)
  have s1 : ∀ M : Nat → Int, M t - M u ≤ k → ze_sat (zt_L 1 t) (zt_R 1 u) (zt_K 1 k 0) M 0 := fun M h => by
    unfold ze_sat
    rw [g0, g1, g2]
    omega
  try dsimp only
  refine zt_goU (τ0 := [0]) (la := 1) (U := k) (N := 1000) (by decide) (Or.inl rfl) ht hu hne (by omega) (by omega) (by decide) ⟨pk_us, by decide⟩
    (fun M h _ x hx => by
      rw [List.mem_singleton.mp hx]
      exact s1 M h) (fun M _ _ τ _ q2 _ => q2 0 List.mem_cons_self) k1 k2 k4 k5 k6
    (fun σ wt WL l0 b15 b16 b17 b18 b19 b20 b21 b22 b25 b26 b27 b28 b29 b30 b31 b32 b33 b34 r1 r3 r6 => br_t rfl ⟨2, ?_⟩)
  try dsimp only
  refine pk_le 1 0 (fun z => absurd z (by decide)) (fun _ => br_t (by decide) (nm_r (e' := 1) (by decide) (nm_r (e' := 0) (by decide) ⟨2, br_f (by decide) ?_⟩)))
  try dsimp only
  unfold wpX_assumeBit
  dsimp only
  refine nm_r (e' := 0) (by decide) (zb_assume (k := 0) (by decide) (nm_r (e' := -1) (by decide) (br_t (by decide) ?_)))
  obtain ⟨m1, ⟨hu', hl', m2, m3, m4, m5, m6⟩, m7, m8, m9, m10, m11⟩ := zm_D (t := t) (u := u) (U := k) (N := 1000) ht hu hne (by omega) (by omega) (by decide)
  generalize hr : zm_rho (t / 3) (zm_qD t u k 1000) = r at *
  generalize hd : zm_dD t u k 1000 = dd at *
  have hrb : ∀ x, 0 ≤ r x ∧ r x ≤ 2 := fun x => by
    rw [← hr]
    exact zm_rho_b _ _ _
  have hB := zm_M_bd (t := t) (u := u) hrb m9 m10
  have hpat := zm_M_pat hne m11
  have htu := zm_M_tu (r := r) (d := dd) hne
  have h0σ : 0 ∈ σ := zs_px_mem r1 List.mem_cons_self
  have hlen := zb_tr_len r3.1
  try dsimp only
  refine zq_slv r3.1 (by decide) (Nat.le_refl _) (by decide) (by decide) r6 (Nat.le_refl _) (Nat.le_refl _) (fun c18 c23 t1 t2 t3 => ⟨13 + 1 + 2, ?_⟩)
  rw [List.take_length] at t1 ⊢
  rw [List.drop_length] at t2
  rw [Nat.min_self]
  try dsimp only
  refine zs_sat (τ0 := σ) (n := 13) (o := 1) (ac := 1) (la := 0) (p := fun _ => 0) (s := 200) k1 (by decide) (by decide) k4 (zt_good zt_12 hpat m1) (fun x _ => hB x) (by decide) (by decide) (fun _ => ⟨by rw [pk_us]; decide, by decide, s1 _ (by omega)⟩) (fun v hv => (k3 v hv).2) (fun v hv => ⟨by decide, (t2 v hv (by simp)).trans (k3 v hv).1⟩)
    (zt_CH (pt := fun _ => false) (t := t) (u := u) (hU := hu') (hL := hl') (by decide) (Or.inl rfl) zt_12 hpat m2 m3 m4 (fun x _ => rfl) (fun _ τ _ q2 _ _ q5 _ => absurd (q2 0 h0σ) q5) (fun e => absurd e (by decide))
      (fun h τ _ q2 _ _ => ⟨0, q2 0 h0σ, g0, g1, by rw [g2]; exact m5 h⟩) (fun h => absurd (m6 h) (by omega)))
    (fun σ' d z wt WL l0 b15 b16 b17 b18 b19 b20 b21 b22 b25 b26 b27 b28 b29 b30 b31 b32 b33 b34 _ _ _ _ _ _ => br_f (by decide) ?_)
    (13 + 1) 0 σ 0 0 _ _ wt WL l0 _ _ _ _ _ _ _ _ _ _ _ _ _ _ _ _ _ _ (by omega) (by omega) (by omega) ⟨[], by rw [List.append_nil]⟩ (fun _ e => e) (fun _ e => absurd e (by decide)) (fun e => absurd e (by decide)) ⟨t1, r3.2⟩
  try dsimp only
  unfold wpX_fillPattern
  dsimp only
  refine ⟨1, br_t (by decide) ⟨2, ?_⟩⟩
  try dsimp only
  refine pk_le 256 0 (fun z => absurd z (by decide)) (fun _ => br_f (by decide) (nm_r (e' := 1) (by decide) (br_t (by decide) (nm_r (e' := 1) (by decide) ?_))))
  try dsimp only
  exact pk_le 256 1 (fun z => absurd z (by decide)) (fun _ => br_t rfl (H _ rfl))
theorem zq_patB {post : Int32 → St2 → Prop} {t u : Nat} {k : Int} (ht : t < 7) (hu : u < 7) (hne : t ≠ u) (hk : -20 ≤ k ∧ k ≤ 20) (hat : a1 0 = nI t ∧ a2 0 = nI u ∧ (a3 0).toInt = k)
    (H : ∀ w, zt_pr w = (nI 1, nI 0, f0_drafted, f0_opened, a1, a2, a3, a4, a5, a6, a7, a8) → post 2 w) : wpX_patterns post (nI 1, nI 0, f0_drafted, f0_opened, f0_variables, f0_stock, f0_stored, f0_hopeless, f0_trailSize, f0_nextWatch, f0_nextEdge, f0_depth, f0_bump, f0_conflictSize, f0_learnedSize, f0_assumed, f0_counted, a1, a2, a3, a4, a5, a6, a7, a8, a9, a10, a11, a12, a13, a14, a15, a16, a17, a18, a19, a20, a21, a22, a23, a24, a25, a26, a27, a28, a29, a30, a31, a32, a33, a34, a35, a36, a37, a38) := by
  unfold wpX_patterns
  dsimp only
  refine zt_lay (o := 1) (cc := 0) (fl := 0) (t := t) (u := u) (k := k) (kq := 0) (by decide) (by decide) (by decide) ht hu hne hk (fun _ => hat) (fun e => absurd e (by decide)) (fun lz wt WL b9 b10 b11 b12 b13 b14 b15 b16 b17 b18 b19 b20 b21 b23 b24 b25 b26 b30 b36 k1 k2 k3 k4 k5 k6 => ?_)
  try dsimp only
  refine zq_pf1 (l := nI 1) (by decide) ?_
  obtain ⟨f0, f1, f2⟩ := zt_e0 (t := t) (u := u) (k := k) (kq := 0)
  obtain ⟨g0, g1, g2⟩ := zt_e1 (t := t) (u := u) (k := k) (kq := 0)
  have s1 : ∀ M : Nat → Int, -(-k - 1) ≤ M t - M u → ze_sat (zt_L 1 t) (zt_R 1 u) (zt_K 1 k 0) M 1 := fun M h => by
    unfold ze_sat
    rw [g0, g1, g2]
    omega
  have s0 : ∀ M : Nat → Int, M t - M u ≤ k → ze_sat (zt_L 1 t) (zt_R 1 u) (zt_K 1 k 0) M 0 := fun M h => by
    unfold ze_sat
    rw [f0, f1, f2]
    omega
  try dsimp only
  refine zt_go (τ0 := []) (ac := 1) (la := 1) (U := 1000) (N := -k - 1) (by decide) (Or.inl rfl) ht hu hne (by omega) (by decide) (by omega) (by decide) (fun _ => ⟨pk_us, by decide, fun M _ h => s1 M h⟩) (fun M _ h x hx => absurd hx List.not_mem_nil) (fun _ M _ _ τ _ _ q3 _ _ q6 => absurd (q3 rfl) q6) (fun e => absurd e (by decide)) (fun e => absurd e (by decide))
    (fun _ M _ _ τ _ _ q3 _ => ⟨1, q3 rfl, g0, g1, by rw [g2]; exact Int.le_refl _⟩) k1 k2 k3 k4 k5 k6
    (fun σ d z wt WL l0 b15 b16 b17 b18 b19 b20 b21 b22 b25 b26 b27 b28 b29 b30 b31 b32 b33 b34 r1 r2 r3 r4 r5 r6 => br_f (by decide) ⟨3, ?_⟩)
  try dsimp only
  refine pk_le 256 0 (fun z => absurd z (by decide)) (fun _ => br_f (by decide) (nm_r (e' := 1) (by decide) (br_f (by decide) ?_)))
  obtain ⟨y1, y2, y3, y4⟩ := r6 (r4 rfl)
  rw [y4 rfl] at y1
  obtain ⟨_, _, m7, m8, m9, m10, m11⟩ := zm_D (t := t) (u := u) (U := 1000) (N := -k - 1) ht hu hne (by omega) (by decide) (by omega)
  obtain ⟨n1, ⟨hu', n2, n3, n4⟩, n5, n6, n7⟩ := zm_R (k := k) ht hu hne hk
  generalize hr : zm_rho (t / 3) (zm_qD t u 1000 (-k - 1)) = r at *
  generalize hd : zm_dD t u 1000 (-k - 1) = dd at *
  generalize hr2 : zm_rho (t / 3) (zm_q2 t u k) = r2' at *
  generalize hd2 : zm_d2 t u k = d2 at *
  have hrb : ∀ x, 0 ≤ r x ∧ r x ≤ 2 := fun x => by
    rw [← hr]
    exact zm_rho_b _ _ _
  have hrb2 : ∀ x, 0 ≤ r2' x ∧ r2' x ≤ 2 := fun x => by
    rw [← hr2]
    exact zm_rho_b _ _ _
  have hB := zm_M_bd (t := t) (u := u) hrb m9 m10
  have hB2 := zm_M_bd (t := t) (u := u) (d := d2) hrb2 n6 (by omega)
  have hpat := zm_M_pat hne m11
  have hpat2 := zm_M_pat hne n7
  have htu2 := zm_M_tu (r := r2') (d := d2) hne
  have hmap : ∀ v, v < 13 → v ∈ (σ.drop 0).map (fun l => l / 2) := fun v hv => by
    rw [List.drop_zero]
    exact zb_half_mem.mpr (r2 v hv)
  try dsimp only
  refine zq_pf1 (l := nI 0) (by decide) ?_
  try dsimp only
  refine zq_slv r3.1 (by decide) (Nat.zero_le _) (r4 rfl) (by omega) y1 (Nat.le_refl _) (Nat.le_refl _) (fun c18 c23 t1 t2 t3 => ⟨13 + 1 + 2, ?_⟩)
  rw [List.take_zero] at t1 ⊢
  rw [Nat.min_zero]
  have hp2 : ∀ v, v < 13 → c23 v = nI (if 2 * v ∈ σ then 1 else 0) := fun v hv => by
    rw [t3 v hv (hmap v hv)]
    unfold zb_va
    by_cases e : 2 * v ∈ σ
    · rw [if_pos e, if_pos e]
      rfl
    · rw [if_neg e, if_neg e, if_pos ((r2 v hv).resolve_left e)]
      rfl
  try dsimp only
  refine zs_sat (τ0 := []) (n := 13) (o := 1) (ac := 1) (la := 0) (p := fun v => if 2 * v ∈ σ then 1 else 0) (s := 600) k1 (by decide) (by decide) k4 (zt_good zt_12 hpat2 n1) (fun x _ => hB2 x) (by decide) (by decide) (fun _ => ⟨pk_us, by decide, s0 _ (by omega)⟩) (fun v hv => (k3 v hv).2) (fun v hv => ⟨by show (if 2 * v ∈ σ then 1 else 0) ≤ 1; split <;> omega, hp2 v hv⟩)
    (zt_CH (pt := zm_tt r) (t := t) (u := u) (hU := hu') (hL := 1000) (by decide) (Or.inl rfl) zt_12 hpat2 n2 n3 (by decide)
      (fun x hx => by
        have q := zt_sat0 (o := 1) (L := zt_L 1 t) (R := zt_R 1 u) (K := zt_K 1 k 0) zt_12 hpat x hx
        show (if 2 * (1 + x) ∈ σ then 1 else 0) = _
        by_cases e : 2 * (1 + x) ∈ σ
        · rw [if_pos e, if_pos (q.1.mp (r3.2.1 _ e))]
        · have e' := (r2 (1 + x) (by omega)).resolve_left e
          rw [if_neg e, if_neg (by rw [q.2.mp (r3.2.1 _ e')]; decide)]) (fun _ τ _ _ q3 _ q5 _ => absurd (q3 rfl) q5) (fun e => absurd e (by decide))
      (fun h τ _ _ q3 _ => ⟨0, q3 rfl, f0, f1, by rw [f2]; exact n4 h⟩) (fun h => absurd h (by decide)))
    (fun σ' d z wt WL l0 b15 b16 b17 b18 b19 b20 b21 b22 b25 b26 b27 b28 b29 b30 b31 b32 b33 b34 _ _ _ _ _ _ => br_f (by decide) (nm_r (e' := nI 1) (by decide) ?_))
    (13 + 1) 0 [] 0 0 0 0 wt WL l0 _ _ _ _ _ _ _ _ _ _ _ _ _ _ _ _ _ _ (by decide) (by decide) (by decide) ⟨[], rfl⟩ (fun _ _ => rfl) (fun _ e => absurd e (by decide)) (fun e => absurd e (by decide))
    ⟨t1, fun x hx => absurd hx List.not_mem_nil, r3.2.2.1, fun _ w _ i hi => absurd hi (by omega), fun i l hi => absurd hi (by omega), ⟨fun i l hi => absurd hi (by omega), fun x hx => ?_⟩, by decide, by decide⟩
  · try dsimp only
    refine pk_le 256 1 (fun z => absurd z (by decide)) (fun _ => br_f (by decide) (nm_r (e' := 2) (by decide) (br_t (by decide) (nm_r (e' := nI 2) (by decide) ?_))))
    try dsimp only
    exact pk_le 256 2 (fun z => absurd z (by decide)) (fun _ => br_t rfl (H _ rfl))
  · have a1 := r3.2.2.2.2.2.1.2 x hx
    have a2 := hB x
    have a3 := hB2 x
    omega
end
end
section
section
theorem zv_cell {post : Int32 → Prop} {L i : Nat} {xs : Nat → Int32} {w : St0} (hL : L ≤ 5) (hi : i < 5) (H : ∀ x, post x) : wpL_cellAt post L xs w (nI i) := by
  unfold wpL_cellAt
  exact pk_le L i (fun _ => H _) (fun g => ⟨pk_in i L g, H _⟩)
theorem zv_two {x : Int32} (h1 : ¬ x < 0) (h2 : x < 2 * nI 1) : x = nI 0 ∨ x = nI 1 := by
  rcases pk_ix x (n := 2) (by decide) with z | z | ⟨j, hj, z⟩
  · exact absurd z h1
  · have a := Int32.lt_iff_toInt_lt.mp h2
    have b := Int32.le_iff_toInt_le.mp z
    have c : (2 * nI 1 : Int32) = nI 2 := by decide
    rw [c] at a
    omega
  · rcases (show j = 0 ∨ j = 1 by omega) with e | e
    · exact Or.inl (by rw [z, e])
    · exact Or.inr (by rw [z, e])
variable {f0_atomCount f0_clauseCount f0_drafted f0_opened f0_variables f0_stock f0_stored f0_hopeless f0_trailSize f0_nextWatch f0_nextEdge f0_depth f0_bump f0_conflictSize f0_learnedSize f0_assumed f0_counted : Int32} {a1 a2 a3 a4 a5 a6 a7 a8 a9 a10 a11 a12 a13 a14 a15 a16 a17 a18 a19 a20 a21 a22 a23 a24 a25 a26 a27 a28 a29 a30 a31 a32 a33 a34 a35 a36 a37 a38 : Nat → Int32}
theorem zv_badT {post : Int32 → Prop} {x : Int32} (H1 : (x < 0 ∨ ¬ x < 7) → post 1) (H0 : ¬ x < 0 → x < 7 → post 0) : wpX_badTerm post (f0_atomCount, f0_clauseCount, f0_drafted, f0_opened, f0_variables, f0_stock, f0_stored, f0_hopeless, f0_trailSize, f0_nextWatch, f0_nextEdge, f0_depth, f0_bump, f0_conflictSize, f0_learnedSize, f0_assumed, f0_counted, a1, a2, a3, a4, a5, a6, a7, a8, a9, a10, a11, a12, a13, a14, a15, a16, a17, a18, a19, a20, a21, a22, a23, a24, a25, a26, a27, a28, a29, a30, a31, a32, a33, a34, a35, a36, a37, a38) x := by
  unfold wpX_badTerm
  exact br_c (fun a => H1 (Or.inl a)) (fun a => br_c (fun b => H0 a b) (fun b => H1 (Or.inr b)))
theorem zv_badL {post : Int32 → Prop} {x : Int32} (H1 : (x < 0 ∨ ¬ x < 2 * f0_atomCount) → post 1) (H0 : ¬ x < 0 → x < 2 * f0_atomCount → post 0) : wpX_badLiteral post (f0_atomCount, f0_clauseCount, f0_drafted, f0_opened, f0_variables, f0_stock, f0_stored, f0_hopeless, f0_trailSize, f0_nextWatch, f0_nextEdge, f0_depth, f0_bump, f0_conflictSize, f0_learnedSize, f0_assumed, f0_counted, a1, a2, a3, a4, a5, a6, a7, a8, a9, a10, a11, a12, a13, a14, a15, a16, a17, a18, a19, a20, a21, a22, a23, a24, a25, a26, a27, a28, a29, a30, a31, a32, a33, a34, a35, a36, a37, a38) x := by
  unfold wpX_badLiteral
  exact br_c (fun a => H1 (Or.inl a)) (fun a => br_c (fun b => H0 a b) (fun b => H1 (Or.inr b)))
theorem zv_atomY {post : Int32 → St2 → Prop} {t u : Nat} {k : Int32} (ht : t < 7) (hu : u < 7) (hne : t ≠ u) (hk1 : ¬ k < -20) (hk2 : k ≤ 20) (H : post 0 (nI 1, f0_clauseCount, f0_drafted, f0_opened, f0_variables, f0_stock, f0_stored, f0_hopeless, f0_trailSize, f0_nextWatch, f0_nextEdge, f0_depth, f0_bump, f0_conflictSize, f0_learnedSize, f0_assumed, f0_counted, upd a1 0 (nI t), upd a2 0 (nI u), upd a3 0 k, a4, a5, a6, a7, a8, a9, a10, a11, a12, a13, a14, a15, a16, a17, a18, a19, a20, a21, a22, a23, a24, a25, a26, a27, a28, a29, a30, a31, a32, a33, a34, a35, a36, a37, a38)) :
    wpX_atom post (0, f0_clauseCount, f0_drafted, f0_opened, f0_variables, f0_stock, f0_stored, f0_hopeless, f0_trailSize, f0_nextWatch, f0_nextEdge, f0_depth, f0_bump, f0_conflictSize, f0_learnedSize, f0_assumed, f0_counted, a1, a2, a3, a4, a5, a6, a7, a8, a9, a10, a11, a12, a13, a14, a15, a16, a17, a18, a19, a20, a21, a22, a23, a24, a25, a26, a27, a28, a29, a30, a31, a32, a33, a34, a35, a36, a37, a38) (nI t) (nI u) k := by
  unfold wpX_atom
  dsimp only
  have i8 := pk_in (x := 0) 0 8 (by decide)
  refine zt_bt ht (br_t rfl (zt_bt hu (br_t rfl (br_f (fun e => hne ((nI_eq (by omega) (by omega)).mp e)) (br_f hk1 (br_t hk2 (br_f (by decide) ?_)))))))
  exact ⟨i8, nm_e ⟨i8, nm_e ⟨i8, nm_e (nm_r (e' := nI 1) (by decide) H)⟩⟩⟩
theorem zv_atomN {post : Int32 → St2 → Prop} {t u k : Int32} (h : (t < 0 ∨ ¬ t < 7) ∨ (u < 0 ∨ ¬ u < 7) ∨ t = u ∨ k < -20 ∨ ¬ k ≤ 20) (H : post (-1000) (f0_atomCount, f0_clauseCount, f0_drafted, f0_opened, f0_variables, f0_stock, f0_stored, f0_hopeless, f0_trailSize, f0_nextWatch, f0_nextEdge, f0_depth, f0_bump, f0_conflictSize, f0_learnedSize, f0_assumed, f0_counted, a1, a2, a3, a4, a5, a6, a7, a8, a9, a10, a11, a12, a13, a14, a15, a16, a17, a18, a19, a20, a21, a22, a23, a24, a25, a26, a27, a28, a29, a30, a31, a32, a33, a34, a35, a36, a37, a38)) : wpX_atom post (f0_atomCount, f0_clauseCount, f0_drafted, f0_opened, f0_variables, f0_stock, f0_stored, f0_hopeless, f0_trailSize, f0_nextWatch, f0_nextEdge, f0_depth, f0_bump, f0_conflictSize, f0_learnedSize, f0_assumed, f0_counted, a1, a2, a3, a4, a5, a6, a7, a8, a9, a10, a11, a12, a13, a14, a15, a16, a17, a18, a19, a20, a21, a22, a23, a24, a25, a26, a27, a28, a29, a30, a31, a32, a33, a34, a35, a36, a37, a38) t u k := by
  unfold wpX_atom
  dsimp only
  refine zv_badT (fun _ => br_f (by decide) H) (fun a1 a2 => br_t rfl ?_)
  refine zv_badT (fun _ => br_f (by decide) H) (fun b1 b2 => br_t rfl ?_)
  refine br_c (fun _ => H) (fun c => br_c (fun _ => H) (fun d => br_c (fun e => ?_) (fun _ => H)))
  rcases h with (h | h) | (h | h) | h | h | h
  · exact absurd h a1
  · exact absurd a2 h
  · exact absurd h b1
  · exact absurd b2 h
  · exact absurd h c
  · exact absurd h d
  · exact absurd e h
theorem zv_litY {post : Int32 → St2 → Prop} {l : Int32} (hl : l = nI 0 ∨ l = nI 1) (H : post 1 (nI 1, f0_clauseCount, 1, f0_opened, f0_variables, f0_stock, f0_stored, f0_hopeless, f0_trailSize, f0_nextWatch, f0_nextEdge, f0_depth, f0_bump, f0_conflictSize, f0_learnedSize, f0_assumed, f0_counted, a1, a2, a3, a4, a5, upd a6 0 l, a7, a8, a9, a10, a11, a12, a13, a14, a15, a16, a17, a18, a19, a20, a21, a22, a23, a24, a25, a26, a27, a28, a29, a30, a31, a32, a33, a34, a35, a36, a37, a38)) : wpX_literal post (nI 1, f0_clauseCount, 0, f0_opened, f0_variables, f0_stock, f0_stored, f0_hopeless, f0_trailSize, f0_nextWatch, f0_nextEdge, f0_depth, f0_bump, f0_conflictSize, f0_learnedSize, f0_assumed, f0_counted, a1, a2, a3, a4, a5, a6, a7, a8, a9, a10, a11, a12, a13, a14, a15, a16, a17, a18, a19, a20, a21, a22, a23, a24, a25, a26, a27, a28, a29, a30, a31, a32, a33, a34, a35, a36, a37, a38) l := by
  unfold wpX_literal
  dsimp only
  refine zv_badL (fun a => ?_) (fun _ _ => br_t rfl (br_f (by decide) ⟨pk_in (x := 0) 0 4 (by decide), nm_e (nm_r (e' := 1) (by decide) H)⟩))
  exfalso
  rcases hl with e | e
  · rw [e] at a
    exact absurd a (by decide)
  · rw [e] at a
    exact absurd a (by decide)
theorem zv_litN {post : Int32 → St2 → Prop} {l : Int32} (hl : ¬ (l = nI 0 ∨ l = nI 1)) (H : post (-1000) (nI 1, f0_clauseCount, f0_drafted, f0_opened, f0_variables, f0_stock, f0_stored, f0_hopeless, f0_trailSize, f0_nextWatch, f0_nextEdge, f0_depth, f0_bump, f0_conflictSize, f0_learnedSize, f0_assumed, f0_counted, a1, a2, a3, a4, a5, a6, a7, a8, a9, a10, a11, a12, a13, a14, a15, a16, a17, a18, a19, a20, a21, a22, a23, a24, a25, a26, a27, a28, a29, a30, a31, a32, a33, a34, a35, a36, a37, a38)) : wpX_literal post (nI 1, f0_clauseCount, f0_drafted, f0_opened, f0_variables, f0_stock, f0_stored, f0_hopeless, f0_trailSize, f0_nextWatch, f0_nextEdge, f0_depth, f0_bump, f0_conflictSize, f0_learnedSize, f0_assumed, f0_counted, a1, a2, a3, a4, a5, a6, a7, a8, a9, a10, a11, a12, a13, a14, a15, a16, a17, a18, a19, a20, a21, a22, a23, a24, a25, a26, a27, a28, a29, a30, a31, a32, a33, a34, a35, a36, a37, a38) l := by
  unfold wpX_literal
  dsimp only
  exact zv_badL (fun _ => br_f (by decide) H) (fun a b => absurd (zv_two a b) hl)
theorem zv_lit0 {post : Int32 → St2 → Prop} {l : Int32} (H : post (-1000) (0, f0_clauseCount, f0_drafted, f0_opened, f0_variables, f0_stock, f0_stored, f0_hopeless, f0_trailSize, f0_nextWatch, f0_nextEdge, f0_depth, f0_bump, f0_conflictSize, f0_learnedSize, f0_assumed, f0_counted, a1, a2, a3, a4, a5, a6, a7, a8, a9, a10, a11, a12, a13, a14, a15, a16, a17, a18, a19, a20, a21, a22, a23, a24, a25, a26, a27, a28, a29, a30, a31, a32, a33, a34, a35, a36, a37, a38)) : wpX_literal post (0, f0_clauseCount, f0_drafted, f0_opened, f0_variables, f0_stock, f0_stored, f0_hopeless, f0_trailSize, f0_nextWatch, f0_nextEdge, f0_depth, f0_bump, f0_conflictSize, f0_learnedSize, f0_assumed, f0_counted, a1, a2, a3, a4, a5, a6, a7, a8, a9, a10, a11, a12, a13, a14, a15, a16, a17, a18, a19, a20, a21, a22, a23, a24, a25, a26, a27, a28, a29, a30, a31, a32, a33, a34, a35, a36, a37, a38) l := by
  unfold wpX_literal
  dsimp only
  exact zv_badL (fun _ => br_f (by decide) H) (fun a b => absurd b a)
theorem zv_facY {post : Int32 → St2 → Prop} {m : Nat} (hm : m < 2) (H : post 0 (nI 1, nI 1, f0_drafted, f0_opened, f0_variables, f0_stock, f0_stored, f0_hopeless, f0_trailSize, f0_nextWatch, f0_nextEdge, f0_depth, f0_bump, f0_conflictSize, f0_learnedSize, f0_assumed, f0_counted, a1, a2, a3, upd a4 0 1, upd a5 0 (nI m), a6, a7, a8, a9, a10, a11, a12, a13, a14, a15, a16, a17, a18, a19, a20, a21, a22, a23, a24, a25, a26, a27, a28, a29, a30, a31, a32, a33, a34, a35, a36, a37, a38)) : wpX_fact post (nI 1, 0, f0_drafted, f0_opened, f0_variables, f0_stock, f0_stored, f0_hopeless, f0_trailSize, f0_nextWatch, f0_nextEdge, f0_depth, f0_bump, f0_conflictSize, f0_learnedSize, f0_assumed, f0_counted, a1, a2, a3, a4, a5, a6, a7, a8, a9, a10, a11, a12, a13, a14, a15, a16, a17, a18, a19, a20, a21, a22, a23, a24, a25, a26, a27, a28, a29, a30, a31, a32, a33, a34, a35, a36, a37, a38) (nI m) := by
  unfold wpX_fact
  dsimp only
  refine zv_badL (fun a => ?_) (fun _ _ => br_t rfl (br_f (by decide) ⟨pk_in (x := 4 * 0) 0 64 (by decide), nm_e ⟨pk_in (x := 0) 0 16 (by decide), nm_e (nm_r (e' := nI 1) (by decide) H)⟩⟩))
  exfalso
  rcases (show m = 0 ∨ m = 1 by omega) with e | e
  · rw [e] at a
    exact absurd a (by decide)
  · rw [e] at a
    exact absurd a (by decide)
theorem zv_facN {post : Int32 → St2 → Prop} {l : Int32} (hl : ¬ (l = nI 0 ∨ l = nI 1)) (H : post (-1000) (nI 1, f0_clauseCount, f0_drafted, f0_opened, f0_variables, f0_stock, f0_stored, f0_hopeless, f0_trailSize, f0_nextWatch, f0_nextEdge, f0_depth, f0_bump, f0_conflictSize, f0_learnedSize, f0_assumed, f0_counted, a1, a2, a3, a4, a5, a6, a7, a8, a9, a10, a11, a12, a13, a14, a15, a16, a17, a18, a19, a20, a21, a22, a23, a24, a25, a26, a27, a28, a29, a30, a31, a32, a33, a34, a35, a36, a37, a38)) : wpX_fact post (nI 1, f0_clauseCount, f0_drafted, f0_opened, f0_variables, f0_stock, f0_stored, f0_hopeless, f0_trailSize, f0_nextWatch, f0_nextEdge, f0_depth, f0_bump, f0_conflictSize, f0_learnedSize, f0_assumed, f0_counted, a1, a2, a3, a4, a5, a6, a7, a8, a9, a10, a11, a12, a13, a14, a15, a16, a17, a18, a19, a20, a21, a22, a23, a24, a25, a26, a27, a28, a29, a30, a31, a32, a33, a34, a35, a36, a37, a38) l := by
  unfold wpX_fact
  dsimp only
  exact zv_badL (fun _ => br_f (by decide) H) (fun a b => absurd (zv_two a b) hl)
theorem zv_fac0 {post : Int32 → St2 → Prop} {l : Int32} (H : post (-1000) (0, f0_clauseCount, f0_drafted, f0_opened, f0_variables, f0_stock, f0_stored, f0_hopeless, f0_trailSize, f0_nextWatch, f0_nextEdge, f0_depth, f0_bump, f0_conflictSize, f0_learnedSize, f0_assumed, f0_counted, a1, a2, a3, a4, a5, a6, a7, a8, a9, a10, a11, a12, a13, a14, a15, a16, a17, a18, a19, a20, a21, a22, a23, a24, a25, a26, a27, a28, a29, a30, a31, a32, a33, a34, a35, a36, a37, a38)) : wpX_fact post (0, f0_clauseCount, f0_drafted, f0_opened, f0_variables, f0_stock, f0_stored, f0_hopeless, f0_trailSize, f0_nextWatch, f0_nextEdge, f0_depth, f0_bump, f0_conflictSize, f0_learnedSize, f0_assumed, f0_counted, a1, a2, a3, a4, a5, a6, a7, a8, a9, a10, a11, a12, a13, a14, a15, a16, a17, a18, a19, a20, a21, a22, a23, a24, a25, a26, a27, a28, a29, a30, a31, a32, a33, a34, a35, a36, a37, a38) l := by
  unfold wpX_fact
  dsimp only
  exact zv_badL (fun _ => br_f (by decide) H) (fun a b => absurd b a)
theorem zv_leastN {post : Int32 → St2 → Prop} {t u : Int32} (h : (t < 0 ∨ ¬ t < 7) ∨ (u < 0 ∨ ¬ u < 7) ∨ t = u) (H : post (-1000) (f0_atomCount, f0_clauseCount, f0_drafted, f0_opened, f0_variables, f0_stock, f0_stored, f0_hopeless, f0_trailSize, f0_nextWatch, f0_nextEdge, f0_depth, f0_bump, f0_conflictSize, f0_learnedSize, f0_assumed, f0_counted, a1, a2, a3, a4, a5, a6, a7, a8, a9, a10, a11, a12, a13, a14, a15, a16, a17, a18, a19, a20, a21, a22, a23, a24, a25, a26, a27, a28, a29, a30, a31, a32, a33, a34, a35, a36, a37, a38)) : wpX_least post (f0_atomCount, f0_clauseCount, f0_drafted, f0_opened, f0_variables, f0_stock, f0_stored, f0_hopeless, f0_trailSize, f0_nextWatch, f0_nextEdge, f0_depth, f0_bump, f0_conflictSize, f0_learnedSize, f0_assumed, f0_counted, a1, a2, a3, a4, a5, a6, a7, a8, a9, a10, a11, a12, a13, a14, a15, a16, a17, a18, a19, a20, a21, a22, a23, a24, a25, a26, a27, a28, a29, a30, a31, a32, a33, a34, a35, a36, a37, a38) t u := by
  unfold wpX_least
  dsimp only
  refine zv_badT (fun _ => br_f (by decide) H) (fun a1 a2 => br_t rfl ?_)
  refine zv_badT (fun _ => br_f (by decide) H) (fun b1 b2 => br_t rfl ?_)
  refine br_c (fun _ => H) (fun c => ?_)
  exfalso
  rcases h with (h | h) | (h | h) | h
  · exact a1 h
  · exact h a2
  · exact b1 h
  · exact h b2
  · exact c h
theorem zv_close {post : Int32 → St2 → Prop} (H : post (-3000) (f0_atomCount, f0_clauseCount, f0_drafted, 0, f0_variables, f0_stock, f0_stored, f0_hopeless, f0_trailSize, f0_nextWatch, f0_nextEdge, f0_depth, f0_bump, f0_conflictSize, f0_learnedSize, f0_assumed, f0_counted, a1, a2, a3, a4, a5, a6, a7, a8, a9, a10, a11, a12, a13, a14, a15, a16, a17, a18, a19, a20, a21, a22, a23, a24, a25, a26, a27, a28, a29, a30, a31, a32, a33, a34, a35, a36, a37, a38)) : wpX_close post (f0_atomCount, f0_clauseCount, f0_drafted, 0, f0_variables, f0_stock, f0_stored, f0_hopeless, f0_trailSize, f0_nextWatch, f0_nextEdge, f0_depth, f0_bump, f0_conflictSize, f0_learnedSize, f0_assumed, f0_counted, a1, a2, a3, a4, a5, a6, a7, a8, a9, a10, a11, a12, a13, a14, a15, a16, a17, a18, a19, a20, a21, a22, a23, a24, a25, a26, a27, a28, a29, a30, a31, a32, a33, a34, a35, a36, a37, a38) := by
  unfold wpX_close
  dsimp only
  exact br_t rfl H
end
section
theorem zv_f0 {post : Int32 → St0 → Prop} {mc ms kc ks : Nat} {k l m : Int32} (H : post 1 ()) : wL_lawOf_88 post mc ms k l m (-1000) (-1000) (-1000) (-1000) 1 (-3000) kc ks :=
  br_t rfl (br_t rfl (br_t rfl (br_t rfl (br_t rfl (br_t rfl (br_t rfl (br_t rfl (br_t rfl (br_t rfl (br_t rfl (br_t rfl (br_t rfl (br_t rfl H)))))))))))))
theorem zv_f1 {post : Int32 → St0 → Prop} {mc ms kc ks : Nat} {k l m : Int32} (H : post 1 ()) : wL_lawOf_112 post mc ms k l m (-1000) (-1000) (-1000) (-4000) 1 (-3000) 1 kc ks :=
  br_t rfl (br_t rfl (br_t rfl (br_t rfl (br_t rfl (br_t rfl (br_t rfl (br_t rfl (br_f (by decide) (br_t rfl (br_t rfl (br_t rfl (br_t rfl (br_t rfl H)))))))))))))
theorem zv_g00 {post : Int32 → St0 → Prop} {mc ms kc ks : Nat} {k : Int32} (H : post 1 ()) : wL_lawOf_134 post mc ms k (nI 0) 0 (-1000) 0 (-4000) 1 (-3000) 1 1 0 kc ks :=
  br_f (by decide) (br_t rfl (br_f (by decide) (br_t rfl (br_t rfl (br_t rfl (br_f (by decide) (br_t rfl (br_f (by decide) (br_f (by decide) (br_f (by decide) (br_t rfl (br_f (by decide) (br_f (by decide) (br_t rfl (br_t rfl H)))))))))))))))
theorem zv_g01 {post : Int32 → St0 → Prop} {mc ms kc ks : Nat} {k : Int32} {r : Int32} (he : r = k + 1) (H : post 1 ()) : wL_lawOf_134 post mc ms k (nI 1) 0 (-1000) 0 r 1 (-3000) 1 1 0 kc ks :=
  br_f (by decide) (br_f (by decide) (br_t rfl (br_f (by decide) (br_t rfl (br_t rfl (br_t rfl (br_f (by decide) (br_t rfl (br_f (by decide) (br_f (by decide) (br_t rfl (br_t he (br_f (by decide) (br_f (by decide) (br_t rfl (br_t rfl H))))))))))))))))
theorem zv_g02 {post : Int32 → St0 → Prop} {mc ms kc ks : Nat} {k : Int32} {m : Int32} (hm0 : ¬ m = 0) (hm1 : ¬ m = 1) (H : post 1 ()) : wL_lawOf_134 post mc ms k m 0 (-1000) (-1000) (-4000) 2 (-3000) 1 1 0 kc ks :=
  br_f (by decide) (br_f hm0 (br_f hm1 (br_f (by decide) (br_t rfl (br_t rfl (br_t rfl (br_t rfl (br_t rfl (br_f (by decide) (br_t rfl (br_t rfl (br_f (by decide) (br_t rfl (br_t rfl (br_t rfl H)))))))))))))))
theorem zv_g10 {post : Int32 → St0 → Prop} {mc ms kc ks : Nat} {k : Int32} (H : post 1 ()) : wL_lawOf_134 post mc ms k (nI 0) 0 1 0 (-4000) 1 (-3000) 1 1 1 kc ks :=
  br_f (by decide) (br_t rfl (br_f (by decide) (br_t rfl (br_f (by decide) (br_t rfl (br_f (by decide) (br_t rfl (br_f (by decide) (br_f (by decide) (br_f (by decide) (br_t rfl (br_f (by decide) (br_f (by decide) (br_t rfl (br_t rfl H)))))))))))))))
theorem zv_g11 {post : Int32 → St0 → Prop} {mc ms kc ks : Nat} {k : Int32} {r : Int32} (he : r = k + 1) (H : post 1 ()) : wL_lawOf_134 post mc ms k (nI 1) 0 1 0 r 1 (-3000) 1 1 1 kc ks :=
  br_f (by decide) (br_f (by decide) (br_t rfl (br_f (by decide) (br_t rfl (br_f (by decide) (br_t rfl (br_f (by decide) (br_t rfl (br_f (by decide) (br_f (by decide) (br_t rfl (br_t he (br_f (by decide) (br_f (by decide) (br_t rfl (br_t rfl H))))))))))))))))
theorem zv_g12 {post : Int32 → St0 → Prop} {mc ms kc ks : Nat} {k : Int32} {m : Int32} (hm0 : ¬ m = 0) (hm1 : ¬ m = 1) (H : post 1 ()) : wL_lawOf_134 post mc ms k m 0 1 (-1000) (-4000) 2 (-3000) 1 1 1 kc ks :=
  br_f (by decide) (br_f hm0 (br_f hm1 (br_f (by decide) (br_t rfl (br_f (by decide) (br_t rfl (br_t rfl (br_t rfl (br_f (by decide) (br_t rfl (br_t rfl (br_f (by decide) (br_t rfl (br_t rfl (br_t rfl H)))))))))))))))
theorem zv_br {A B : Prop} {p q : Int32} (hA : A) (hB : ¬ p < 0 → ¬ 6 < p → ¬ q < 0 → ¬ 6 < q → ¬ p = q → B) :
    (p < 0 → A) ∧ (¬ p < 0 → ((6 < p → A) ∧ (¬ 6 < p → ((q < 0 → A) ∧ (¬ q < 0 → ((6 < q → A) ∧ (¬ 6 < q → ((p = q → A) ∧ (¬ p = q → B))))))))) :=
  ⟨fun _ => hA, fun a => ⟨fun _ => hA, fun b => ⟨fun _ => hA, fun c => ⟨fun _ => hA, fun d => ⟨fun _ => hA, fun e => hB a b c d e⟩⟩⟩⟩⟩
theorem zv_67 {x : Int32} (h : ¬ 6 < x) : x < 7 := by
  have a : ¬ ((6 : Int32).toInt < x.toInt) := fun z => h (Int32.lt_iff_toInt_lt.mpr z)
  have b : (6 : Int32).toInt = 6 := by decide
  have c : (7 : Int32).toInt = 7 := by decide
  exact Int32.lt_iff_toInt_lt.mpr (by omega)
theorem zv_of7 {x : Int32} (h1 : ¬ x < 0) (h2 : x < 7) : ∃ j : Nat, j < 7 ∧ x = nI j := by
  rcases pk_ix x (n := 7) (by decide) with z | z | z
  · exact absurd z h1
  · have a := Int32.lt_iff_toInt_lt.mp h2
    have b := Int32.le_iff_toInt_le.mp z
    have c : (7 : Int32) = nI 7 := by decide
    rw [c] at a
    omega
  · exact z
theorem zv_br2 {A B : Prop} {t u : Nat} (ht : t < 7) (hu : u < 7) (hne : t ≠ u) (hB : B) :
    (nI t < 0 → A) ∧ (¬ nI t < 0 → ((6 < nI t → A) ∧ (¬ 6 < nI t → ((nI u < 0 → A) ∧ (¬ nI u < 0 → ((6 < nI u → A) ∧ (¬ 6 < nI u → ((nI t = nI u → A) ∧ (¬ nI t = nI u → B))))))))) :=
  br_f (nI_pos (by omega)) (br_f (nI_nlt (a := 6) (b := t) (by omega) (by decide)) (br_f (nI_pos (by omega)) (br_f (nI_nlt (a := 6) (b := u) (by omega) (by decide)) (br_f (fun e => hne ((nI_eq (by omega) (by omega)).mp e)) hB))))
theorem zv_lawOf (p q k l m : Int32) : wpL_lawOf (fun r _ => r = 1) 100 20000 () p q k l m := by
  unfold wpL_lawOf
  refine ⟨by decide, by decide, 38, 9565, by decide, by decide, ?_⟩
  unfold wpX_init
  dsimp only
  refine ⟨by decide, by decide, by decide, by decide, by decide, by decide, by decide, by decide, by decide, by decide, by decide, by decide, by decide, by decide, by decide, by decide, by decide, by decide, by decide, by decide, by decide, by decide, by decide, by decide, by decide, by decide, by decide, by decide, by decide, by decide, by decide, by decide, by decide, by decide, by decide, by decide, by decide, by decide, by decide, by decide, by decide, by decide, by decide, by decide, by decide, by decide, by decide, by decide, by decide, by decide, by decide, by decide, by decide, by decide, by decide, by decide, by decide, by decide, by decide, by decide, by decide, by decide, by decide, by decide, by decide, by decide, by decide, by decide, by decide, by decide, by decide, by decide, by decide, by decide, by decide, by decide, ?_⟩
  by_cases hp : (p < 0 ∨ ¬ p < 7) ∨ (q < 0 ∨ ¬ q < 7) ∨ p = q
  · -- no pair
    refine zv_atomN (by rcases hp with h | h | h; exact Or.inl h; exact Or.inr (Or.inl h); exact Or.inr (Or.inr (Or.inl h))) ?_
    try dsimp only
    refine zv_lit0 ?_
    try dsimp only
    refine zv_fac0 ?_
    try dsimp only
    refine zv_leastN hp ?_
    try dsimp only
    refine zq_patA (zt_el (fun f0_variables f0_stock f0_stored f0_hopeless f0_trailSize f0_nextWatch f0_nextEdge f0_depth f0_bump f0_conflictSize f0_learnedSize f0_assumed f0_counted a9 a10 a11 a12 a13 a14 a15 a16 a17 a18 a19 a20 a21 a22 a23 a24 a25 a26 a27 a28 a29 a30 a31 a32 a33 a34 a35 a36 a37 a38 => ?_))
    try dsimp only
    refine zv_close ?_
    try dsimp only
    refine zv_br (zv_f0 rfl) (fun a b c d e => ?_)
    exfalso
    rcases hp with (h | h) | (h | h) | h
    · exact a h
    · exact h (zv_67 b)
    · exact c h
    · exact h (zv_67 d)
    · exact e h
  · have hp1 : ¬ p < 0 := fun z => hp (Or.inl (Or.inl z))
    have hp2 : p < 7 := Classical.byContradiction (fun z => hp (Or.inl (Or.inr z)))
    have hq1 : ¬ q < 0 := fun z => hp (Or.inr (Or.inl (Or.inl z)))
    have hq2 : q < 7 := Classical.byContradiction (fun z => hp (Or.inr (Or.inl (Or.inr z))))
    have hpq : ¬ p = q := fun z => hp (Or.inr (Or.inr z))
    obtain ⟨t, ht, rfl⟩ := zv_of7 hp1 hp2
    obtain ⟨u, hu, rfl⟩ := zv_of7 hq1 hq2
    have hne : t ≠ u := fun e => hpq (by rw [e])
    by_cases hk : k < -20 ∨ ¬ k ≤ 20
    · -- a pair, but the number is bad
      refine zv_atomN (Or.inr (Or.inr (Or.inr hk))) ?_
      try dsimp only
      refine zv_lit0 ?_
      try dsimp only
      refine zv_fac0 ?_
      try dsimp only
      refine (zt_leastE (o := 0) (cc := 0) (fl := 0) (k := 0) (by decide) (by decide) (by decide) ht hu hne (by decide) (fun e => absurd e (by decide)) (fun e => absurd e (by decide)) (by decide) (zt_el (fun f0_variables f0_stock f0_stored f0_hopeless f0_trailSize f0_nextWatch f0_nextEdge f0_depth f0_bump f0_conflictSize f0_learnedSize f0_assumed f0_counted a9 a10 a11 a12 a13 a14 a15 a16 a17 a18 a19 a20 a21 a22 a23 a24 a25 a26 a27 a28 a29 a30 a31 a32 a33 a34 a35 a36 a37 a38 => ?_)))
      try dsimp only
      refine zq_patA (zt_el (fun f0_variables f0_stock f0_stored f0_hopeless f0_trailSize f0_nextWatch f0_nextEdge f0_depth f0_bump f0_conflictSize f0_learnedSize f0_assumed f0_counted a9 a10 a11 a12 a13 a14 a15 a16 a17 a18 a19 a20 a21 a22 a23 a24 a25 a26 a27 a28 a29 a30 a31 a32 a33 a34 a35 a36 a37 a38 => ?_))
      try dsimp only
      refine zv_close ?_
      try dsimp only
      refine zv_br2 ht hu hne (br_f (by decide) ?_)
      rcases hk with h | h
      · exact br_t h (zv_f1 rfl)
      · by_cases h' : k < -20
        · exact br_t h' (zv_f1 rfl)
        · refine br_f h' (br_t ?_ (zv_f1 rfl))
          exact Int32.lt_iff_toInt_lt.mpr (by
            have a : ¬ (k.toInt ≤ (20 : Int32).toInt) := fun z => h (Int32.le_iff_toInt_le.mpr z)
            omega)
    · have hk1 : ¬ k < -20 := fun z => hk (Or.inl z)
      have hk2 : k ≤ 20 := Classical.byContradiction (fun z => hk (Or.inr z))
      have hk3 : ¬ 20 < k := fun z => by
        have a := Int32.lt_iff_toInt_lt.mp z
        have b := Int32.le_iff_toInt_le.mp hk2
        omega
      have hkr : -20 ≤ k.toInt ∧ k.toInt ≤ 20 := by
        have a : ¬ (k.toInt < (-20 : Int32).toInt) := fun z => hk1 (Int32.lt_iff_toInt_lt.mpr z)
        have b := Int32.le_iff_toInt_le.mp hk2
        have c : (-20 : Int32).toInt = -20 := by decide
        have d : (20 : Int32).toInt = 20 := by decide
        omega
      have hadd : ∀ r : Int32, r.toInt = k.toInt + 1 → r = k + 1 := fun r h => Int32.toInt_inj.mp (by
        rw [h]
        exact (zb_add rfl (show (1 : Int32).toInt = 1 by decide) (by omega) (by omega)).symm)
      refine zv_atomY ht hu hne hk1 hk2 ?_
      try dsimp only
      by_cases hl : l = nI 0 ∨ l = nI 1
      · refine zv_litY hl ?_
        try dsimp only
        by_cases hm : m = nI 0 ∨ m = nI 1
        · rcases hm with hm | hm
          · subst hm
            refine zv_facY (m := 0) (by decide) ?_
            try dsimp only
            refine zt_leastE (o := 1) (cc := 1) (fl := 0) (k := k.toInt) (by decide) (by decide) (by decide) ht hu hne hkr (fun _ => ⟨pk_us, pk_us, by rw [pk_us]⟩) (fun _ => ⟨pk_us, pk_us⟩) (by decide) (zt_el (fun f0_variables f0_stock f0_stored f0_hopeless f0_trailSize f0_nextWatch f0_nextEdge f0_depth f0_bump f0_conflictSize f0_learnedSize f0_assumed f0_counted a9 a10 a11 a12 a13 a14 a15 a16 a17 a18 a19 a20 a21 a22 a23 a24 a25 a26 a27 a28 a29 a30 a31 a32 a33 a34 a35 a36 a37 a38 => ?_))
            try dsimp only
            refine zq_patC (k := k.toInt) ht hu hne hkr ⟨pk_us, pk_us, by rw [pk_us]⟩ ⟨pk_us, pk_us⟩ (zt_el (fun f0_variables f0_stock f0_stored f0_hopeless f0_trailSize f0_nextWatch f0_nextEdge f0_depth f0_bump f0_conflictSize f0_learnedSize f0_assumed f0_counted a9 a10 a11 a12 a13 a14 a15 a16 a17 a18 a19 a20 a21 a22 a23 a24 a25 a26 a27 a28 a29 a30 a31 a32 a33 a34 a35 a36 a37 a38 => ?_))
            try dsimp only
            refine zv_close ?_
            try dsimp only
            refine zv_br2 ht hu hne (br_f (by decide) (br_f hk1 (br_f hk3 ?_)))
            rcases hl with e | e
            · subst e
              exact br_f (by decide) (br_t rfl (zv_g10 rfl))
            · subst e
              exact br_f (by decide) (br_f (by decide) (br_t rfl (zv_g10 rfl)))
          · subst hm
            refine zv_facY (m := 1) (by decide) ?_
            try dsimp only
            refine zt_leastF (k := k.toInt) ht hu hne hkr ⟨pk_us, pk_us, by rw [pk_us]⟩ ⟨pk_us, pk_us⟩ (fun w r hw hr => ?_)
            have hr2 := hadd r hr
            revert w
            refine zt_el (fun f0_variables f0_stock f0_stored f0_hopeless f0_trailSize f0_nextWatch f0_nextEdge f0_depth f0_bump f0_conflictSize f0_learnedSize f0_assumed f0_counted a9 a10 a11 a12 a13 a14 a15 a16 a17 a18 a19 a20 a21 a22 a23 a24 a25 a26 a27 a28 a29 a30 a31 a32 a33 a34 a35 a36 a37 a38 => ?_)
            try dsimp only
            refine zq_patD (k := k.toInt) ht hu hne hkr ⟨pk_us, pk_us, by rw [pk_us]⟩ ⟨pk_us, pk_us⟩ (zt_el (fun f0_variables f0_stock f0_stored f0_hopeless f0_trailSize f0_nextWatch f0_nextEdge f0_depth f0_bump f0_conflictSize f0_learnedSize f0_assumed f0_counted a9 a10 a11 a12 a13 a14 a15 a16 a17 a18 a19 a20 a21 a22 a23 a24 a25 a26 a27 a28 a29 a30 a31 a32 a33 a34 a35 a36 a37 a38 => ?_))
            try dsimp only
            refine zv_close ?_
            try dsimp only
            refine zv_br2 ht hu hne (br_f (by decide) (br_f hk1 (br_f hk3 ?_)))
            rcases hl with e | e
            · subst e
              exact br_f (by decide) (br_t rfl (zv_g11 hr2 rfl))
            · subst e
              exact br_f (by decide) (br_f (by decide) (br_t rfl (zv_g11 hr2 rfl)))
        · refine zv_facN hm ?_
          try dsimp only
          refine zt_leastE (o := 1) (cc := 0) (fl := 0) (k := k.toInt) (by decide) (by decide) (by decide) ht hu hne hkr (fun _ => ⟨pk_us, pk_us, by rw [pk_us]⟩) (fun e => absurd e (by decide)) (by decide) (zt_el (fun f0_variables f0_stock f0_stored f0_hopeless f0_trailSize f0_nextWatch f0_nextEdge f0_depth f0_bump f0_conflictSize f0_learnedSize f0_assumed f0_counted a9 a10 a11 a12 a13 a14 a15 a16 a17 a18 a19 a20 a21 a22 a23 a24 a25 a26 a27 a28 a29 a30 a31 a32 a33 a34 a35 a36 a37 a38 => ?_))
          try dsimp only
          refine zq_patB (k := k.toInt) ht hu hne hkr ⟨pk_us, pk_us, by rw [pk_us]⟩ (zt_el (fun f0_variables f0_stock f0_stored f0_hopeless f0_trailSize f0_nextWatch f0_nextEdge f0_depth f0_bump f0_conflictSize f0_learnedSize f0_assumed f0_counted a9 a10 a11 a12 a13 a14 a15 a16 a17 a18 a19 a20 a21 a22 a23 a24 a25 a26 a27 a28 a29 a30 a31 a32 a33 a34 a35 a36 a37 a38 => ?_))
          try dsimp only
          refine zv_close ?_
          try dsimp only
          refine zv_br2 ht hu hne (br_f (by decide) (br_f hk1 (br_f hk3 ?_)))
          rcases hl with e | e
          · subst e
            exact br_f (by decide) (br_t rfl (zv_g12 (fun e => hm (Or.inl e)) (fun e => hm (Or.inr e)) rfl))
          · subst e
            exact br_f (by decide) (br_f (by decide) (br_t rfl (zv_g12 (fun e => hm (Or.inl e)) (fun e => hm (Or.inr e)) rfl)))
      · refine zv_litN hl ?_
        try dsimp only
        by_cases hm : m = nI 0 ∨ m = nI 1
        · rcases hm with hm | hm
          · subst hm
            refine zv_facY (m := 0) (by decide) ?_
            try dsimp only
            refine zt_leastE (o := 1) (cc := 1) (fl := 0) (k := k.toInt) (by decide) (by decide) (by decide) ht hu hne hkr (fun _ => ⟨pk_us, pk_us, by rw [pk_us]⟩) (fun _ => ⟨pk_us, pk_us⟩) (by decide) (zt_el (fun f0_variables f0_stock f0_stored f0_hopeless f0_trailSize f0_nextWatch f0_nextEdge f0_depth f0_bump f0_conflictSize f0_learnedSize f0_assumed f0_counted a9 a10 a11 a12 a13 a14 a15 a16 a17 a18 a19 a20 a21 a22 a23 a24 a25 a26 a27 a28 a29 a30 a31 a32 a33 a34 a35 a36 a37 a38 => ?_))
            try dsimp only
            refine zq_patC (k := k.toInt) ht hu hne hkr ⟨pk_us, pk_us, by rw [pk_us]⟩ ⟨pk_us, pk_us⟩ (zt_el (fun f0_variables f0_stock f0_stored f0_hopeless f0_trailSize f0_nextWatch f0_nextEdge f0_depth f0_bump f0_conflictSize f0_learnedSize f0_assumed f0_counted a9 a10 a11 a12 a13 a14 a15 a16 a17 a18 a19 a20 a21 a22 a23 a24 a25 a26 a27 a28 a29 a30 a31 a32 a33 a34 a35 a36 a37 a38 => ?_))
            try dsimp only
            refine zv_close ?_
            try dsimp only
            refine zv_br2 ht hu hne (br_f (by decide) (br_f hk1 (br_f hk3 ?_)))
            exact br_f (by decide) (br_f (fun e => hl (Or.inl e)) (br_f (fun e => hl (Or.inr e)) (zv_g00 rfl)))
          · subst hm
            refine zv_facY (m := 1) (by decide) ?_
            try dsimp only
            refine zt_leastF (k := k.toInt) ht hu hne hkr ⟨pk_us, pk_us, by rw [pk_us]⟩ ⟨pk_us, pk_us⟩ (fun w r hw hr => ?_)
            have hr2 := hadd r hr
            revert w
            refine zt_el (fun f0_variables f0_stock f0_stored f0_hopeless f0_trailSize f0_nextWatch f0_nextEdge f0_depth f0_bump f0_conflictSize f0_learnedSize f0_assumed f0_counted a9 a10 a11 a12 a13 a14 a15 a16 a17 a18 a19 a20 a21 a22 a23 a24 a25 a26 a27 a28 a29 a30 a31 a32 a33 a34 a35 a36 a37 a38 => ?_)
            try dsimp only
            refine zq_patD (k := k.toInt) ht hu hne hkr ⟨pk_us, pk_us, by rw [pk_us]⟩ ⟨pk_us, pk_us⟩ (zt_el (fun f0_variables f0_stock f0_stored f0_hopeless f0_trailSize f0_nextWatch f0_nextEdge f0_depth f0_bump f0_conflictSize f0_learnedSize f0_assumed f0_counted a9 a10 a11 a12 a13 a14 a15 a16 a17 a18 a19 a20 a21 a22 a23 a24 a25 a26 a27 a28 a29 a30 a31 a32 a33 a34 a35 a36 a37 a38 => ?_))
            try dsimp only
            refine zv_close ?_
            try dsimp only
            refine zv_br2 ht hu hne (br_f (by decide) (br_f hk1 (br_f hk3 ?_)))
            exact br_f (by decide) (br_f (fun e => hl (Or.inl e)) (br_f (fun e => hl (Or.inr e)) (zv_g01 hr2 rfl)))
        · refine zv_facN hm ?_
          try dsimp only
          refine zt_leastE (o := 1) (cc := 0) (fl := 0) (k := k.toInt) (by decide) (by decide) (by decide) ht hu hne hkr (fun _ => ⟨pk_us, pk_us, by rw [pk_us]⟩) (fun e => absurd e (by decide)) (by decide) (zt_el (fun f0_variables f0_stock f0_stored f0_hopeless f0_trailSize f0_nextWatch f0_nextEdge f0_depth f0_bump f0_conflictSize f0_learnedSize f0_assumed f0_counted a9 a10 a11 a12 a13 a14 a15 a16 a17 a18 a19 a20 a21 a22 a23 a24 a25 a26 a27 a28 a29 a30 a31 a32 a33 a34 a35 a36 a37 a38 => ?_))
          try dsimp only
          refine zq_patB (k := k.toInt) ht hu hne hkr ⟨pk_us, pk_us, by rw [pk_us]⟩ (zt_el (fun f0_variables f0_stock f0_stored f0_hopeless f0_trailSize f0_nextWatch f0_nextEdge f0_depth f0_bump f0_conflictSize f0_learnedSize f0_assumed f0_counted a9 a10 a11 a12 a13 a14 a15 a16 a17 a18 a19 a20 a21 a22 a23 a24 a25 a26 a27 a28 a29 a30 a31 a32 a33 a34 a35 a36 a37 a38 => ?_))
          try dsimp only
          refine zv_close ?_
          try dsimp only
          refine zv_br2 ht hu hne (br_f (by decide) (br_f hk1 (br_f hk3 ?_)))
          exact br_f (by decide) (br_f (fun e => hl (Or.inl e)) (br_f (fun e => hl (Or.inr e)) (zv_g02 (fun e => hm (Or.inl e)) (fun e => hm (Or.inr e)) rfl)))
end
theorem i_vc (xs : Nat → Int32) (L : Nat) (hL : L ≤ 5) : wpL_law (fun r => r = 1) L xs := by
  unfold wpL_law
  refine zv_cell (i := 0) hL (by decide) (fun x1 => zv_cell (i := 1) hL (by decide) (fun x2 => zv_cell (i := 2) hL (by decide) (fun x3 => zv_cell (i := 3) hL (by decide) (fun x4 => zv_cell (i := 4) hL (by decide) (fun x5 => ?_)))))
  exact ⟨100, 20000, by decide, by decide, zv_lawOf x1 x2 x3 x4 x5⟩
end
