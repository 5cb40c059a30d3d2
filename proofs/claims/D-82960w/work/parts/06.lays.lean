/-! ===== the layout words of the classes, by their rows (printed by gen_tab.py) ===== -/
def lyt_0 : List Nat := [566, 568, 570, 572, 574, 576, 578, 580, 582, 584, 586, 588, 590, 592, 594, 596, 598, 600, 602, 604, 606, 608, 610, 612, 614, 616, 618, 620, 622, 624, 626, 628, 630, 632, 634, 636, 638, 640, 642, 644, 646, 648, 650, 652, 654, 656, 658, 660, 662, 664, 666, 668, 670, 672, 674, 676, 678, 680, 682, 684, 686, 688, 690, 692, 694, 696, 698, 700, 702, 704, 706, 708, 710, 712, 714, 716, 718, 720, 722, 724, 726, 728, 730, 732, 734, 736, 738, 740, 742, 744, 746, 748, 750, 752, 754, 756, 758, 760, 762, 764, 766, 768, 770, 772, 774, 776, 778, 780, 782, 784, 786, 788]
set_option maxRecDepth 100000 in
theorem lyt_ok_0 : ∀ k, k < 112 → tables_1[(lyt_0.getD k 0)]? = some (u_lay (cn 0) (F_ 0) k) := by decide +kernel
theorem lyt_in_0 : ∀ w ∈ u_ws (cn 0) (F_ 0) 112, w ∈ tables_1 := by
  intro w hw
  obtain ⟨k, hk, rfl⟩ := List.mem_map.mp hw
  exact List.mem_of_getElem? (lyt_ok_0 k (List.mem_range.mp hk))
set_option maxRecDepth 100000 in
theorem fn_ok_0 : ∀ a, a < 112 → ∀ b, b < 112 → a ≠ b → (F_ 0 a).2.1 ≠ (F_ 0 b).2.1 := by decide +kernel
def lyt_1 : List Nat := [245, 247, 249, 251]
set_option maxRecDepth 100000 in
theorem lyt_ok_1 : ∀ k, k < 4 → tables_1[(lyt_1.getD k 0)]? = some (u_lay (cn 1) (F_ 1) k) := by decide +kernel
theorem lyt_in_1 : ∀ w ∈ u_ws (cn 1) (F_ 1) 4, w ∈ tables_1 := by
  intro w hw
  obtain ⟨k, hk, rfl⟩ := List.mem_map.mp hw
  exact List.mem_of_getElem? (lyt_ok_1 k (List.mem_range.mp hk))
set_option maxRecDepth 100000 in
theorem fn_ok_1 : ∀ a, a < 4 → ∀ b, b < 4 → a ≠ b → (F_ 1 a).2.1 ≠ (F_ 1 b).2.1 := by decide +kernel
def lyt_2 : List Nat := [75, 77, 79, 81]
set_option maxRecDepth 100000 in
theorem lyt_ok_2 : ∀ k, k < 4 → tables_1[(lyt_2.getD k 0)]? = some (u_lay (cn 2) (F_ 2) k) := by decide +kernel
theorem lyt_in_2 : ∀ w ∈ u_ws (cn 2) (F_ 2) 4, w ∈ tables_1 := by
  intro w hw
  obtain ⟨k, hk, rfl⟩ := List.mem_map.mp hw
  exact List.mem_of_getElem? (lyt_ok_2 k (List.mem_range.mp hk))
set_option maxRecDepth 100000 in
theorem fn_ok_2 : ∀ a, a < 4 → ∀ b, b < 4 → a ≠ b → (F_ 2 a).2.1 ≠ (F_ 2 b).2.1 := by decide +kernel
def lyt_3 : List Nat := [184, 186, 188, 190, 192, 194, 196, 198, 200, 202, 204, 206, 208, 210, 212, 214, 216, 218, 220, 222, 224, 226, 228]
set_option maxRecDepth 100000 in
theorem lyt_ok_3 : ∀ k, k < 23 → tables_1[(lyt_3.getD k 0)]? = some (u_lay (cn 3) (F_ 3) k) := by decide +kernel
theorem lyt_in_3 : ∀ w ∈ u_ws (cn 3) (F_ 3) 23, w ∈ tables_1 := by
  intro w hw
  obtain ⟨k, hk, rfl⟩ := List.mem_map.mp hw
  exact List.mem_of_getElem? (lyt_ok_3 k (List.mem_range.mp hk))
set_option maxRecDepth 100000 in
theorem fn_ok_3 : ∀ a, a < 23 → ∀ b, b < 23 → a ≠ b → (F_ 3 a).2.1 ≠ (F_ 3 b).2.1 := by decide +kernel
def lyt_4 : List Nat := [103, 105, 107, 109]
set_option maxRecDepth 100000 in
theorem lyt_ok_4 : ∀ k, k < 4 → tables_1[(lyt_4.getD k 0)]? = some (u_lay (cn 4) (F_ 4) k) := by decide +kernel
theorem lyt_in_4 : ∀ w ∈ u_ws (cn 4) (F_ 4) 4, w ∈ tables_1 := by
  intro w hw
  obtain ⟨k, hk, rfl⟩ := List.mem_map.mp hw
  exact List.mem_of_getElem? (lyt_ok_4 k (List.mem_range.mp hk))
set_option maxRecDepth 100000 in
theorem fn_ok_4 : ∀ a, a < 4 → ∀ b, b < 4 → a ≠ b → (F_ 4 a).2.1 ≠ (F_ 4 b).2.1 := by decide +kernel
def lyt_5 : List Nat := [404, 406, 408, 410, 412, 414, 416, 418, 420, 422, 424, 426, 428, 430, 432, 434, 436, 438, 440, 442, 444, 446, 448, 450, 452]
set_option maxRecDepth 100000 in
theorem lyt_ok_5 : ∀ k, k < 25 → tables_1[(lyt_5.getD k 0)]? = some (u_lay (cn 5) (F_ 5) k) := by decide +kernel
theorem lyt_in_5 : ∀ w ∈ u_ws (cn 5) (F_ 5) 25, w ∈ tables_1 := by
  intro w hw
  obtain ⟨k, hk, rfl⟩ := List.mem_map.mp hw
  exact List.mem_of_getElem? (lyt_ok_5 k (List.mem_range.mp hk))
set_option maxRecDepth 100000 in
theorem fn_ok_5 : ∀ a, a < 25 → ∀ b, b < 25 → a ≠ b → (F_ 5 a).2.1 ≠ (F_ 5 b).2.1 := by decide +kernel
def lyt_6 : List Nat := [339, 341, 343, 345]
set_option maxRecDepth 100000 in
theorem lyt_ok_6 : ∀ k, k < 4 → tables_1[(lyt_6.getD k 0)]? = some (u_lay (cn 6) (F_ 6) k) := by decide +kernel
theorem lyt_in_6 : ∀ w ∈ u_ws (cn 6) (F_ 6) 4, w ∈ tables_1 := by
  intro w hw
  obtain ⟨k, hk, rfl⟩ := List.mem_map.mp hw
  exact List.mem_of_getElem? (lyt_ok_6 k (List.mem_range.mp hk))
set_option maxRecDepth 100000 in
theorem fn_ok_6 : ∀ a, a < 4 → ∀ b, b < 4 → a ≠ b → (F_ 6 a).2.1 ≠ (F_ 6 b).2.1 := by decide +kernel
def lyt_7 : List Nat := [364, 366, 368, 370, 372, 374, 376]
set_option maxRecDepth 100000 in
theorem lyt_ok_7 : ∀ k, k < 7 → tables_1[(lyt_7.getD k 0)]? = some (u_lay (cn 7) (F_ 7) k) := by decide +kernel
theorem lyt_in_7 : ∀ w ∈ u_ws (cn 7) (F_ 7) 7, w ∈ tables_1 := by
  intro w hw
  obtain ⟨k, hk, rfl⟩ := List.mem_map.mp hw
  exact List.mem_of_getElem? (lyt_ok_7 k (List.mem_range.mp hk))
set_option maxRecDepth 100000 in
theorem fn_ok_7 : ∀ a, a < 7 → ∀ b, b < 7 → a ≠ b → (F_ 7 a).2.1 ≠ (F_ 7 b).2.1 := by decide +kernel
def lyt_8 : List Nat := []
set_option maxRecDepth 100000 in
theorem lyt_ok_8 : ∀ k, k < 0 → tables_1[(lyt_8.getD k 0)]? = some (u_lay (cn 8) (F_ 8) k) := by decide +kernel
theorem lyt_in_8 : ∀ w ∈ u_ws (cn 8) (F_ 8) 0, w ∈ tables_1 := by
  intro w hw
  obtain ⟨k, hk, rfl⟩ := List.mem_map.mp hw
  exact List.mem_of_getElem? (lyt_ok_8 k (List.mem_range.mp hk))
set_option maxRecDepth 100000 in
theorem fn_ok_8 : ∀ a, a < 0 → ∀ b, b < 0 → a ≠ b → (F_ 8 a).2.1 ≠ (F_ 8 b).2.1 := by decide +kernel
def lyt_9 : List Nat := [2008, 2010, 2012, 2014, 2016, 2018, 2020, 2022, 2024, 2026, 2028, 2030, 2032, 2034, 2036, 2038, 2040, 2042, 2044, 2046, 2048, 2050, 2052, 2054, 2056, 2058, 2060, 2062, 2064, 2066, 2068, 2070, 2072, 2074, 2076, 2078, 2080, 2082, 2084, 2086, 2088, 2090, 2092, 2094, 2096, 2098, 2100, 2102, 2104, 2106, 2108, 2110, 2112, 2114, 2116, 2118, 2120, 2122, 2124, 2126, 2128, 2130, 2132, 2134, 2136, 2138, 2140, 2142, 2144, 2146, 2148, 2150, 2152, 2154, 2156, 2158, 2160, 2162, 2164, 2166, 2168, 2170, 2172, 2174, 2176, 2178, 2180, 2182, 2184, 2186, 2188, 2190, 2192, 2194, 2196, 2198, 2200, 2202, 2204, 2206, 2208, 2210, 2212, 2214, 2216, 2218, 2220, 2222, 2224, 2226, 2228, 2230, 2232, 2234, 2236, 2238, 2240, 2242, 2244, 2246, 2248, 2250, 2252, 2254, 2256, 2258, 2260, 2262, 2264, 2266, 2268, 2270, 2272, 2274, 2276, 2278, 2280, 2282, 2284, 2286, 2288, 2290, 2292, 2294, 2296, 2298, 2300, 2302, 2304, 2306, 2308, 2310, 2312, 2314, 2316, 2318, 2320, 2322, 2324, 2326, 2328, 2330, 2332, 2334, 2336, 2338, 2340, 2342, 2344, 2346, 2348, 2350, 2352, 2354, 2356, 2358, 2360, 2362, 2364, 2366, 2368, 2370, 2372, 2374, 2376, 2378, 2380, 2382, 2384, 2386, 2388, 2390, 2392, 2394]
set_option maxRecDepth 100000 in
theorem lyt_ok_9 : ∀ k, k < 194 → tables_1[(lyt_9.getD k 0)]? = some (u_lay (cn 9) (F_ 9) k) := by decide +kernel
theorem lyt_in_9 : ∀ w ∈ u_ws (cn 9) (F_ 9) 194, w ∈ tables_1 := by
  intro w hw
  obtain ⟨k, hk, rfl⟩ := List.mem_map.mp hw
  exact List.mem_of_getElem? (lyt_ok_9 k (List.mem_range.mp hk))
set_option maxRecDepth 100000 in
theorem fn_ok_9 : ∀ a, a < 194 → ∀ b, b < 194 → a ≠ b → (F_ 9 a).2.1 ≠ (F_ 9 b).2.1 := by decide +kernel
def tl_0 : List FieldType := [(.object "WatchedObjects$Edition"), (.object "WatchedObjects$Edition"), (.array .long), (.array .int), (.array .int), .long, .long, .int, .int, (.object "java/lang/IllegalStateException"), .int, .int, (.array .int), (.array .long), (.array .long), (.array .int), (.array .int), .int, (.array .int), (.array .int), (.array .int), (.array .int), .int, .int, (.array .int), .int, (.array .long), .long, .int, (.array .long), (.array .long), .int, .int, .int, .int, .int, .int, .int, .boolean, (.array .boolean), (.array .long), (.array .byte), (.array .int), (.array .int), (.array .int), (.array .long), (.array .boolean), .int, .int, .int, .int, .boolean, .long, .int, (.array .boolean), (.array .int), (.array .int), (.array .int), (.array .int), (.array .int), (.array .int), .int, .int, (.array .long), (.array .long), (.array .long), .long, (.array .int), (.array .long), (.array .long), (.array .int), .boolean, .int, .int, (.array .byte), (.array .byte), (.object "WatchedObjects$Reader"), .int, (.array .long), (.array .long), (.array .long), .long, .long, (.array .byte), .int, (.array .byte), .int, .boolean, (.array .int), (.array .int), .int, .int, .int, .int, (.array .int), (.array .int), (.array .int), (.array .int), (.array .int), (.array .long), .int, (.array .byte), (.array .byte), (.array .int), (.array .long), (.array .int), (.array .long), (.array .int), (.array .int), (.array .int), (.array .int), .int]
set_option maxRecDepth 100000 in
theorem tl_ok_0 : ∀ k, k < 112 → parseFieldDescriptor (F_ 0 k).2.2.1 = some (tl_0.getD k .int) := by decide +kernel
def tl_1 : List FieldType := [(.object "WatchedObjects$Names"), (.array (.object "WatchedObjects$Type")), (.object "WatchedObjects$Code"), .int]
set_option maxRecDepth 100000 in
theorem tl_ok_1 : ∀ k, k < 4 → parseFieldDescriptor (F_ 1 k).2.2.1 = some (tl_1.getD k .int) := by decide +kernel
def tl_2 : List FieldType := [(.array .byte), (.array .byte), .int, (.array (.object "java/lang/String"))]
set_option maxRecDepth 100000 in
theorem tl_ok_2 : ∀ k, k < 4 → parseFieldDescriptor (F_ 2 k).2.2.1 = some (tl_2.getD k .int) := by decide +kernel
def tl_3 : List FieldType := [.int, .int, .int, .int, .int, .int, .int, (.array .int), (.array .int), (.array .int), (.array .boolean), (.array .int), (.array .int), (.array .int), (.array .boolean), (.array .int), (.array .int), (.array .boolean), (.array .int), (.array .int), (.array .int), (.array .int), (.array .int)]
set_option maxRecDepth 100000 in
theorem tl_ok_3 : ∀ k, k < 23 → parseFieldDescriptor (F_ 3 k).2.2.1 = some (tl_3.getD k .int) := by decide +kernel
def tl_4 : List FieldType := [(.array .byte), (.array .short), (.array .long), .int]
set_option maxRecDepth 100000 in
theorem tl_ok_4 : ∀ k, k < 4 → parseFieldDescriptor (F_ 4 k).2.2.1 = some (tl_4.getD k .int) := by decide +kernel
def tl_5 : List FieldType := [(.array .byte), (.object "WatchedObjects$Tokens"), (.object "java/lang/IllegalStateException"), (.object "WatchedObjects$Edition"), (.object "WatchedObjects$Names"), (.object "WatchedObjects$Code"), .boolean, .boolean, .int, .int, .int, .int, .int, (.object "WatchedObjects$Type"), (.array .int), (.array .int), (.array .boolean), .int, .int, .int, .int, .int, .int, .boolean, (.object "WatchedObjects$Reader$Counts")]
set_option maxRecDepth 100000 in
theorem tl_ok_5 : ∀ k, k < 25 → parseFieldDescriptor (F_ 5 k).2.2.1 = some (tl_5.getD k .int) := by decide +kernel
def tl_6 : List FieldType := [.int, .int, .int, .int]
set_option maxRecDepth 100000 in
theorem tl_ok_6 : ∀ k, k < 4 → parseFieldDescriptor (F_ 6 k).2.2.1 = some (tl_6.getD k .int) := by decide +kernel
def tl_7 : List FieldType := [(.array .byte), (.array .byte), (.array .long), (.array .int), .int, .int, .int]
set_option maxRecDepth 100000 in
theorem tl_ok_7 : ∀ k, k < 7 → parseFieldDescriptor (F_ 7 k).2.2.1 = some (tl_7.getD k .int) := by decide +kernel
def tl_8 : List FieldType := []
set_option maxRecDepth 100000 in
theorem tl_ok_8 : ∀ k, k < 0 → parseFieldDescriptor (F_ 8 k).2.2.1 = some (tl_8.getD k .int) := by decide +kernel
def tl_9 : List FieldType := [(.array .int), .int, (.array .int), .int, (.array .int), .int, .int, .int, .int, .int, .int, .long, .long, .long, .int, (.array .char), (.array .char), .int, .int, .int, .int, .boolean, .int, .long, .long, .int, .int, (.array .long), (.array .long), (.array .int), (.array .int), .int, (.array .long), (.array .long), (.array .int), (.array .int), (.array .boolean), (.array .long), (.array .long), (.array .int), (.array .int), (.array .int), (.array .int), (.array .int), (.array .int), (.array .int), (.array .int), (.array .int), (.array .int), (.array .int), .int, .int, .int, (.array .int), (.array .int), .int, (.array .long), .int, (.array .long), (.array .long), (.array .int), (.array .int), .boolean, .int, .int, .int, .int, .boolean, .int, (.array .boolean), (.array .int), (.array .int), (.array .long), .int, .long, .int, (.array .int), (.array .int), (.array .long), (.array .long), (.array .int), (.array .int), .int, (.array .boolean), (.array .long), (.array .int), (.array .long), (.array .boolean), (.array .int), (.array .int), (.array .int), (.array .int), (.array .long), (.array .int), .int, .long, .long, .boolean, .int, .int, .boolean, .int, (.array .int), (.array .int), (.array .int), (.array .int), (.array .int), (.array .int), (.array .long), (.array .long), .int, .int, .int, .int, .long, .int, .long, .int, (.array .boolean), (.array .int), (.array .int), (.array .int), (.array .int), (.array .int), (.array .int), .int, .int, .long, (.array .long), .int, (.array .int), (.array .int), (.array .long), (.array .long), (.array .long), (.array .boolean), .int, (.array .int), (.array .int), (.array .int), .int, .int, (.array .int), (.array .int), .int, (.array .int), .boolean, (.array .long), (.array .int), .int, .long, .int, (.array .long), (.array .boolean), (.array .int), .int, .int, (.array .int), .int, (.array .int), .int, .int, .int, (.array .int), (.array .int), (.array .long), (.array .int), .long, .long, .int, (.array .long), (.array .long), (.array .int), (.array .long), (.array .long), (.array .int), (.array .int), (.array .long), (.array .long), (.array .int), (.array .long), (.array .int), (.array .int), (.array .int), (.array .long), (.array .long), (.array .int), (.array .long), (.array .boolean), (.array .boolean), (.array .boolean), (.array .int), (.array .int), .int]
set_option maxRecDepth 100000 in
theorem tl_ok_9 : ∀ k, k < 194 → parseFieldDescriptor (F_ 9 k).2.2.1 = some (tl_9.getD k .int) := by decide +kernel
def tl (c : Nat) : List FieldType := match c with
  | 0 => tl_0
  | 1 => tl_1
  | 2 => tl_2
  | 3 => tl_3
  | 4 => tl_4
  | 5 => tl_5
  | 6 => tl_6
  | 7 => tl_7
  | 8 => tl_8
  | 9 => tl_9
  | _ => []
