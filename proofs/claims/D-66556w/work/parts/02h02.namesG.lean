set_option maxRecDepth 100000
theorem dL_law_555 : decode cL_law 555 = .ok (.lcmp, 1) := by decide +kernel
theorem dL_law_556 : decode cL_law 556 = .ok (.ifCond .eq 5, 3) := by decide +kernel
theorem dL_law_559 : decode cL_law 559 = .ok (.iconst 0, 1) := by decide +kernel
theorem dL_law_560 : decode cL_law 560 = .ok (.ireturn, 1) := by decide +kernel
theorem dL_law_561 : decode cL_law 561 = .ok (.goto 893, 3) := by decide +kernel
theorem dL_law_564 : decode cL_law 564 = .ok (.aload_n 1, 1) := by decide +kernel
theorem dL_law_565 : decode cL_law 565 = .ok (.aload_n 0, 1) := by decide +kernel
theorem dL_law_566 : decode cL_law 566 = .ok (.iload 4, 2) := by decide +kernel
theorem dL_law_568 : decode cL_law 568 = .ok (.iconst 1, 1) := by decide +kernel
theorem dL_law_569 : decode cL_law 569 = .ok (.iadd, 1) := by decide +kernel
theorem dL_law_570 : decode cL_law 570 = .ok (.iaload, 1) := by decide +kernel
theorem dL_law_571 : decode cL_law 571 = .ok (.ifCond .eq 7, 3) := by decide +kernel
theorem dL_law_574 : decode cL_law 574 = .ok (.iconst 1, 1) := by decide +kernel
theorem dL_law_575 : decode cL_law 575 = .ok (.goto 4, 3) := by decide +kernel
theorem dL_law_578 : decode cL_law 578 = .ok (.iconst 0, 1) := by decide +kernel
theorem dL_law_579 : decode cL_law 579 = .ok (.aload_n 0, 1) := by decide +kernel
theorem dL_law_580 : decode cL_law 580 = .ok (.iload 4, 2) := by decide +kernel
theorem dL_law_582 : decode cL_law 582 = .ok (.iconst 2, 1) := by decide +kernel
theorem dL_law_583 : decode cL_law 583 = .ok (.iadd, 1) := by decide +kernel
theorem dL_law_584 : decode cL_law 584 = .ok (.iaload, 1) := by decide +kernel
theorem dL_law_585 : decode cL_law 585 = .ok (.ifCond .eq 7, 3) := by decide +kernel
theorem dL_law_588 : decode cL_law 588 = .ok (.iconst 1, 1) := by decide +kernel
theorem dL_law_589 : decode cL_law 589 = .ok (.goto 4, 3) := by decide +kernel
theorem dL_law_592 : decode cL_law 592 = .ok (.iconst 0, 1) := by decide +kernel
theorem dL_law_593 : decode cL_law 593 = .ok (.invokestatic 117, 3) := by decide +kernel
theorem dL_law_596 : decode cL_law 596 = .ok (.istore 5, 2) := by decide +kernel
theorem dL_law_598 : decode cL_law 598 = .ok (.aload_n 2, 1) := by decide +kernel
theorem dL_law_599 : decode cL_law 599 = .ok (.aload_n 0, 1) := by decide +kernel
theorem dL_law_600 : decode cL_law 600 = .ok (.iload 4, 2) := by decide +kernel
theorem dL_law_602 : decode cL_law 602 = .ok (.iconst 1, 1) := by decide +kernel
theorem dL_law_603 : decode cL_law 603 = .ok (.iadd, 1) := by decide +kernel
theorem dL_law_604 : decode cL_law 604 = .ok (.iaload, 1) := by decide +kernel
theorem dL_law_605 : decode cL_law 605 = .ok (.ifCond .eq 7, 3) := by decide +kernel
theorem dL_law_608 : decode cL_law 608 = .ok (.iconst 1, 1) := by decide +kernel
theorem dL_law_609 : decode cL_law 609 = .ok (.goto 4, 3) := by decide +kernel
theorem dL_law_612 : decode cL_law 612 = .ok (.iconst 0, 1) := by decide +kernel
theorem dL_law_613 : decode cL_law 613 = .ok (.aload_n 0, 1) := by decide +kernel
theorem dL_law_614 : decode cL_law 614 = .ok (.iload 4, 2) := by decide +kernel
theorem dL_law_616 : decode cL_law 616 = .ok (.iconst 2, 1) := by decide +kernel
theorem dL_law_617 : decode cL_law 617 = .ok (.iadd, 1) := by decide +kernel
theorem dL_law_618 : decode cL_law 618 = .ok (.iaload, 1) := by decide +kernel
theorem dL_law_619 : decode cL_law 619 = .ok (.ifCond .eq 7, 3) := by decide +kernel
theorem dL_law_622 : decode cL_law 622 = .ok (.iconst 1, 1) := by decide +kernel
theorem dL_law_623 : decode cL_law 623 = .ok (.goto 4, 3) := by decide +kernel
theorem dL_law_626 : decode cL_law 626 = .ok (.iconst 0, 1) := by decide +kernel
theorem dL_law_627 : decode cL_law 627 = .ok (.invokevirtual 120, 3) := by decide +kernel
theorem dL_law_630 : decode cL_law 630 = .ok (.aload_n 2, 1) := by decide +kernel
theorem dL_law_631 : decode cL_law 631 = .ok (.invokevirtual 94, 3) := by decide +kernel
theorem dL_law_634 : decode cL_law 634 = .ok (.iload 5, 2) := by decide +kernel
theorem dL_law_636 : decode cL_law 636 = .ok (.if_icmp .eq 5, 3) := by decide +kernel
theorem dL_law_639 : decode cL_law 639 = .ok (.iconst 0, 1) := by decide +kernel
theorem dL_law_640 : decode cL_law 640 = .ok (.ireturn, 1) := by decide +kernel
theorem dL_law_641 : decode cL_law 641 = .ok (.goto 813, 3) := by decide +kernel
theorem dL_law_644 : decode cL_law 644 = .ok (.aload_n 1, 1) := by decide +kernel
theorem dL_law_645 : decode cL_law 645 = .ok (.aload_n 3, 1) := by decide +kernel
theorem dL_law_646 : decode cL_law 646 = .ok (.invokestatic 121, 3) := by decide +kernel
theorem dL_law_649 : decode cL_law 649 = .ok (.istore 5, 2) := by decide +kernel
theorem dL_law_651 : decode cL_law 651 = .ok (.aload_n 2, 1) := by decide +kernel
theorem dL_law_652 : decode cL_law 652 = .ok (.invokevirtual 124, 3) := by decide +kernel
theorem dL_law_655 : decode cL_law 655 = .ok (.istore 6, 2) := by decide +kernel
theorem dL_law_657 : decode cL_law 657 = .ok (.aload_n 2, 1) := by decide +kernel
theorem dL_law_658 : decode cL_law 658 = .ok (.invokevirtual 94, 3) := by decide +kernel
theorem dL_law_661 : decode cL_law 661 = .ok (.iload 5, 2) := by decide +kernel
theorem dL_law_663 : decode cL_law 663 = .ok (.if_icmp .eq 5, 3) := by decide +kernel
theorem dL_law_666 : decode cL_law 666 = .ok (.iconst 0, 1) := by decide +kernel
theorem dL_law_667 : decode cL_law 667 = .ok (.ireturn, 1) := by decide +kernel
theorem dL_law_668 : decode cL_law 668 = .ok (.iload 5, 2) := by decide +kernel
theorem dL_law_670 : decode cL_law 670 = .ok (.ifCond .ne 15, 3) := by decide +kernel
theorem dL_law_673 : decode cL_law 673 = .ok (.aload_n 3, 1) := by decide +kernel
theorem dL_law_674 : decode cL_law 674 = .ok (.iconst 0, 1) := by decide +kernel
theorem dL_law_675 : decode cL_law 675 = .ok (.laload, 1) := by decide +kernel
theorem dL_law_676 : decode cL_law 676 = .ok (.iload 6, 2) := by decide +kernel
theorem dL_law_678 : decode cL_law 678 = .ok (.i2l, 1) := by decide +kernel
theorem dL_law_679 : decode cL_law 679 = .ok (.lcmp, 1) := by decide +kernel
theorem dL_law_680 : decode cL_law 680 = .ok (.ifCond .eq 5, 3) := by decide +kernel
theorem dL_law_683 : decode cL_law 683 = .ok (.iconst 0, 1) := by decide +kernel
theorem dL_law_684 : decode cL_law 684 = .ok (.ireturn, 1) := by decide +kernel
theorem dL_law_685 : decode cL_law 685 = .ok (.goto 769, 3) := by decide +kernel
theorem dL_law_688 : decode cL_law 688 = .ok (.aload_n 1, 1) := by decide +kernel
theorem dL_law_689 : decode cL_law 689 = .ok (.aload_n 0, 1) := by decide +kernel
theorem dL_law_690 : decode cL_law 690 = .ok (.iload 4, 2) := by decide +kernel
theorem dL_law_692 : decode cL_law 692 = .ok (.iconst 1, 1) := by decide +kernel
theorem dL_law_693 : decode cL_law 693 = .ok (.iadd, 1) := by decide +kernel
theorem dL_law_694 : decode cL_law 694 = .ok (.iaload, 1) := by decide +kernel
theorem dL_law_695 : decode cL_law 695 = .ok (.aload_n 3, 1) := by decide +kernel
theorem dL_law_696 : decode cL_law 696 = .ok (.invokestatic 125, 3) := by decide +kernel
theorem dL_law_699 : decode cL_law 699 = .ok (.istore 5, 2) := by decide +kernel
theorem dL_law_701 : decode cL_law 701 = .ok (.aload_n 2, 1) := by decide +kernel
theorem dL_law_702 : decode cL_law 702 = .ok (.aload_n 0, 1) := by decide +kernel
theorem dL_law_703 : decode cL_law 703 = .ok (.iload 4, 2) := by decide +kernel
theorem dL_law_705 : decode cL_law 705 = .ok (.iconst 1, 1) := by decide +kernel
theorem dL_law_706 : decode cL_law 706 = .ok (.iadd, 1) := by decide +kernel
theorem dL_law_707 : decode cL_law 707 = .ok (.iaload, 1) := by decide +kernel
theorem dL_law_708 : decode cL_law 708 = .ok (.invokevirtual 127, 3) := by decide +kernel
theorem dL_law_711 : decode cL_law 711 = .ok (.istore 6, 2) := by decide +kernel
theorem dL_law_713 : decode cL_law 713 = .ok (.aload_n 2, 1) := by decide +kernel
theorem dL_law_714 : decode cL_law 714 = .ok (.invokevirtual 94, 3) := by decide +kernel
theorem dL_law_717 : decode cL_law 717 = .ok (.iload 5, 2) := by decide +kernel
theorem dL_law_719 : decode cL_law 719 = .ok (.if_icmp .eq 5, 3) := by decide +kernel
theorem dL_law_722 : decode cL_law 722 = .ok (.iconst 0, 1) := by decide +kernel
theorem dL_law_723 : decode cL_law 723 = .ok (.ireturn, 1) := by decide +kernel
theorem dL_law_724 : decode cL_law 724 = .ok (.iload 5, 2) := by decide +kernel
theorem dL_law_726 : decode cL_law 726 = .ok (.ifCond .ne 15, 3) := by decide +kernel
theorem dL_law_729 : decode cL_law 729 = .ok (.aload_n 3, 1) := by decide +kernel
theorem dL_law_730 : decode cL_law 730 = .ok (.iconst 0, 1) := by decide +kernel
theorem dL_law_731 : decode cL_law 731 = .ok (.laload, 1) := by decide +kernel
theorem dL_law_732 : decode cL_law 732 = .ok (.iload 6, 2) := by decide +kernel
theorem dL_law_734 : decode cL_law 734 = .ok (.i2l, 1) := by decide +kernel
theorem dL_law_735 : decode cL_law 735 = .ok (.lcmp, 1) := by decide +kernel
theorem dL_law_736 : decode cL_law 736 = .ok (.ifCond .eq 5, 3) := by decide +kernel
theorem dL_law_739 : decode cL_law 739 = .ok (.iconst 0, 1) := by decide +kernel
theorem dL_law_740 : decode cL_law 740 = .ok (.ireturn, 1) := by decide +kernel
theorem dL_law_741 : decode cL_law 741 = .ok (.goto 713, 3) := by decide +kernel
theorem dL_law_744 : decode cL_law 744 = .ok (.aload_n 1, 1) := by decide +kernel
theorem dL_law_745 : decode cL_law 745 = .ok (.aload_n 0, 1) := by decide +kernel
theorem dL_law_746 : decode cL_law 746 = .ok (.iload 4, 2) := by decide +kernel
theorem dL_law_748 : decode cL_law 748 = .ok (.iconst 1, 1) := by decide +kernel
theorem dL_law_749 : decode cL_law 749 = .ok (.iadd, 1) := by decide +kernel
theorem dL_law_750 : decode cL_law 750 = .ok (.iaload, 1) := by decide +kernel
theorem dL_law_751 : decode cL_law 751 = .ok (.aload_n 0, 1) := by decide +kernel
theorem dL_law_752 : decode cL_law 752 = .ok (.iload 4, 2) := by decide +kernel
theorem dL_law_754 : decode cL_law 754 = .ok (.iconst 2, 1) := by decide +kernel
theorem dL_law_755 : decode cL_law 755 = .ok (.iadd, 1) := by decide +kernel
theorem dL_law_756 : decode cL_law 756 = .ok (.iaload, 1) := by decide +kernel
theorem dL_law_757 : decode cL_law 757 = .ok (.aload_n 3, 1) := by decide +kernel
theorem dL_law_758 : decode cL_law 758 = .ok (.invokestatic 128, 3) := by decide +kernel
theorem dL_law_761 : decode cL_law 761 = .ok (.istore 5, 2) := by decide +kernel
theorem dL_law_763 : decode cL_law 763 = .ok (.aload_n 2, 1) := by decide +kernel
theorem dL_law_764 : decode cL_law 764 = .ok (.aload_n 0, 1) := by decide +kernel
theorem dL_law_765 : decode cL_law 765 = .ok (.iload 4, 2) := by decide +kernel
theorem dL_law_767 : decode cL_law 767 = .ok (.iconst 1, 1) := by decide +kernel
theorem dL_law_768 : decode cL_law 768 = .ok (.iadd, 1) := by decide +kernel
theorem dL_law_769 : decode cL_law 769 = .ok (.iaload, 1) := by decide +kernel
theorem dL_law_770 : decode cL_law 770 = .ok (.aload_n 0, 1) := by decide +kernel
theorem dL_law_771 : decode cL_law 771 = .ok (.iload 4, 2) := by decide +kernel
theorem dL_law_773 : decode cL_law 773 = .ok (.iconst 2, 1) := by decide +kernel
theorem dL_law_774 : decode cL_law 774 = .ok (.iadd, 1) := by decide +kernel
theorem dL_law_775 : decode cL_law 775 = .ok (.iaload, 1) := by decide +kernel
theorem dL_law_776 : decode cL_law 776 = .ok (.invokevirtual 130, 3) := by decide +kernel
theorem dL_law_779 : decode cL_law 779 = .ok (.istore 6, 2) := by decide +kernel
theorem dL_law_781 : decode cL_law 781 = .ok (.aload_n 2, 1) := by decide +kernel
theorem dL_law_782 : decode cL_law 782 = .ok (.invokevirtual 94, 3) := by decide +kernel
theorem dL_law_785 : decode cL_law 785 = .ok (.iload 5, 2) := by decide +kernel
theorem dL_law_787 : decode cL_law 787 = .ok (.if_icmp .eq 5, 3) := by decide +kernel
theorem dL_law_790 : decode cL_law 790 = .ok (.iconst 0, 1) := by decide +kernel
theorem dL_law_791 : decode cL_law 791 = .ok (.ireturn, 1) := by decide +kernel
theorem dL_law_792 : decode cL_law 792 = .ok (.iload 5, 2) := by decide +kernel
theorem dL_law_794 : decode cL_law 794 = .ok (.ifCond .ne 15, 3) := by decide +kernel
theorem dL_law_797 : decode cL_law 797 = .ok (.aload_n 3, 1) := by decide +kernel
theorem dL_law_798 : decode cL_law 798 = .ok (.iconst 0, 1) := by decide +kernel
